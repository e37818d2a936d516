section
/-! bits of a long, counts -/
/-- bit i of a long -/
def sr_b (w : Int64) (i : Nat) : Bool := w.toBitVec.getLsbD i
/-- a truth as 0 or 1 -/
def sr_v (b : Bool) : Nat := if b then 1 else 0
/-- how many below n -/
def sr_cn (p : Nat → Bool) : Nat → Nat
  | 0 => 0
  | n + 1 => sr_cn p n + sr_v (p n)
theorem sr_v1 : sr_v true = 1 := rfl
theorem sr_v0 : sr_v false = 0 := rfl
theorem sr_vle (b : Bool) : sr_v b ≤ 1 := by cases b <;> decide
theorem sr_nf {x : Bool} (h : ¬ x = false) : x = true := by cases x <;> first | rfl | exact absurd rfl h
theorem sr_nt {x : Bool} (h : ¬ x = true) : x = false := by cases x <;> first | rfl | exact absurd rfl h
theorem sr_tf {x : Bool} (h : x = true) (g : x = false) {P : Prop} : P := absurd (h.symm.trans g) (by decide)
theorem sr_ext {x y : Int64} (h : ∀ i, i < 64 → sr_b x i = sr_b y i) : x = y := Int64.toBitVec_inj.mp (BitVec.eq_of_getLsbD_eq h)
theorem sr_big {x : Int64} {i : Nat} (h : 64 ≤ i) : sr_b x i = false := BitVec.getLsbD_of_ge _ _ h
theorem sr_or (x y : Int64) (i : Nat) : sr_b (x ||| y) i = (sr_b x i || sr_b y i) := by
  unfold sr_b
  rw [Int64.toBitVec_or, BitVec.getLsbD_or]
theorem sr_and (x y : Int64) (i : Nat) : sr_b (x &&& y) i = (sr_b x i && sr_b y i) := by
  unfold sr_b
  rw [Int64.toBitVec_and, BitVec.getLsbD_and]
theorem sr_xor (x y : Int64) (i : Nat) : sr_b (x ^^^ y) i = (sr_b x i ^^ sr_b y i) := by
  unfold sr_b
  rw [Int64.toBitVec_xor, BitVec.getLsbD_xor]
theorem sr_m1 : ∀ i, i < 64 → sr_b (-1) i = true := by decide +kernel
theorem sr_0 (i : Nat) : sr_b 0 i = false := by
  unfold sr_b
  show (0#64).getLsbD i = false
  exact BitVec.getLsbD_zero
theorem sr_1' : ∀ i, i < 64 → sr_b 1 i = decide (i = 0) := by decide +kernel
theorem sr_63' : ∀ i, i < 64 → sr_b 63 i = decide (i < 6) := by decide +kernel
theorem sr_63 (i : Nat) : sr_b 63 i = decide (i < 6) := by
  by_cases h : i < 64
  · exact sr_63' i h
  · rw [sr_big (by omega)]
    exact (decide_eq_false (by omega)).symm
theorem sr_andn (x y : Int64) (i : Nat) : sr_b (x &&& (y ^^^ (-1))) i = (sr_b x i && !sr_b y i) := by
  rw [sr_and, sr_xor]
  by_cases h : i < 64
  · rw [sr_m1 i h, Bool.xor_true]
  · rw [sr_big (x := x) (by omega), Bool.false_and, Bool.false_and]
theorem sr_tp : ∀ k, k < 64 → ((1 : Int64) <<< ((nI k).toInt64 &&& 63)).toBitVec = BitVec.twoPow 64 k := by decide +kernel
theorem sr_one {k : Nat} (hk : k < 64) (i : Nat) : sr_b ((1 : Int64) <<< ((nI k).toInt64 &&& 63)) i = decide (i = k) := by
  unfold sr_b
  rw [sr_tp k hk, BitVec.getLsbD_twoPow]
  by_cases e : k = i
  · subst e
    simp [hk]
  · simp [e, Ne.symm e]
theorem sr_su : ∀ n, n < 64 → (((nI n).toInt64.toUInt64 &&& Int64.toUInt64 63).toBitVec % 64).toNat = n := by decide +kernel
theorem sr_sl : ∀ n, n < 64 → (((nI n).toInt64 &&& 63).toBitVec.smod 64).toNat = n := by decide +kernel
theorem sr_ush {k : Nat} (hk : k < 64) (x : Int64) (i : Nat) : sr_b ((x.toUInt64 >>> ((nI k).toInt64.toUInt64 &&& Int64.toUInt64 63)).toInt64) i = sr_b x (k + i) := by
  show (x.toUInt64 >>> ((nI k).toInt64.toUInt64 &&& Int64.toUInt64 63)).toBitVec.getLsbD i = x.toUInt64.toBitVec.getLsbD (k + i)
  rw [UInt64.toBitVec_shiftRight]
  show (x.toUInt64.toBitVec >>> (((nI k).toInt64.toUInt64 &&& Int64.toUInt64 63).toBitVec % 64).toNat).getLsbD i = _
  rw [sr_su k hk, BitVec.getLsbD_ushiftRight]
theorem sr_ssh {k : Nat} (hk : k < 64) (x : Int64) : sr_b (x >>> ((nI k).toInt64 &&& 63)) 0 = sr_b x k := by
  unfold sr_b
  rw [Int64.toBitVec_shiftRight]
  show (x.toBitVec.sshiftRight (((nI k).toInt64 &&& 63).toBitVec.smod 64).toNat).getLsbD 0 = _
  rw [sr_sl k hk, BitVec.getLsbD_sshiftRight]
  simp [hk]
theorem sr_low (x : Int64) : x &&& 1 = if sr_b x 0 then 1 else 0 := by
  apply sr_ext
  intro i hi
  rw [sr_and, sr_1' i hi]
  by_cases e : i = 0
  · subst e
    cases h : sr_b x 0
    · rw [Bool.false_and]
      exact (sr_0 0).symm
    · rw [Bool.true_and]
      exact (sr_1' 0 hi).symm
  · rw [decide_eq_false e, Bool.and_false]
    cases h : sr_b x 0
    · exact (sr_0 i).symm
    · exact ((sr_1' i hi).trans (decide_eq_false e)).symm
theorem sr_lowI (x : Int64) : (x &&& 1).toInt32 = nI (sr_v (sr_b x 0)) := by
  rw [sr_low]
  cases sr_b x 0 <;> decide
theorem sr_low1 (x : Int64) : x &&& 1 = 1 ↔ sr_b x 0 = true := by
  rw [sr_low]
  cases sr_b x 0 <;> decide
theorem sr_bitE {w : Int64} {f : Nat} (hf : f < 64) : ((((w.toUInt64 >>> ((nI f).toInt64.toUInt64 &&& Int64.toUInt64 63)).toInt64) &&& 1).toInt32) = nI (sr_v (sr_b w f)) := by
  rw [sr_lowI, sr_ush hf]
  rfl
/-- bitAt -/
theorem sr_bitAt {post : Int32 → Prop} {w : Int64} {x : Int32} (f : Nat) (hf : f < 64) (h : post (nI (sr_v (sr_b w f)))) (hx : x = nI f := by rfl) : wpX_bitAt post () w x := by
  subst hx
  unfold wpX_bitAt
  rw [sr_bitE hf]
  exact h
/-- the law's in -/
theorem sr_inL {post : Int32 → Prop} {w : Int64} {x y : Int32} (a b : Nat) (hf : 6 * a + b < 64) (h : post (nI (sr_v (sr_b w (6 * a + b))))) (hx : x = nI a := by rfl) (hy : y = nI b := by rfl) : wpL_in post () w x y := by
  subst hx hy
  have e : (6 : Int32) * nI a + nI b = nI (6 * a + b) := by
    rw [show (6 : Int32) = nI 6 from rfl, pk_mul, nI_add]
  unfold wpL_in
  rw [e, sr_low1, sr_ssh hf]
  cases hb : sr_b w (6 * a + b)
  · rw [hb] at h
    exact br_f (by decide) h
  · rw [hb] at h
    exact br_t rfl h
theorem sr_cn_le (p : Nat → Bool) (n : Nat) : sr_cn p n ≤ n := by
  induction n with
  | zero => exact Nat.le_refl 0
  | succ n ih =>
    have := sr_vle (p n)
    show sr_cn p n + sr_v (p n) ≤ n + 1
    omega
theorem sr_cn_congr {p q : Nat → Bool} {n : Nat} (h : ∀ i, i < n → p i = q i) : sr_cn p n = sr_cn q n := by
  induction n with
  | zero => rfl
  | succ n ih =>
    show sr_cn p n + sr_v (p n) = sr_cn q n + sr_v (q n)
    rw [ih (fun i hi => h i (by omega)), h n (by omega)]
theorem sr_vmono {a b : Bool} (h : a = true → b = true) : sr_v a ≤ sr_v b := by
  cases a
  · exact Nat.zero_le _
  · rw [h rfl]
    exact Nat.le_refl _
theorem sr_cn_mono {p q : Nat → Bool} {n : Nat} (h : ∀ i, i < n → p i = true → q i = true) : sr_cn p n ≤ sr_cn q n := by
  induction n with
  | zero => exact Nat.le_refl 0
  | succ n ih =>
    have h1 := ih (fun i hi => h i (by omega))
    have h2 := sr_vmono (h n (by omega))
    show sr_cn p n + sr_v (p n) ≤ sr_cn q n + sr_v (q n)
    omega
theorem sr_cn_lt {p q : Nat → Bool} {n : Nat} (h : ∀ i, i < n → p i = true → q i = true) (k : Nat) (hk : k < n) (h0 : p k = false) (h1 : q k = true) : sr_cn p n < sr_cn q n := by
  induction n with
  | zero => omega
  | succ n ih =>
    have h2 := sr_vmono (h n (by omega))
    show sr_cn p n + sr_v (p n) < sr_cn q n + sr_v (q n)
    by_cases e : k = n
    · subst e
      have h3 := sr_cn_mono (p := p) (q := q) (n := k) (fun i hi => h i (by omega))
      rw [h0, h1, sr_v0, sr_v1]
      omega
    · have h3 := ih (fun i hi => h i (by omega)) (by omega)
      omega
theorem sr_cn_tail {p : Nat → Bool} {m n : Nat} (hm : m ≤ n) (h : ∀ i, m ≤ i → i < n → p i = false) : sr_cn p n = sr_cn p m := by
  induction n with
  | zero => rw [show m = 0 by omega]
  | succ n ih =>
    by_cases e : m = n + 1
    · rw [e]
    · show sr_cn p n + sr_v (p n) = _
      rw [ih (by omega) (fun i h1 h2 => h i h1 (by omega)), h n (by omega) (by omega), sr_v0, Nat.add_zero]
theorem sr_cn_0 {p : Nat → Bool} {n : Nat} (h : ∀ i, i < n → p i = false) : sr_cn p n = 0 := sr_cn_tail (m := 0) (Nat.zero_le _) (fun i _ hi => h i hi)
/-- ones of StratifiedRules -/
theorem sr_onesX {post : Int32 → Prop} {w : Int64} (h : post (nI (sr_cn (sr_b w) 36))) : wpX_ones post () w :=
  pk_loop (fun n i (s : Int32) => wX_ones_4 post w n s (nI i)) (fun i s => s = nI (sr_cn (sr_b w) i)) 36 0 0 (by omega) rfl
    (fun n s hs => pk_le 36 36 (fun _ => by subst hs; exact h) (fun z => absurd z (by omega)))
    (fun n i s hi hs hw => pk_le 36 i (fun z => absurd z (by omega)) (fun _ => sr_bitAt i (by omega) (nm_r (by rw [hs, nI_add]; rfl) (nm_r (nI_1 i) (hw _ rfl)))))
theorem sr_bitL {w : Int64} {f : Nat} (hf : f < 64) : (((w >>> ((nI f).toInt64 &&& 63)).toInt32) &&& 1) = nI (sr_v (sr_b w f)) := by
  have e : (((w >>> ((nI f).toInt64 &&& 63)).toInt32) &&& 1) = ((w >>> ((nI f).toInt64 &&& 63)) &&& 1).toInt32 := (Int64.toInt32_and _ 1).symm
  rw [e, sr_lowI, sr_ssh hf]
theorem sr_6 (a b : Nat) : (6 : Int32) * nI a + nI b = nI (6 * a + b) := by
  rw [show (6 : Int32) = nI 6 from rfl, pk_mul, nI_add]
/-- the law's ones -/
theorem sr_onesL {post : Int32 → Prop} {w : Int64} (h : post (nI (sr_cn (sr_b w) 36))) : wpL_ones post () w :=
  pk_loop (fun n i (s : Int32) => wL_ones_4 post w n s (nI i)) (fun i s => s = nI (sr_cn (sr_b w) (6 * i))) 6 0 0 (by omega) rfl
    (fun n s hs => pk_le 6 6 (fun _ => by subst hs; exact h) (fun z => absurd z (by omega)))
    (fun n i s hi hs hw => pk_le 6 i (fun z => absurd z (by omega)) (fun _ =>
      pk_loop (fun m j (s : Int32) => wL_ones_13 post (wL_ones_4 post w n) w (nI i) m s (nI j)) (fun j s => s = nI (sr_cn (sr_b w) (6 * i + j))) 6 0 s (by omega) hs
        (fun m s hs => pk_le 6 6 (fun _ => nm_r (nI_1 i) (hw _ hs)) (fun z => absurd z (by omega)))
        (fun m j s hj hs hw => pk_le 6 j (fun z => absurd z (by omega)) (fun _ => nm_r (by rw [sr_6, sr_bitL (by omega), hs, nI_add]; rfl) (nm_r (nI_1 j) (hw _ rfl))))))
end
section
/-! the closure of a relation on six things, in a word of 36 bits -/
def sr_tr (T : Nat → Nat → Prop) : Prop := ∀ x y z, x < 6 → y < 6 → z < 6 → T x y → T y z → T x z
def sr_in (S : Int64) (T : Nat → Nat → Prop) : Prop := ∀ x y, x < 6 → y < 6 → sr_b S (6 * x + y) = true → T x y
/-- a word of 36 bits -/
def sr_36 (w : Int64) : Prop := ∀ i, 36 ≤ i → sr_b w i = false
/-- R is the transitive closure of S -/
def sr_TC (S R : Int64) : Prop := sr_36 R ∧ (∀ i, sr_b S i = true → sr_b R i = true) ∧ sr_tr (fun x y => sr_b R (6 * x + y) = true) ∧ ∀ T, sr_tr T → sr_in S T → sr_in R T
theorem sr_split {i : Nat} (h : i < 36) : ∃ x y, x < 6 ∧ y < 6 ∧ i = 6 * x + y := ⟨i / 6, i % 6, by omega, by omega, by omega⟩
/-- what is closed under a step on the right, and lies in every closed relation, is the closure -/
theorem sr_same {S R F : Int64} (hR : sr_TC S R) (h36 : sr_36 F) (h1 : ∀ i, sr_b S i = true → sr_b F i = true)
    (h2 : ∀ x z y, x < 6 → z < 6 → y < 6 → sr_b F (6 * x + z) = true → sr_b S (6 * z + y) = true → sr_b F (6 * x + y) = true)
    (h3 : ∀ T, sr_tr T → sr_in S T → sr_in F T) : ∀ i, sr_b F i = sr_b R i := by
  obtain ⟨r36, r1, r2, r3⟩ := hR
  have A : sr_in F (fun x y => sr_b R (6 * x + y) = true) := h3 _ r2 (fun x y _ _ h => r1 _ h)
  have B : sr_in R (fun y z => sr_b F (6 * y + z) = true ∧ ∀ x, x < 6 → sr_b F (6 * x + y) = true → sr_b F (6 * x + z) = true) := by
    refine r3 _ ?_ ?_
    · intro x y z hx hy hz ⟨p1, p2⟩ ⟨q1, q2⟩
      exact ⟨q2 x hx p1, fun u hu h => q2 u hu (p2 u hu h)⟩
    · intro y z hy hz h
      exact ⟨h1 _ h, fun x hx hf => h2 x y z hx hy hz hf h⟩
  intro i
  by_cases hi : i < 36
  · obtain ⟨x, y, hx, hy, rfl⟩ := sr_split hi
    cases hf : sr_b F (6 * x + y)
    · cases hr : sr_b R (6 * x + y)
      · rfl
      · exact sr_tf (B x y hx hy hr).1 hf
    · exact (A x y hx hy hf).symm
  · rw [h36 i (by omega), r36 i (by omega)]
/-- Warshall: ahead of pass k -/
def sr_W (S : Int64) (k : Nat) (R : Int64) : Prop := sr_36 R ∧ (∀ i, sr_b S i = true → sr_b R i = true) ∧ (∀ x z y, x < 6 → z < k → y < 6 → sr_b R (6 * x + z) = true → sr_b R (6 * z + y) = true → sr_b R (6 * x + y) = true) ∧ ∀ T, sr_tr T → sr_in S T → sr_in R T
/-- within pass k, ahead of fact i -/
def sr_Wi (R : Int64) (k i : Nat) (C : Int64) : Prop := ∀ j, sr_b C j = true ↔ sr_b R j = true ∨ (j < i ∧ sr_b R (6 * (j / 6) + k) = true ∧ sr_b R (6 * k + j % 6) = true)
theorem sr_W0 {S : Int64} (h : sr_36 S) : sr_W S 0 S := ⟨h, fun _ h => h, fun x z y _ hz => absurd hz (by omega), fun T _ h => h⟩
theorem sr_W6 {S R : Int64} (h : sr_W S 6 R) : sr_TC S R := ⟨h.1, h.2.1, fun x y z hx hy hz => h.2.2.1 x y z hx hy hz, h.2.2.2⟩
theorem sr_Wi0 (R : Int64) (k : Nat) : sr_Wi R k 0 R := fun j => ⟨Or.inl, fun h => h.elim id (fun h => absurd h.1 (by omega))⟩
/-- the row and the column of k don't change in pass k -/
theorem sr_Wcol {R C : Int64} {k i x : Nat} (hk : k < 6) (h : sr_Wi R k i C) : sr_b C (6 * x + k) = sr_b R (6 * x + k) := by
  have h1 := h (6 * x + k)
  cases hr : sr_b R (6 * x + k)
  · cases hc : sr_b C (6 * x + k)
    · rfl
    · rcases h1.mp hc with z | ⟨_, z, _⟩
      · exact sr_tf z hr
      · rw [show 6 * ((6 * x + k) / 6) + k = 6 * x + k by omega] at z
        exact sr_tf z hr
  · exact h1.mpr (Or.inl hr)
theorem sr_Wrow {R C : Int64} {k i y : Nat} (hk : k < 6) (hy : y < 6) (h : sr_Wi R k i C) : sr_b C (6 * k + y) = sr_b R (6 * k + y) := by
  have h1 := h (6 * k + y)
  cases hr : sr_b R (6 * k + y)
  · cases hc : sr_b C (6 * k + y)
    · rfl
    · rcases h1.mp hc with z | ⟨_, _, z⟩
      · exact sr_tf z hr
      · rw [show 6 * k + (6 * k + y) % 6 = 6 * k + y by omega] at z
        exact sr_tf z hr
  · exact h1.mpr (Or.inl hr)
theorem sr_Wi_no {R C : Int64} {k i : Nat} (h : sr_Wi R k i C) (hn : ¬ (sr_b R (6 * (i / 6) + k) = true ∧ sr_b R (6 * k + i % 6) = true)) : sr_Wi R k (i + 1) C := by
  intro j
  rw [h j]
  constructor
  · rintro (z | ⟨z1, z2⟩)
    · exact Or.inl z
    · exact Or.inr ⟨by omega, z2⟩
  · rintro (z | ⟨z1, z2⟩)
    · exact Or.inl z
    · by_cases e : j = i
      · subst e
        exact absurd z2 hn
      · exact Or.inr ⟨by omega, z2⟩
theorem sr_Wi_yes {R C : Int64} {k i : Nat} (hi : i < 36) (h : sr_Wi R k i C) (h1 : sr_b R (6 * (i / 6) + k) = true) (h2 : sr_b R (6 * k + i % 6) = true) : sr_Wi R k (i + 1) (C ||| ((1 : Int64) <<< ((nI i).toInt64 &&& 63))) := by
  intro j
  rw [sr_or, sr_one (by omega), Bool.or_eq_true, h j, decide_eq_true_iff]
  constructor
  · rintro ((z | ⟨z1, z2⟩) | z)
    · exact Or.inl z
    · exact Or.inr ⟨by omega, z2⟩
    · subst z
      exact Or.inr ⟨by omega, h1, h2⟩
  · rintro (z | ⟨z1, z2⟩)
    · exact Or.inl (Or.inl z)
    · by_cases e : j = i
      · exact Or.inr e
      · exact Or.inl (Or.inr ⟨by omega, z2⟩)
theorem sr_Wstep {S R C : Int64} {k : Nat} (hk : k < 6) (h : sr_W S k R) (hc : sr_Wi R k 36 C) : sr_W S (k + 1) C := by
  obtain ⟨r36, r1, r2, r3⟩ := h
  have C1 : ∀ x y, x < 6 → y < 6 → (sr_b C (6 * x + y) = true ↔ sr_b R (6 * x + y) = true ∨ (sr_b R (6 * x + k) = true ∧ sr_b R (6 * k + y) = true)) := by
    intro x y hx hy
    have h1 := hc (6 * x + y)
    rw [show (6 * x + y) / 6 = x by omega, show (6 * x + y) % 6 = y by omega] at h1
    rw [h1]
    constructor
    · rintro (z | ⟨_, z⟩)
      · exact Or.inl z
      · exact Or.inr z
    · rintro (z | z)
      · exact Or.inl z
      · exact Or.inr ⟨by omega, z⟩
  refine ⟨?_, fun i hi => (hc i).mpr (Or.inl (r1 i hi)), ?_, ?_⟩
  · intro i hi
    apply sr_nt
    intro z
    rcases (hc i).mp z with q | ⟨q, _⟩
    · exact sr_tf q (r36 i hi)
    · omega
  · intro x z y hx hz hy p q
    have p' := (C1 x z hx (by omega)).mp p
    have q' := (C1 z y (by omega) hy).mp q
    apply (C1 x y hx hy).mpr
    by_cases e : z = k
    · subst e
      refine Or.inr ⟨?_, ?_⟩
      · rcases p' with w | w
        · exact w
        · exact w.1
      · rcases q' with w | w
        · exact w
        · exact w.2
    · have hz' : z < k := by omega
      rcases p' with w | ⟨w1, w2⟩
      · rcases q' with v | ⟨v1, v2⟩
        · exact Or.inl (r2 x z y hx hz' hy w v)
        · exact Or.inr ⟨r2 x z k hx hz' hk w v1, v2⟩
      · rcases q' with v | ⟨v1, v2⟩
        · exact Or.inr ⟨w1, r2 k z y hk hz' hy w2 v⟩
        · exact Or.inr ⟨w1, v2⟩
  · intro T hT hS x y hx hy p
    have hR := r3 T hT hS
    rcases (C1 x y hx hy).mp p with w | ⟨w1, w2⟩
    · exact hR x y hx hy w
    · exact hT x k y hx hk hy (hR x k hx hk w1) (hR k y hk hy w2)
end
section
/-! agree, bind, factFor, arrive -/
section
variable {fc fd fs fp fn fw fx fm fo : Int32} {a1 a2 a3 a4 a5 : Nat → Int64} {a6 a7 a8 a9 a10 a11 a12 a13 a14 : Nat → Int32}
/-- does a term agree with a thing -/
def sr_ag (a : Nat → Int32) (p term thing : Nat) : Bool := if term < 4 then (decide (a (p + term) = -1) || decide (a (p + term) = nI thing)) else decide (term - 4 = thing)
/-- and the places behind it -/
def sr_agA (a : Nat → Int32) (p term thing : Nat) : Nat → Int32 := if term < 4 ∧ a (p + term) = -1 then upd a (p + term) (nI thing) else a
theorem sr_ag39 {post : Int32 → St2 → Prop} (p term thing : Nat) (hp : p + 4 ≤ 16) (ht : term < 4) (h : post (nI (sr_v (decide (a14 (p + term) = nI thing)))) (fc, fd, fs, fp, fn, fw, fx, fm, fo, a1, a2, a3, a4, a5, a6, a7, a8, a9, a10, a11, a12, a13, a14)) : wX_agree_39 post (nI p) (nI term) (nI thing) fc fd fs fp fn fw fx fm fo a1 a2 a3 a4 a5 a6 a7 a8 a9 a10 a11 a12 a13 a14 := by
  unfold wX_agree_39
  rw [nI_add, nI_clamp (by omega)]
  refine ⟨pk_in (p + term) 16 (by omega), ?_⟩
  by_cases hb : a14 (p + term) = nI thing
  · rw [decide_eq_true hb] at h
    exact br_t hb h
  · rw [decide_eq_false hb] at h
    exact br_f hb h
theorem sr_agree {post : Int32 → St2 → Prop} {x y z : Int32} (p term thing : Nat) (hp : p + 4 ≤ 16) (ht : term < 10) (hh : thing < 6) (h : post (nI (sr_v (sr_ag a14 p term thing))) (fc, fd, fs, fp, fn, fw, fx, fm, fo, a1, a2, a3, a4, a5, a6, a7, a8, a9, a10, a11, a12, a13, sr_agA a14 p term thing)) (hx : x = nI p := by rfl) (hy : y = nI term := by rfl) (hz : z = nI thing := by rfl) : wpX_agree post (fc, fd, fs, fp, fn, fw, fx, fm, fo, a1, a2, a3, a4, a5, a6, a7, a8, a9, a10, a11, a12, a13, a14) x y z := by
  subst hx hy hz
  unfold sr_ag sr_agA at h
  refine pk_lt term 4 (fun hl => ⟨pk_in (p + term) 16 (by omega) (nI_add _ _), ?_⟩) (fun hg => ?_)
  · rw [nI_add, nI_clamp (by omega)]
    by_cases hb : a14 (p + term) = -1
    · rw [if_pos hl, if_pos ⟨hl, hb⟩, decide_eq_true hb, Bool.true_or] at h
      refine br_t hb ⟨pk_in (p + term) 16 (by omega), nm_e (sr_ag39 p term thing hp hl ?_)⟩
      rw [decide_eq_true pk_us]
      exact h
    · rw [if_pos hl, if_neg (fun z => hb z.2), decide_eq_false hb, Bool.false_or] at h
      exact br_f hb (sr_ag39 p term thing hp hl h)
  · rw [if_neg (by omega), if_neg (fun z => absurd z.1 (by omega))] at h
    have e : nI term - 4 = nI (term - 4) := pk_sub (b := 4) hg
    rw [e]
    refine pk_eq (term - 4) thing (fun z => ?_) (fun z => ?_)
    · rw [decide_eq_true z] at h
      exact h
    · rw [decide_eq_false z] at h
      exact h
/-- the row of names at 4d+4 is that at 4d; what lies below it stays -/
def sr_cp (d : Nat) (a a' : Nat → Int32) : Prop := (∀ j, j < 4 * d + 4 → a' j = a j) ∧ ∀ v, v < 4 → a' (4 * d + 4 + v) = a (4 * d + v)
def sr_bf (a : Nat → Int32) (p A f : Nat) : Bool := sr_ag a p (A / 10 % 10) (f / 6) && sr_ag (sr_agA a p (A / 10 % 10) (f / 6)) p (A % 10) (f % 6)
def sr_bA (a : Nat → Int32) (p A f : Nat) : Nat → Int32 := if sr_ag a p (A / 10 % 10) (f / 6) = true then sr_agA (sr_agA a p (A / 10 % 10) (f / 6)) p (A % 10) (f % 6) else sr_agA a p (A / 10 % 10) (f / 6)
theorem sr_4d (d : Nat) : (4 : Int32) * nI d + 4 = nI (4 * d + 4) := by
  rw [show (4 : Int32) = nI 4 from rfl, pk_mul, nI_add]
theorem sr_d10 {A : Nat} (h : A < 800) : nI A / 10 - nI A / 10 / 10 * 10 = nI (A / 10 % 10) := by
  rw [show (10 : Int32) = nI 10 from rfl, pk_div (by omega) (by omega) (by omega), pk_rem (by omega) (by omega) (by omega)]
theorem sr_m10 {A : Nat} (h : A < 800) : nI A - nI A / 10 * 10 = nI (A % 10) := by
  rw [show (10 : Int32) = nI 10 from rfl, pk_rem (by omega) (by omega) (by omega)]
theorem sr_d6 {f : Nat} (h : f < 36) : nI f / 6 = nI (f / 6) := by
  rw [show (6 : Int32) = nI 6 from rfl, pk_div (by omega) (by omega) (by omega)]
theorem sr_m6 {f : Nat} (h : f < 36) : nI f - nI f / 6 * 6 = nI (f % 6) := by
  rw [show (6 : Int32) = nI 6 from rfl, pk_rem (by omega) (by omega) (by omega)]
theorem sr_d100 {A : Nat} (h : A < 800) : nI A / 100 = nI (A / 100) := by
  rw [show (100 : Int32) = nI 100 from rfl, pk_div (by omega) (by omega) (by omega)]
theorem sr_d200 {A : Nat} (h : A < 800) : nI A / 200 = nI (A / 200) := by
  rw [show (200 : Int32) = nI 200 from rfl, pk_div (by omega) (by omega) (by omega)]
theorem sr_bind62 {post : Int32 → St2 → Prop} {d f q A : Nat} (hd : d < 3) (hf : f < 36) (hq : q < 42) (hA : a8 q = nI A) (hA8 : A < 800)
    (h : ∀ a, sr_cp d a14 a → post (nI (sr_v (sr_bf a (4 * d + 4) A f))) (fc, fd, fs, fp, fn, fw, fx, fm, fo, a1, a2, a3, a4, a5, a6, a7, a8, a9, a10, a11, a12, a13, sr_bA a (4 * d + 4) A f)) : ∃ n, wX_bind_62 post (nI d) (nI f) (nI q) fc fd fs fp fn fw fx fm fo n 0 a1 a2 a3 a4 a5 a6 a7 a8 a9 a10 a11 a12 a13 a14 := by
  refine pk_loop (fun n i s => wX_bind_62 post (nI d) (nI f) (nI q) fc fd fs fp fn fw fx fm fo n (nI i) a1 a2 a3 a4 a5 a6 a7 a8 a9 a10 a11 a12 a13 s) (fun i s => (∀ j, j < 4 * d + 4 → s j = a14 j) ∧ ∀ v, v < i → s (4 * d + 4 + v) = a14 (4 * d + v)) 4 0 a14 (by omega) ⟨fun _ _ => rfl, fun v hv => absurd hv (by omega)⟩ ?_ ?_
  · intro n s hs
    have hp := h s hs
    have e1 : (a8 (nI q).toNatClampNeg) / 10 - (a8 (nI q).toNatClampNeg) / 10 / 10 * 10 = nI (A / 10 % 10) := by rw [nI_clamp (by omega), hA, sr_d10 hA8]
    have e2 : (a8 (nI q).toNatClampNeg) - (a8 (nI q).toNatClampNeg) / 10 * 10 = nI (A % 10) := by rw [nI_clamp (by omega), hA, sr_m10 hA8]
    unfold sr_bf sr_bA at hp
    refine pk_le 4 4 (fun _ => ⟨pk_in q 42 hq, by decide, by decide, by decide, sr_agree (4 * d + 4) (A / 10 % 10) (f / 6) (by omega) (by omega) (by omega) ?_ (sr_4d d) e1 (sr_d6 hf)⟩) (fun z => absurd z (by omega))
    cases h1 : sr_ag s (4 * d + 4) (A / 10 % 10) (f / 6)
    · rw [h1, Bool.false_and, if_neg (by decide)] at hp
      exact br_t rfl hp
    · rw [h1, Bool.true_and, if_pos rfl] at hp
      refine br_f (by decide) ⟨pk_in q 42 hq, by decide, by decide, sr_agree (4 * d + 4) (A % 10) (f % 6) (by omega) (by omega) (by omega) ?_ (sr_4d d) e2 (sr_m6 hf)⟩
      cases h2 : sr_ag (sr_agA s (4 * d + 4) (A / 10 % 10) (f / 6)) (4 * d + 4) (A % 10) (f % 6)
      · rw [h2] at hp
        exact br_t rfl hp
      · rw [h2] at hp
        exact br_f (by decide) hp
  · intro n i s hi hs hw
    have e1 : (4 : Int32) * nI d + nI i = nI (4 * d + i) := by rw [show (4 : Int32) = nI 4 from rfl, pk_mul, nI_add]
    have e2 : (4 : Int32) * nI d + 4 + nI i = nI (4 * d + 4 + i) := by rw [sr_4d, nI_add]
    refine pk_le 4 i (fun z => absurd z (by omega)) (fun _ => ⟨pk_in (4 * d + i) 16 (by omega) e1, pk_in (4 * d + 4 + i) 16 (by omega) e2, nm_r (e' := upd s (4 * d + 4 + i) (s (4 * d + i))) (by rw [e1, e2, nI_clamp (by omega), nI_clamp (by omega)]) (nm_r (nI_1 i) (hw _ ⟨fun j hj => ?_, fun v hv => ?_⟩))⟩)
    · rw [pk_un (by omega)]
      exact hs.1 j hj
    · by_cases e : v = i
      · subst e
        rw [pk_us]
        exact hs.1 _ (by omega)
      · rw [pk_un (by omega)]
        exact hs.2 v (by omega)
theorem sr_bind46 {post : Int32 → St2 → Prop} {w : Int64} {d f q A : Nat} (hd : d < 3) (hf : f < 36) (hq : q < 42) (hA : a8 q = nI A) (hA8 : A < 800)
    (hz : sr_b w f = false → post 0 (fc, fd, fs, fp, fn, fw, fx, fm, fo, a1, a2, a3, a4, a5, a6, a7, a8, a9, a10, a11, a12, a13, a14)) (h : sr_b w f = true → ∀ a, sr_cp d a14 a → post (nI (sr_v (sr_bf a (4 * d + 4) A f))) (fc, fd, fs, fp, fn, fw, fx, fm, fo, a1, a2, a3, a4, a5, a6, a7, a8, a9, a10, a11, a12, a13, sr_bA a (4 * d + 4) A f)) : wX_bind_46 post (nI d) (nI f) (nI q) w fc fd fs fp fn fw fx fm fo a1 a2 a3 a4 a5 a6 a7 a8 a9 a10 a11 a12 a13 a14 := by
  refine sr_bitAt f (by omega) ?_
  cases hb : sr_b w f
  · exact br_t rfl (hz hb)
  · exact br_f (by decide) (sr_bind62 hd hf hq hA hA8 (h hb))
/-- bind: the places are copied one row up, then both terms are asked -/
theorem sr_bind {post : Int32 → St2 → Prop} {w : Int64} {d f q A : Nat} (hd : d < 3) (hf : f < 36) (hp : a12 d = nI q) (hq : q < 42) (hA : a8 q = nI A) (hA8 : A < 800) (hw : w = if nI q = fn then a3 (A / 100) else a2 (A / 100))
    (hz : sr_b w f = false → post 0 (fc, fd, fs, fp, fn, fw, fx, fm, fo, a1, a2, a3, a4, a5, a6, a7, a8, a9, a10, a11, a12, a13, a14)) (h : sr_b w f = true → ∀ a, sr_cp d a14 a → post (nI (sr_v (sr_bf a (4 * d + 4) A f))) (fc, fd, fs, fp, fn, fw, fx, fm, fo, a1, a2, a3, a4, a5, a6, a7, a8, a9, a10, a11, a12, a13, sr_bA a (4 * d + 4) A f)) : wpX_bind post (fc, fd, fs, fp, fn, fw, fx, fm, fo, a1, a2, a3, a4, a5, a6, a7, a8, a9, a10, a11, a12, a13, a14) (nI d) (nI f) := by
  have e1 : (a8 (nI q).toNatClampNeg) / 100 = nI (A / 100) := by rw [nI_clamp (by omega), hA, sr_d100 hA8]
  have e2 : ((a8 (nI q).toNatClampNeg) / 100).toNatClampNeg = A / 100 := by rw [e1, nI_clamp (by omega)]
  refine ⟨pk_in d 3 hd, nm_r (e' := nI q) (by rw [nI_clamp (by omega), hp]) ?_⟩
  by_cases e : nI q = fn
  · rw [if_pos e] at hw
    refine br_t e ⟨pk_in q 42 hq, by decide, pk_in (A / 100) 8 (by omega) e1, ?_⟩
    rw [e2, ← hw]
    exact sr_bind46 hd hf hq hA hA8 hz h
  · rw [if_neg e] at hw
    refine br_f e ⟨pk_in q 42 hq, by decide, pk_in (A / 100) 8 (by omega) e1, ?_⟩
    rw [e2, ← hw]
    exact sr_bind46 hd hf hq hA hA8 hz h
/-- four places -/
def sr_q4 (a : Nat → Int32) (p : Nat) (b0 b1 b2 b3 : Int32) : Prop := a p = b0 ∧ a (p + 1) = b1 ∧ a (p + 2) = b2 ∧ a (p + 3) = b3
theorem sr_agA_lo {a : Nat → Int32} {p term thing j : Nat} (h : j < p) : sr_agA a p term thing j = a j := by
  unfold sr_agA
  by_cases c : term < 4 ∧ a (p + term) = -1
  · rw [if_pos c, pk_un (by omega)]
  · rw [if_neg c]
theorem sr_bA_lo {a : Nat → Int32} {p A f j : Nat} (h : j < p) : sr_bA a p A f j = a j := by
  unfold sr_bA
  by_cases c : sr_ag a p (A / 10 % 10) (f / 6) = true
  · rw [if_pos c, sr_agA_lo h, sr_agA_lo h]
  · rw [if_neg c, sr_agA_lo h]
theorem sr_agfree {a : Nat → Int32} {p term thing : Nat} (h : term < 4) (hf : a (p + term) = -1) : sr_ag a p term thing = true ∧ sr_agA a p term thing = upd a (p + term) (nI thing) := by
  unfold sr_ag sr_agA
  rw [if_pos h, if_pos ⟨h, hf⟩, decide_eq_true hf, Bool.true_or]
  exact ⟨rfl, rfl⟩
theorem sr_nm1 {n : Nat} (h : n < 2 ^ 31) : ¬ nI n = -1 := fun z => absurd (congrArg Int32.toInt z) (by rw [nI_toInt h, show (-1 : Int32).toInt = -1 by decide]; omega)
theorem sr_agbound {a : Nat → Int32} {p term thing v : Nat} (h : term < 4) (hv : v < 6) (ht : thing < 6) (hf : a (p + term) = nI v) : sr_ag a p term thing = decide (v = thing) ∧ sr_agA a p term thing = a := by
  unfold sr_ag sr_agA
  have hn : ¬ a (p + term) = -1 := by rw [hf]; exact sr_nm1 (by omega)
  rw [if_pos h, if_neg (fun z => hn z.2), decide_eq_false hn, Bool.false_or, hf]
  refine ⟨?_, rfl⟩
  by_cases e : v = thing
  · rw [e, decide_eq_true rfl, decide_eq_true rfl]
  · rw [decide_eq_false e, decide_eq_false (fun z => e ((nI_eq (by omega) (by omega)).mp z))]
theorem sr_agconst {a : Nat → Int32} {p term thing : Nat} (h : 4 ≤ term) : sr_ag a p term thing = decide (term - 4 = thing) ∧ sr_agA a p term thing = a := by
  unfold sr_ag sr_agA
  rw [if_neg (by omega), if_neg (fun z => absurd z.1 (by omega))]
  exact ⟨rfl, rfl⟩
/-- an atom (v0, v1), both free -/
theorem sr_bd01 {a : Nat → Int32} {p A f : Nat} (h1 : A / 10 % 10 = 0) (h2 : A % 10 = 1) (s : sr_q4 a p (-1) (-1) (-1) (-1)) : sr_bf a p A f = true ∧ sr_q4 (sr_bA a p A f) p (nI (f / 6)) (nI (f % 6)) (-1) (-1) := by
  obtain ⟨s0, s1, s2, s3⟩ := s
  unfold sr_bf sr_bA
  rw [h1, h2]
  obtain ⟨e1, e2⟩ := sr_agfree (a := a) (p := p) (term := 0) (thing := f / 6) (by omega) s0
  obtain ⟨e3, e4⟩ := sr_agfree (a := upd a (p + 0) (nI (f / 6))) (p := p) (term := 1) (thing := f % 6) (by omega) (by rw [pk_un (by omega)]; exact s1)
  rw [if_pos e1, e1, e2, e3, e4]
  refine ⟨rfl, ?_, ?_, ?_, ?_⟩
  · rw [pk_un (by omega)]
    exact pk_us
  · exact pk_us
  · rw [pk_un (by omega), pk_un (by omega)]
    exact s2
  · rw [pk_un (by omega), pk_un (by omega)]
    exact s3
/-- an atom (v0, a thing), v0 free -/
theorem sr_bd0c {a : Nat → Int32} {p A f t : Nat} (h1 : A / 10 % 10 = 0) (h2 : A % 10 = 4 + t) (s : sr_q4 a p (-1) (-1) (-1) (-1)) : sr_bf a p A f = decide (t = f % 6) ∧ sr_q4 (sr_bA a p A f) p (nI (f / 6)) (-1) (-1) (-1) := by
  obtain ⟨s0, s1, s2, s3⟩ := s
  unfold sr_bf sr_bA
  rw [h1, h2]
  obtain ⟨e1, e2⟩ := sr_agfree (a := a) (p := p) (term := 0) (thing := f / 6) (by omega) s0
  obtain ⟨e3, e4⟩ := sr_agconst (a := upd a (p + 0) (nI (f / 6))) (p := p) (term := 4 + t) (thing := f % 6) (by omega)
  rw [if_pos e1, e1, e2, e3, e4, Bool.true_and, show 4 + t - 4 = t by omega]
  refine ⟨rfl, pk_us, ?_, ?_, ?_⟩
  · rw [pk_un (by omega)]
    exact s1
  · rw [pk_un (by omega)]
    exact s2
  · rw [pk_un (by omega)]
    exact s3
/-- an atom (v1, v2), v1 bound, v2 free -/
theorem sr_bd12 {a : Nat → Int32} {p A f y : Nat} {x : Int32} (hf : f < 36) (hy : y < 6) (h1 : A / 10 % 10 = 1) (h2 : A % 10 = 2) (s : sr_q4 a p x (nI y) (-1) (-1)) : sr_bf a p A f = decide (y = f / 6) ∧ (y = f / 6 → sr_q4 (sr_bA a p A f) p x (nI y) (nI (f % 6)) (-1)) := by
  obtain ⟨s0, s1, s2, s3⟩ := s
  unfold sr_bf sr_bA
  rw [h1, h2]
  obtain ⟨e1, e2⟩ := sr_agbound (a := a) (p := p) (term := 1) (thing := f / 6) (by omega) hy (by omega) s1
  obtain ⟨e3, e4⟩ := sr_agfree (a := a) (p := p) (term := 2) (thing := f % 6) (by omega) s2
  rw [e1, e2, e3, e4, Bool.and_true]
  refine ⟨rfl, fun e => ?_⟩
  rw [if_pos (decide_eq_true e)]
  refine ⟨?_, ?_, pk_us, ?_⟩
  · rw [pk_un (by omega)]
    exact s0
  · rw [pk_un (by omega)]
    exact s1
  · rw [pk_un (by omega)]
    exact s3
/-- the thing of a term -/
def sr_tv (a : Nat → Int32) (p term : Nat) : Int32 := if term < 4 then a (p + term) else nI (term - 4)
theorem sr_thing {post : Int32 → Prop} {x y : Int32} (p term : Nat) (hp : p + 4 ≤ 16) (ht : term < 10) (h : post (sr_tv a14 p term)) (hx : x = nI p := by rfl) (hy : y = nI term := by rfl) : wpX_thingFor post (fc, fd, fs, fp, fn, fw, fx, fm, fo, a1, a2, a3, a4, a5, a6, a7, a8, a9, a10, a11, a12, a13, a14) x y := by
  subst hx hy
  unfold sr_tv at h
  refine pk_lt term 4 (fun hl => ⟨pk_in (p + term) 16 (by omega) (nI_add _ _), ?_⟩) (fun hg => ?_)
  · rw [if_pos hl] at h
    rw [nI_add, nI_clamp (by omega)]
    exact h
  · rw [if_neg (by omega)] at h
    have e : nI term - 4 = nI (term - 4) := pk_sub (b := 4) hg
    rw [e]
    exact h
theorem sr_fact {post : Int32 → Prop} {x y : Int32} (p A X Y : Nat) (hp : p + 4 ≤ 16) (hA : A < 800) (hX : sr_tv a14 p (A / 10 % 10) = nI X) (hY : sr_tv a14 p (A % 10) = nI Y) (h : post (nI (6 * X + Y))) (hx : x = nI p := by rfl) (hy : y = nI A := by rfl) : wpX_factFor post (fc, fd, fs, fp, fn, fw, fx, fm, fo, a1, a2, a3, a4, a5, a6, a7, a8, a9, a10, a11, a12, a13, a14) x y := by
  subst hx hy
  refine ⟨by decide, by decide, sr_thing p (A / 10 % 10) hp (by omega) ⟨by decide, sr_thing p (A % 10) hp (by omega) ?_ rfl (sr_m10 hA)⟩ rfl (sr_d10 hA)⟩
  show post ((6 : Int32) * sr_tv a14 p (A / 10 % 10) + sr_tv a14 p (A % 10))
  rw [hX, hY, sr_6]
  exact h
theorem sr_3r (r k : Nat) : (3 : Int32) * nI r + nI k = nI (3 * r + k) := by
  rw [show (3 : Int32) = nI 3 from rfl, pk_mul, nI_add]
/-- arrive, behind the last atom: the head comes up -/
theorem sr_arrH {post : St2 → Prop} {n r p z H X Y : Nat} (hr : r < 14) (hz : a7 r = nI z) (hz3 : z ≤ 3) (hH : a6 r = nI H) (hH8 : H < 800) (hp : p + 4 ≤ 16) (hX : sr_tv a14 p (H / 10 % 10) = nI X) (hY : sr_tv a14 p (H % 10) = nI Y) (hF : 6 * X + Y < 36)
    (h : ∀ m, post (fc, fd, fs, fp, fn, fw + 1, fx, m, fo, a1, a2, a3, vp_updL a4 (H / 100) (a4 (H / 100) ||| ((1 : Int64) <<< ((nI (6 * X + Y)).toInt64 &&& 63))), a5, a6, a7, a8, a9, a10, a11, a12, a13, a14)) : wX_arrive_11 post (nI r) (nI p) fc fd fs fp fn fw fx fm fo a1 a2 a3 a4 a5 a6 a7 a8 a9 a10 a11 a12 a13 a14 (n + 1) (nI (3 * r + z)) := by
  have e6 : a6 (nI r).toNatClampNeg = nI H := by rw [nI_clamp (by omega), hH]
  have e7 : (a6 (nI r).toNatClampNeg) / 100 = nI (H / 100) := by rw [e6, sr_d100 hH8]
  have key : ∀ m : Int32, m = 0 ∨ m = 1 → wX_arrive_120 post (nI r) (nI (6 * X + Y)) m fc fd fs fp fn (fw + 1) fx fm fo a1 a2 a3 a4 a5 a6 a7 a8 a9 a10 a11 a12 a13 a14 := by
    intro m hm
    refine ⟨?_, ?_, pk_in r 14 hr, by decide, pk_in r 14 hr, by decide, pk_in (H / 100) 8 (by omega) e7, pk_in (H / 100) 8 (by omega) e7, nm_r (e' := vp_updL a4 (H / 100) (a4 (H / 100) ||| ((1 : Int64) <<< ((nI (6 * X + Y)).toInt64 &&& 63)))) (by rw [e7, nI_clamp (by omega)]) (h m)⟩
    · rcases hm with e | e <;> subst e <;> rfl
    · rcases hm with e | e <;> subst e <;> rfl
  refine ⟨pk_in r 14 hr, pk_le (3 * r + z) (3 * r + z) (fun _ => ⟨pk_in r 14 hr, sr_fact p H X Y hp hH8 hX hY (nm_e ?_) rfl e6⟩) (fun z => absurd z (by omega)) (by rw [nI_clamp (by omega), hz, sr_3r])⟩
  exact br_c (fun _ => br_c (fun _ => key 1 (Or.inr rfl)) (fun _ => key 0 (Or.inl rfl))) (fun _ => key 1 (Or.inr rfl))
/-- .. a plain atom is passed by -/
theorem sr_arrP {post : St2 → Prop} {n r p z k : Nat} (hr : r < 14) (hz : a7 r = nI z) (hz3 : z ≤ 3) (hk : k < 3 * r + z) (hn : a9 k = 0) (h : wX_arrive_11 post (nI r) (nI p) fc fd fs fp fn fw fx fm fo a1 a2 a3 a4 a5 a6 a7 a8 a9 a10 a11 a12 a13 a14 n (nI (k + 1))) : wX_arrive_11 post (nI r) (nI p) fc fd fs fp fn fw fx fm fo a1 a2 a3 a4 a5 a6 a7 a8 a9 a10 a11 a12 a13 a14 (n + 1) (nI k) :=
  ⟨pk_in r 14 hr, pk_le (3 * r + z) k (fun z => absurd z (by omega)) (fun _ => ⟨pk_in k 42 (by omega), br_t (by rw [nI_clamp (by omega), hn]) (nm_r (nI_1 k) h)⟩) (by rw [nI_clamp (by omega), hz, sr_3r])⟩
/-- .. a negated atom is asked -/
theorem sr_arrN {post : St2 → Prop} {n r p z k A X Y : Nat} (hr : r < 14) (hz : a7 r = nI z) (hz3 : z ≤ 3) (hk : k < 3 * r + z) (hn : ¬ a9 k = 0) (hA : a8 k = nI A) (hA8 : A < 800) (hp : p + 4 ≤ 16) (hX : sr_tv a14 p (A / 10 % 10) = nI X) (hY : sr_tv a14 p (A % 10) = nI Y) (hF : 6 * X + Y < 36)
    (h1 : sr_b (a2 (A / 100)) (6 * X + Y) = true → post (fc, fd, fs, fp, fn, fw, fx, fm, fo, a1, a2, a3, a4, a5, a6, a7, a8, a9, a10, a11, a12, a13, a14)) (h : sr_b (a2 (A / 100)) (6 * X + Y) = false → wX_arrive_11 post (nI r) (nI p) fc fd fs fp fn fw fx fm fo a1 a2 a3 a4 a5 a6 a7 a8 a9 a10 a11 a12 a13 a14 n (nI (k + 1))) : wX_arrive_11 post (nI r) (nI p) fc fd fs fp fn fw fx fm fo a1 a2 a3 a4 a5 a6 a7 a8 a9 a10 a11 a12 a13 a14 (n + 1) (nI k) := by
  have e8 : a8 (nI k).toNatClampNeg = nI A := by rw [nI_clamp (by omega), hA]
  have e7 : (a8 (nI k).toNatClampNeg) / 100 = nI (A / 100) := by rw [e8, sr_d100 hA8]
  refine ⟨pk_in r 14 hr, pk_le (3 * r + z) k (fun z => absurd z (by omega)) (fun _ => ⟨pk_in k 42 (by omega), br_f (by rw [nI_clamp (by omega)]; exact hn) ⟨pk_in k 42 (by omega), sr_fact p A X Y hp hA8 hX hY ⟨pk_in k 42 (by omega), by decide, pk_in (A / 100) 8 (by omega) e7, sr_bitAt (6 * X + Y) (by omega) ?_⟩ rfl e8⟩⟩) (by rw [nI_clamp (by omega), hz, sr_3r])⟩
  rw [e7, nI_clamp (by omega)]
  cases hb : sr_b (a2 (A / 100)) (6 * X + Y)
  · exact br_f (by decide) (nm_r (nI_1 k) (h hb))
  · exact br_t rfl (h1 hb)
end
end
section
/-! join's loops -/
section
variable {fc fd fs fp fn fw fx fm fo : Int32} {a1 a2 a3 a4 a5 : Nat → Int64} {a6 a7 a8 a9 a10 a11 a12 a13 a14 : Nat → Int32}
/-- join's walk is at its end -/
theorem sr_j100E {post : St2 → Prop} {r s n : Nat} (hs : s < 60000) (h : post (fc, fd, fs, fp, fn, fw, fx, fm, fo, a1, a2, a3, a4, a5, a6, a7, a8, a9, a10, a11, a12, a13, a14)) : wX_join_100 post (nI r) (n + 1) (-1) (nI s) fc fd fs fp fn fw fx fm fo a1 a2 a3 a4 a5 a6 a7 a8 a9 a10 a11 a12 a13 a14 :=
  pk_le 60000 s (fun z => absurd z (by omega)) (fun _ => br_t (by decide) h)
/-- one plain atom: fact by fact -/
theorem sr_j100a {post : St2 → Prop} {r H : Nat} {g fit : Nat → Bool} {sl : Nat → (Nat → Int32) → Prop} {b : Nat → Int64}
    (hgf : ∀ f, f < 36 → g f = true → fit f = true)
    (hb : ∀ (p' : Int32 → St2 → Prop) (c : Nat) (fw fm : Int32) (a4 : Nat → Int64) (a13 a14 : Nat → Int32), c < 36 → (∀ v, v < 4 → a14 v = -1) → (fit c = false → ∀ a : Nat → Int32, (∀ v, v < 4 → a v = -1) → p' 0 (fc, fd, fs, nI 1, fn, fw, fx, fm, fo, a1, a2, a3, a4, a5, a6, a7, a8, a9, a10, a11, a12, a13, a)) → (fit c = true → ∀ a : Nat → Int32, (∀ v, v < 4 → a v = -1) → sl c a → p' 1 (fc, fd, fs, nI 1, fn, fw, fx, fm, fo, a1, a2, a3, a4, a5, a6, a7, a8, a9, a10, a11, a12, a13, a)) → wpX_bind p' (fc, fd, fs, nI 1, fn, fw, fx, fm, fo, a1, a2, a3, a4, a5, a6, a7, a8, a9, a10, a11, a12, a13, a14) 0 (nI c))
    (ha : ∀ (p' : St2 → Prop) (c : Nat) (fw fm : Int32) (a4 : Nat → Int64) (a13 a14 : Nat → Int32), c < 36 → fit c = true → sl c a14 → (g c = false → p' (fc, fd, fs, nI 1, fn, fw, fx, fm, fo, a1, a2, a3, a4, a5, a6, a7, a8, a9, a10, a11, a12, a13, a14)) → (g c = true → ∀ m : Int32, p' (fc, fd, fs, nI 1, fn, fw + 1, fx, m, fo, a1, a2, a3, vp_updL a4 H (a4 H ||| ((1 : Int64) <<< ((nI c).toInt64 &&& 63))), a5, a6, a7, a8, a9, a10, a11, a12, a13, a14)) → wpX_arrive p' (fc, fd, fs, nI 1, fn, fw, fx, fm, fo, a1, a2, a3, a4, a5, a6, a7, a8, a9, a10, a11, a12, a13, a14) (nI r))
    (h : ∀ (fm : Int32) (a4 : Nat → Int64) (a13 a14 : Nat → Int32), (∀ j, j ≠ H → a4 j = b j) → (∀ i, sr_b (a4 H) i = true ↔ sr_b (b H) i = true ∨ (i < 36 ∧ g i = true)) → post (fc, fd, fs, nI 1, fn, nI (sr_cn g 36), fx, fm, fo, a1, a2, a3, a4, a5, a6, a7, a8, a9, a10, a11, a12, a13, a14)) :
    ∀ n : Nat,
      (∀ (s c : Nat) (fm : Int32) (a4 : Nat → Int64) (a13 a14 : Nat → Int32), c ≤ 36 → s ≤ 2 * c → 200 < s + n → a13 0 = nI c → (∀ v, v < 4 → a14 v = -1) → (∀ j, j ≠ H → a4 j = b j) → (∀ i, sr_b (a4 H) i = true ↔ sr_b (b H) i = true ∨ (i < c ∧ g i = true)) →
        wX_join_100 post (nI r) n 0 (nI s) fc fd fs (nI 1) fn (nI (sr_cn g c)) fx fm fo a1 a2 a3 a4 a5 a6 a7 a8 a9 a10 a11 a12 a13 a14) ∧
      (∀ (s c : Nat) (fm : Int32) (a4 : Nat → Int64) (a13 a14 : Nat → Int32), c < 36 → s ≤ 2 * c + 1 → 200 < s + n → a13 0 = nI (c + 1) → (∀ v, v < 4 → a14 v = -1) → fit c = true → sl c a14 → (∀ j, j ≠ H → a4 j = b j) → (∀ i, sr_b (a4 H) i = true ↔ sr_b (b H) i = true ∨ (i < c ∧ g i = true)) →
        wX_join_100 post (nI r) n 1 (nI s) fc fd fs (nI 1) fn (nI (sr_cn g c)) fx fm fo a1 a2 a3 a4 a5 a6 a7 a8 a9 a10 a11 a12 a13 a14) := by
  intro n
  induction n with
  | zero =>
    exact ⟨fun s c fm a4 a13 a14 h1 h2 h3 => by omega, fun s c fm a4 a13 a14 h1 h2 h3 => by omega⟩
  | succ n ih =>
    obtain ⟨ih0, ih1⟩ := ih
    have more : ∀ (c : Nat) (x : Int64), g c = false → (∀ i, sr_b x i = true ↔ sr_b (b H) i = true ∨ (i < c ∧ g i = true)) → (∀ i, sr_b x i = true ↔ sr_b (b H) i = true ∨ (i < c + 1 ∧ g i = true)) := by
      intro c x hg hx i
      rw [hx i]
      constructor
      · rintro (z | ⟨z1, z2⟩)
        · exact Or.inl z
        · exact Or.inr ⟨by omega, z2⟩
      · rintro (z | ⟨z1, z2⟩)
        · exact Or.inl z
        · by_cases e : i = c
          · subst e
            exact sr_tf z2 hg
          · exact Or.inr ⟨by omega, z2⟩
    refine ⟨?_, ?_⟩
    · intro s c fm a4 a13 a14 hc hs hn h13 h14 hj hi
      refine pk_le 60000 s (fun z => absurd z (by omega)) (fun _ => br_f (by decide) (br_f (by decide) ⟨pk_in 0 4 (by omega), ?_⟩))
      by_cases e : c = 36
      · subst e
        obtain ⟨m, rfl⟩ : ∃ m, n = m + 1 := ⟨n - 1, by omega⟩
        refine br_t h13 (nm_r (e' := -1) (by decide) (nm_r (nI_1 s) (sr_j100E (by omega) (h fm a4 a13 a14 hj hi))))
      · refine br_f (fun z => e ((nI_eq (by omega) (by omega)).mp (h13.symm.trans z))) ⟨pk_in 0 4 (by omega), nm_r (e' := nI c) h13 ⟨pk_in 0 4 (by omega), pk_in 0 4 (by omega), nm_r (e' := upd a13 0 (nI (c + 1))) (by rw [sb_cl0, h13, nI_1]) ?_⟩⟩
        refine hb _ c _ fm a4 _ a14 (by omega) h14 (fun hf a hv => ?_) (fun hf a hv hsl => ?_)
        · have hg : g c = false := sr_nt (fun z => sr_tf (hgf c (by omega) z) hf)
          refine br_t rfl (nm_r (nI_1 s) ?_)
          have t := ih0 (s + 1) (c + 1) fm a4 (upd a13 0 (nI (c + 1))) a (by omega) (by omega) (by omega) pk_us hv hj (more c _ hg hi)
          rw [show sr_cn g (c + 1) = sr_cn g c by show sr_cn g c + sr_v (g c) = _; rw [hg]; rfl] at t
          exact t
        · refine br_f (by decide) (nm_r (e' := 1) (by decide) ⟨pk_in 1 4 (by omega), nm_e (nm_r (nI_1 s) ?_)⟩)
          exact ih1 (s + 1) c fm a4 _ a (by omega) (by omega) (by omega) (by rw [pk_un (by decide)]; exact pk_us) hv hf hsl hj hi
    · intro s c fm a4 a13 a14 hc hs hn h13 h14 hf hsl hj hi
      refine pk_le 60000 s (fun z => absurd z (by omega)) (fun _ => br_f (by decide) (br_t rfl ?_))
      refine ha _ c _ fm a4 a13 a14 hc hf hsl (fun hg => ?_) (fun hg m => ?_)
      · refine nm_r (e' := 0) (by decide) (nm_r (nI_1 s) ?_)
        have t := ih0 (s + 1) (c + 1) fm a4 a13 a14 (by omega) (by omega) (by omega) h13 h14 hj (more c _ hg hi)
        rw [show sr_cn g (c + 1) = sr_cn g c by show sr_cn g c + sr_v (g c) = _; rw [hg]; rfl] at t
        exact t
      · refine nm_r (e' := 0) (by decide) (nm_r (nI_1 s) ?_)
        have t := ih0 (s + 1) (c + 1) m (vp_updL a4 H (a4 H ||| ((1 : Int64) <<< ((nI c).toInt64 &&& 63)))) a13 a14 (by omega) (by omega) (by omega) h13 h14 (fun j z => by rw [pk_uLn z]; exact hj j z) (fun i => by
          rw [pk_uLs, sr_or, sr_one (by omega), Bool.or_eq_true, hi i, decide_eq_true_iff]
          constructor
          · rintro ((z | ⟨z1, z2⟩) | z)
            · exact Or.inl z
            · exact Or.inr ⟨by omega, z2⟩
            · subst z
              exact Or.inr ⟨by omega, hg⟩
          · rintro (z | ⟨z1, z2⟩)
            · exact Or.inl (Or.inl z)
            · by_cases e : i = c
              · exact Or.inr e
              · exact Or.inl (Or.inr ⟨by omega, z2⟩))
        rw [show sr_cn g (c + 1) = sr_cn g c + 1 by show sr_cn g c + sr_v (g c) = _; rw [hg]; rfl, nI_succ (sr_cn g c)] at t
        exact t
/-- the joined facts: of the outer facts below c; of the inner ones below c1 -/
def sr_Y0 (D S : Int64) (c i : Nat) : Prop := ∃ f z, f < c ∧ z < 6 ∧ sr_b D f = true ∧ sr_b S (6 * (f % 6) + z) = true ∧ i = 6 * (f / 6) + z
def sr_Y1 (S : Int64) (c0 c1 i : Nat) : Prop := ∃ f, f < c1 ∧ f / 6 = c0 % 6 ∧ sr_b S f = true ∧ i = 6 * (c0 / 6) + f % 6
theorem sr_Y_0 {D S : Int64} {i : Nat} : ¬ sr_Y0 D S 0 i := fun ⟨f, z, h, _⟩ => absurd h (by omega)
theorem sr_Y1_0 {S : Int64} {c0 i : Nat} : ¬ sr_Y1 S c0 0 i := fun ⟨f, h, _⟩ => absurd h (by omega)
theorem sr_Y_no {D S : Int64} {c i : Nat} (h : sr_b D c = false) : sr_Y0 D S (c + 1) i ↔ sr_Y0 D S c i := by
  constructor
  · rintro ⟨f, z, h1, h2, h3, h4⟩
    by_cases e : f = c
    · subst e
      exact sr_tf h3 h
    · exact ⟨f, z, by omega, h2, h3, h4⟩
  · rintro ⟨f, z, h1, h2, h3, h4⟩
    exact ⟨f, z, by omega, h2, h3, h4⟩
theorem sr_Y_yes {D S : Int64} {c i : Nat} (h : sr_b D c = true) : sr_Y0 D S (c + 1) i ↔ sr_Y0 D S c i ∨ sr_Y1 S c 36 i := by
  constructor
  · rintro ⟨f, z, h1, h2, h3, h4, h5⟩
    by_cases e : f = c
    · subst e
      exact Or.inr ⟨6 * (f % 6) + z, by omega, by omega, h4, by omega⟩
    · exact Or.inl ⟨f, z, by omega, h2, h3, h4, h5⟩
  · rintro (⟨f, z, h1, h2, h3, h4⟩ | ⟨f, h1, h2, h3, h4⟩)
    · exact ⟨f, z, by omega, h2, h3, h4⟩
    · exact ⟨c, f % 6, by omega, by omega, h, by rw [show 6 * (c % 6) + f % 6 = f by omega]; exact h3, h4⟩
theorem sr_Y1_no {S : Int64} {c0 c i : Nat} (h : ¬ (sr_b S c = true ∧ c / 6 = c0 % 6)) : sr_Y1 S c0 (c + 1) i ↔ sr_Y1 S c0 c i := by
  constructor
  · rintro ⟨f, h1, h2, h3, h4⟩
    by_cases e : f = c
    · subst e
      exact absurd ⟨h3, h2⟩ h
    · exact ⟨f, by omega, h2, h3, h4⟩
  · rintro ⟨f, h1, h2, h3, h4⟩
    exact ⟨f, by omega, h2, h3, h4⟩
theorem sr_Y1_yes {S : Int64} {c0 c i : Nat} (h : sr_b S c = true) (h' : c / 6 = c0 % 6) : sr_Y1 S c0 (c + 1) i ↔ sr_Y1 S c0 c i ∨ i = 6 * (c0 / 6) + c % 6 := by
  constructor
  · rintro ⟨f, h1, h2, h3, h4⟩
    by_cases e : f = c
    · subst e
      exact Or.inr h4
    · exact Or.inl ⟨f, by omega, h2, h3, h4⟩
  · rintro (⟨f, h1, h2, h3, h4⟩ | e)
    · exact ⟨f, by omega, h2, h3, h4⟩
    · exact ⟨c, by omega, h', h, e⟩
/-- two plain atoms (v0, v1), (v1, v2): fact by fact -/
theorem sr_j100b {post : St2 → Prop} {r H : Nat} {D S : Int64} {b : Nat → Int64}
    (hb0 : ∀ (p' : Int32 → St2 → Prop) (c : Nat) (fw fm : Int32) (a4 : Nat → Int64) (a13 a14 : Nat → Int32), c < 36 → (∀ v, v < 4 → a14 v = -1) → (sr_b D c = false → ∀ a : Nat → Int32, (∀ v, v < 4 → a v = -1) → p' 0 (fc, fd, fs, nI 2, fn, fw, fx, fm, fo, a1, a2, a3, a4, a5, a6, a7, a8, a9, a10, a11, a12, a13, a)) → (sr_b D c = true → ∀ a : Nat → Int32, (∀ v, v < 4 → a v = -1) → sr_q4 a 4 (nI (c / 6)) (nI (c % 6)) (-1) (-1) → p' 1 (fc, fd, fs, nI 2, fn, fw, fx, fm, fo, a1, a2, a3, a4, a5, a6, a7, a8, a9, a10, a11, a12, a13, a)) → wpX_bind p' (fc, fd, fs, nI 2, fn, fw, fx, fm, fo, a1, a2, a3, a4, a5, a6, a7, a8, a9, a10, a11, a12, a13, a14) 0 (nI c))
    (hb1 : ∀ (p' : Int32 → St2 → Prop) (c0 c : Nat) (fw fm : Int32) (a4 : Nat → Int64) (a13 a14 : Nat → Int32), c0 < 36 → c < 36 → (∀ v, v < 4 → a14 v = -1) → sr_q4 a14 4 (nI (c0 / 6)) (nI (c0 % 6)) (-1) (-1) → (¬ (sr_b S c = true ∧ c / 6 = c0 % 6) → ∀ a : Nat → Int32, (∀ v, v < 4 → a v = -1) → sr_q4 a 4 (nI (c0 / 6)) (nI (c0 % 6)) (-1) (-1) → p' 0 (fc, fd, fs, nI 2, fn, fw, fx, fm, fo, a1, a2, a3, a4, a5, a6, a7, a8, a9, a10, a11, a12, a13, a)) → (sr_b S c = true → c / 6 = c0 % 6 → ∀ a : Nat → Int32, (∀ v, v < 4 → a v = -1) → sr_q4 a 4 (nI (c0 / 6)) (nI (c0 % 6)) (-1) (-1) → sr_q4 a 8 (nI (c0 / 6)) (nI (c0 % 6)) (nI (c % 6)) (-1) → p' 1 (fc, fd, fs, nI 2, fn, fw, fx, fm, fo, a1, a2, a3, a4, a5, a6, a7, a8, a9, a10, a11, a12, a13, a)) → wpX_bind p' (fc, fd, fs, nI 2, fn, fw, fx, fm, fo, a1, a2, a3, a4, a5, a6, a7, a8, a9, a10, a11, a12, a13, a14) 1 (nI c))
    (ha : ∀ (p' : St2 → Prop) (c0 c : Nat) (fw fm : Int32) (a4 : Nat → Int64) (a13 a14 : Nat → Int32), c0 < 36 → c < 36 → sr_q4 a14 8 (nI (c0 / 6)) (nI (c0 % 6)) (nI (c % 6)) (-1) → (∀ m : Int32, p' (fc, fd, fs, nI 2, fn, fw + 1, fx, m, fo, a1, a2, a3, vp_updL a4 H (a4 H ||| ((1 : Int64) <<< ((nI (6 * (c0 / 6) + c % 6)).toInt64 &&& 63))), a5, a6, a7, a8, a9, a10, a11, a12, a13, a14)) → wpX_arrive p' (fc, fd, fs, nI 2, fn, fw, fx, fm, fo, a1, a2, a3, a4, a5, a6, a7, a8, a9, a10, a11, a12, a13, a14) (nI r))
    (h : ∀ (fw fm : Int32) (a4 : Nat → Int64) (a13 a14 : Nat → Int32), (∀ j, j ≠ H → a4 j = b j) → (∀ i, sr_b (a4 H) i = true ↔ sr_b (b H) i = true ∨ sr_Y0 D S 36 i) → post (fc, fd, fs, nI 2, fn, fw, fx, fm, fo, a1, a2, a3, a4, a5, a6, a7, a8, a9, a10, a11, a12, a13, a14)) :
    ∀ n : Nat,
      (∀ (s c : Nat) (fw fm : Int32) (a4 : Nat → Int64) (a13 a14 : Nat → Int32), c ≤ 36 → s ≤ 74 * c → 3000 < s + n → a13 0 = nI c → (∀ v, v < 4 → a14 v = -1) → (∀ j, j ≠ H → a4 j = b j) → (∀ i, sr_b (a4 H) i = true ↔ sr_b (b H) i = true ∨ sr_Y0 D S c i) →
        wX_join_100 post (nI r) n 0 (nI s) fc fd fs (nI 2) fn fw fx fm fo a1 a2 a3 a4 a5 a6 a7 a8 a9 a10 a11 a12 a13 a14) ∧
      (∀ (s c0 c : Nat) (fw fm : Int32) (a4 : Nat → Int64) (a13 a14 : Nat → Int32), c0 < 36 → c ≤ 36 → s ≤ 74 * c0 + 1 + 2 * c → 3000 < s + n → a13 0 = nI (c0 + 1) → a13 1 = nI c → sr_b D c0 = true → (∀ v, v < 4 → a14 v = -1) → sr_q4 a14 4 (nI (c0 / 6)) (nI (c0 % 6)) (-1) (-1) → (∀ j, j ≠ H → a4 j = b j) → (∀ i, sr_b (a4 H) i = true ↔ sr_b (b H) i = true ∨ sr_Y0 D S c0 i ∨ sr_Y1 S c0 c i) →
        wX_join_100 post (nI r) n 1 (nI s) fc fd fs (nI 2) fn fw fx fm fo a1 a2 a3 a4 a5 a6 a7 a8 a9 a10 a11 a12 a13 a14) ∧
      (∀ (s c0 c : Nat) (fw fm : Int32) (a4 : Nat → Int64) (a13 a14 : Nat → Int32), c0 < 36 → c < 36 → s ≤ 74 * c0 + 2 + 2 * c → 3000 < s + n → a13 0 = nI (c0 + 1) → a13 1 = nI (c + 1) → sr_b D c0 = true → sr_b S c = true → c / 6 = c0 % 6 → (∀ v, v < 4 → a14 v = -1) → sr_q4 a14 4 (nI (c0 / 6)) (nI (c0 % 6)) (-1) (-1) → sr_q4 a14 8 (nI (c0 / 6)) (nI (c0 % 6)) (nI (c % 6)) (-1) → (∀ j, j ≠ H → a4 j = b j) → (∀ i, sr_b (a4 H) i = true ↔ sr_b (b H) i = true ∨ sr_Y0 D S c0 i ∨ sr_Y1 S c0 c i) →
        wX_join_100 post (nI r) n 2 (nI s) fc fd fs (nI 2) fn fw fx fm fo a1 a2 a3 a4 a5 a6 a7 a8 a9 a10 a11 a12 a13 a14) := by
  intro n
  induction n with
  | zero =>
    exact ⟨fun s c fw fm a4 a13 a14 h1 h2 h3 => by omega, fun s c0 c fw fm a4 a13 a14 h1 h2 h3 h4 => by omega, fun s c0 c fw fm a4 a13 a14 h1 h2 h3 h4 => by omega⟩
  | succ n ih =>
    obtain ⟨ih0, ih1, ih2⟩ := ih
    refine ⟨?_, ?_, ?_⟩
    · intro s c fw fm a4 a13 a14 hc hs hn h13 h14 hj hi
      refine pk_le 60000 s (fun z => absurd z (by omega)) (fun _ => br_f (by decide) (br_f (by decide) ⟨pk_in 0 4 (by omega), ?_⟩))
      by_cases e : c = 36
      · subst e
        obtain ⟨m, rfl⟩ : ∃ m, n = m + 1 := ⟨n - 1, by omega⟩
        refine br_t h13 (nm_r (e' := -1) (by decide) (nm_r (nI_1 s) (sr_j100E (by omega) (h fw fm a4 a13 a14 hj hi))))
      · refine br_f (fun z => e ((nI_eq (by omega) (by omega)).mp (h13.symm.trans z))) ⟨pk_in 0 4 (by omega), nm_r (e' := nI c) h13 ⟨pk_in 0 4 (by omega), pk_in 0 4 (by omega), nm_r (e' := upd a13 0 (nI (c + 1))) (by rw [sb_cl0, h13, nI_1]) ?_⟩⟩
        refine hb0 _ c fw fm a4 _ a14 (by omega) h14 (fun hf a hv => ?_) (fun hf a hv hsl => ?_)
        · refine br_t rfl (nm_r (nI_1 s) ?_)
          exact ih0 (s + 1) (c + 1) fw fm a4 (upd a13 0 (nI (c + 1))) a (by omega) (by omega) (by omega) pk_us hv hj (fun i => by rw [hi i, sr_Y_no hf])
        · refine br_f (by decide) (nm_r (e' := 1) (by decide) ⟨pk_in 1 4 (by omega), nm_e (nm_r (nI_1 s) ?_)⟩)
          exact ih1 (s + 1) c 0 fw fm a4 _ a (by omega) (by omega) (by omega) (by omega) (by rw [pk_un (by decide)]; exact pk_us) pk_us hf hv hsl hj (fun i => by
            rw [hi i]
            exact ⟨fun q => q.elim Or.inl (fun q => Or.inr (Or.inl q)), fun q => q.elim Or.inl (fun q => q.elim Or.inr (fun q => absurd q sr_Y1_0))⟩)
    · intro s c0 c fw fm a4 a13 a14 hc0 hc hs hn h130 h13 hD h14 hsl hj hi
      refine pk_le 60000 s (fun z => absurd z (by omega)) (fun _ => br_f (by decide) (br_f (by decide) ⟨pk_in 1 4 (by omega), ?_⟩))
      by_cases e : c = 36
      · subst e
        refine br_t h13 (nm_r (e' := 0) (by decide) (nm_r (nI_1 s) ?_))
        exact ih0 (s + 1) (c0 + 1) fw fm a4 a13 a14 (by omega) (by omega) (by omega) h130 h14 hj (fun i => by rw [hi i, sr_Y_yes hD])
      · refine br_f (fun z => e ((nI_eq (by omega) (by omega)).mp (h13.symm.trans z))) ⟨pk_in 1 4 (by omega), nm_r (e' := nI c) h13 ⟨pk_in 1 4 (by omega), pk_in 1 4 (by omega), nm_r (e' := upd a13 1 (nI (c + 1))) (by rw [show (1 : Int32).toNatClampNeg = 1 from rfl, h13, nI_1]) ?_⟩⟩
        refine hb1 _ c0 c fw fm a4 _ a14 hc0 (by omega) h14 hsl (fun hf a hv hsl' => ?_) (fun hf hf' a hv hsl' hsl2 => ?_)
        · refine br_t rfl (nm_r (nI_1 s) ?_)
          exact ih1 (s + 1) c0 (c + 1) fw fm a4 (upd a13 1 (nI (c + 1))) a hc0 (by omega) (by omega) (by omega) (by rw [pk_un (by decide)]; exact h130) pk_us hD hv hsl' hj (fun i => by rw [hi i, sr_Y1_no hf])
        · refine br_f (by decide) (nm_r (e' := 2) (by decide) ⟨pk_in 2 4 (by omega), nm_e (nm_r (nI_1 s) ?_)⟩)
          exact ih2 (s + 1) c0 c fw fm a4 _ a hc0 (by omega) (by omega) (by omega) (by rw [pk_un (by decide), pk_un (by decide)]; exact h130) (by rw [pk_un (by decide)]; exact pk_us) hD hf hf' hv hsl' hsl2 hj hi
    · intro s c0 c fw fm a4 a13 a14 hc0 hc hs hn h130 h13 hD hS hS' h14 hsl hsl2 hj hi
      refine pk_le 60000 s (fun z => absurd z (by omega)) (fun _ => br_f (by decide) (br_t rfl ?_))
      refine ha _ c0 c fw fm a4 a13 a14 hc0 hc hsl2 (fun m => ?_)
      refine nm_r (e' := 1) (by decide) (nm_r (nI_1 s) ?_)
      exact ih1 (s + 1) c0 (c + 1) (fw + 1) m _ a13 a14 hc0 (by omega) (by omega) (by omega) h130 h13 hD h14 hsl (fun j z => by rw [pk_uLn z]; exact hj j z) (fun i => by
        rw [pk_uLs, sr_or, sr_one (by omega), Bool.or_eq_true, hi i, decide_eq_true_iff, sr_Y1_yes hS hS']
        constructor
        · rintro ((q | q | q) | q)
          · exact Or.inl q
          · exact Or.inr (Or.inl q)
          · exact Or.inr (Or.inr (Or.inl q))
          · exact Or.inr (Or.inr (Or.inr q))
        · rintro (q | q | q | q)
          · exact Or.inl (Or.inl q)
          · exact Or.inl (Or.inr (Or.inl q))
          · exact Or.inl (Or.inr (Or.inr q))
          · exact Or.inr q)
/-- join's loop over the places -/
theorem sr_j70 {post : St2 → Prop} {r : Nat} (h : ∀ a13' a14' : Nat → Int32, a13' 0 = nI 0 → (∀ v, v < 4 → a14' v = -1) → ∃ n, wX_join_100 post (nI r) n 0 (nI 0) fc fd fs fp fn fw fx fm fo a1 a2 a3 a4 a5 a6 a7 a8 a9 a10 a11 a12 a13' a14') : ∃ n, wX_join_70 post (nI r) fc fd fs fp fn fw fx fm fo n 0 a1 a2 a3 a4 a5 a6 a7 a8 a9 a10 a11 a12 a13 a14 :=
  pk_loop (fun n i s => wX_join_70 post (nI r) fc fd fs fp fn fw fx fm fo n (nI i) a1 a2 a3 a4 a5 a6 a7 a8 a9 a10 a11 a12 a13 s) (fun i s => ∀ v, v < i → s v = -1) 4 0 a14 (by omega) (fun v hv => absurd hv (by omega))
    (fun n s hs => pk_le 4 4 (fun _ => nm_e (h _ s pk_us hs)) (fun z => absurd z (by omega)))
    (fun n i s hi hs hw => pk_le 4 i (fun z => absurd z (by omega)) (fun _ => ⟨pk_in i 16 (by omega), nm_r (e' := upd s i (-1)) (by rw [nI_clamp (by omega)]) (nm_r (nI_1 i) (hw _ (fun v hv => by
      by_cases e : v = i
      · rw [e, pk_us]
      · rw [pk_un e]
        exact hs v (by omega))))⟩))
end
end
section
/-! join, for each kind of rule -/
section
variable {fc fd fs fp fn fw fx fm fo : Int32} {a1 a2 a3 a4 a5 : Nat → Int64} {a6 a7 a8 a9 a10 a11 a12 a13 a14 : Nat → Int32}
theorem sr_3r0 (r : Nat) : (3 : Int32) * nI r = nI (3 * r) := by
  rw [show (3 : Int32) = nI 3 from rfl, pk_mul]
theorem sr_j19E {post : St2 → Prop} {r z n : Nat} (hr : r < 14) (hz : a7 r = nI z) (hz3 : z ≤ 3) (h : ∃ m, wX_join_70 post (nI r) fc fd fs fp fn fw fx fm fo m 0 a1 a2 a3 a4 a5 a6 a7 a8 a9 a10 a11 a12 a13 a14) : wX_join_19 post (nI r) fc fd fs fn fw fx fm fo (n + 1) (nI (3 * r + z)) fp a1 a2 a3 a4 a5 a6 a7 a8 a9 a10 a11 a12 a13 a14 :=
  ⟨pk_in r 14 hr, pk_le (3 * r + z) (3 * r + z) (fun _ => h) (fun z => absurd z (by omega)) (by rw [nI_clamp (by omega), hz, sr_3r])⟩
theorem sr_j19P {post : St2 → Prop} {r z n k m : Nat} (hr : r < 14) (hz : a7 r = nI z) (hz3 : z ≤ 3) (hk : k < 3 * r + z) (hm : m < 3) (hn : a9 k = 0) (h : wX_join_19 post (nI r) fc fd fs fn fw fx fm fo n (nI (k + 1)) (nI (m + 1)) a1 a2 a3 a4 a5 a6 a7 a8 a9 a10 a11 (upd a12 m (nI k)) a13 a14) : wX_join_19 post (nI r) fc fd fs fn fw fx fm fo (n + 1) (nI k) (nI m) a1 a2 a3 a4 a5 a6 a7 a8 a9 a10 a11 a12 a13 a14 :=
  ⟨pk_in r 14 hr, pk_le (3 * r + z) k (fun z => absurd z (by omega)) (fun _ => ⟨pk_in k 42 (by omega), br_t (by rw [nI_clamp (by omega), hn]) ⟨pk_in m 3 hm, nm_r (e' := upd a12 m (nI k)) (by rw [nI_clamp (by omega)]) (nm_r (nI_1 m) (nm_r (nI_1 k) h))⟩⟩) (by rw [nI_clamp (by omega), hz, sr_3r])⟩
theorem sr_j19N {post : St2 → Prop} {r z n k : Nat} (hr : r < 14) (hz : a7 r = nI z) (hz3 : z ≤ 3) (hk : k < 3 * r + z) (hn : ¬ a9 k = 0) (h : wX_join_19 post (nI r) fc fd fs fn fw fx fm fo n (nI (k + 1)) fp a1 a2 a3 a4 a5 a6 a7 a8 a9 a10 a11 a12 a13 a14) : wX_join_19 post (nI r) fc fd fs fn fw fx fm fo (n + 1) (nI k) fp a1 a2 a3 a4 a5 a6 a7 a8 a9 a10 a11 a12 a13 a14 :=
  ⟨pk_in r 14 hr, pk_le (3 * r + z) k (fun z => absurd z (by omega)) (fun _ => ⟨pk_in k 42 (by omega), br_f (by rw [nI_clamp (by omega)]; exact hn) (nm_r (nI_1 k) h)⟩) (by rw [nI_clamp (by omega), hz, sr_3r])⟩
/-- a rule with one plain atom, up to the walk -/
theorem sr_jone {post : St2 → Prop} {r z : Nat} {sp : Int32} (hr : r < 14) (hz : a7 r = nI z) (h1 : 1 ≤ z) (h2 : z ≤ 2) (hp0 : a9 (3 * r) = 0) (hp1 : z = 2 → ¬ a9 (3 * r + 1) = 0)
    (h : ∀ a12' a13' a14' : Nat → Int32, a12' 0 = nI (3 * r) → a13' 0 = nI 0 → (∀ v, v < 4 → a14' v = -1) → ∃ n, wX_join_100 post (nI r) n 0 (nI 0) fc fd fs (nI 1) sp 0 fx fm fo a1 a2 a3 a4 a5 a6 a7 a8 a9 a10 a11 a12' a13' a14') : wpX_join post (fc, fd, fs, fp, fn, fw, fx, fm, fo, a1, a2, a3, a4, a5, a6, a7, a8, a9, a10, a11, a12, a13, a14) (nI r) sp := by
  refine nm_r (sr_3r0 r) ⟨2 + 1, ?_⟩
  refine sr_j19P (m := 0) hr hz (by omega) (by omega) (by omega) hp0 ?_
  have E : ∃ m, wX_join_70 post (nI r) fc fd fs (nI (0 + 1)) sp 0 fx fm fo m 0 a1 a2 a3 a4 a5 a6 a7 a8 a9 a10 a11 (upd a12 0 (nI (3 * r))) a13 a14 := sr_j70 (fun a13' a14' e13 e14 => h _ a13' a14' pk_us e13 e14)
  by_cases e : z = 1
  · subst e
    exact sr_j19E (n := 1) hr hz (by omega) E
  · have e2 : z = 2 := by omega
    subst e2
    refine sr_j19N (n := 1) (z := 2) hr hz (by omega) (by omega) (hp1 rfl) ?_
    exact sr_j19E (n := 0) (z := 2) hr hz (by omega) E
/-- a rule with two plain atoms, up to the walk -/
theorem sr_jtwo {post : St2 → Prop} {r : Nat} {sp : Int32} (hr : r < 14) (hz : a7 r = nI 2) (hp0 : a9 (3 * r) = 0) (hp1 : a9 (3 * r + 1) = 0)
    (h : ∀ a12' a13' a14' : Nat → Int32, a12' 0 = nI (3 * r) → a12' 1 = nI (3 * r + 1) → a13' 0 = nI 0 → (∀ v, v < 4 → a14' v = -1) → ∃ n, wX_join_100 post (nI r) n 0 (nI 0) fc fd fs (nI 2) sp 0 fx fm fo a1 a2 a3 a4 a5 a6 a7 a8 a9 a10 a11 a12' a13' a14') : wpX_join post (fc, fd, fs, fp, fn, fw, fx, fm, fo, a1, a2, a3, a4, a5, a6, a7, a8, a9, a10, a11, a12, a13, a14) (nI r) sp := by
  refine nm_r (sr_3r0 r) ⟨2 + 1, ?_⟩
  refine sr_j19P (m := 0) hr hz (by omega) (by omega) (by omega) hp0 ?_
  refine sr_j19P (n := 1) (m := 1) hr hz (by omega) (by omega) (by omega) hp1 ?_
  refine sr_j19E (n := 0) (z := 2) hr hz (by omega) ?_
  exact sr_j70 (fun a13' a14' e13 e14 => h _ a13' a14' (by rw [pk_un (by decide)]; exact pk_us) pk_us e13 e14)
/-- a rule with one plain atom -/
theorem sr_joinG {post : St2 → Prop} {r z A H : Nat} {fitc : Nat → Bool} {y : Nat → Int32} {g : Nat → Bool} {sp : Int32}
    (hr : r < 14) (hz : a7 r = nI z) (h1 : 1 ≤ z) (h2 : z ≤ 2) (hp0 : a9 (3 * r) = 0) (hp1 : z = 2 → ¬ a9 (3 * r + 1) = 0) (hA : a8 (3 * r) = nI A) (hA8 : A < 800) (hsp : ¬ nI (3 * r) = sp)
    (hbd : ∀ (a : Nat → Int32) (f : Nat), f < 36 → sr_q4 a 4 (-1) (-1) (-1) (-1) → sr_bf a 4 A f = fitc f ∧ sr_q4 (sr_bA a 4 A f) 4 (nI (f / 6)) (y f) (-1) (-1))
    (hg : ∀ f, g f = true → (sr_b (a2 (A / 100)) f && fitc f) = true)
    (ha : ∀ (p' : St2 → Prop) (c : Nat) (fw fm : Int32) (a4 : Nat → Int64) (a12 a13 a14 : Nat → Int32), c < 36 → (sr_b (a2 (A / 100)) c && fitc c) = true → sr_q4 a14 4 (nI (c / 6)) (y c) (-1) (-1) → (g c = false → p' (fc, fd, fs, nI 1, sp, fw, fx, fm, fo, a1, a2, a3, a4, a5, a6, a7, a8, a9, a10, a11, a12, a13, a14)) → (g c = true → ∀ m : Int32, p' (fc, fd, fs, nI 1, sp, fw + 1, fx, m, fo, a1, a2, a3, vp_updL a4 H (a4 H ||| ((1 : Int64) <<< ((nI c).toInt64 &&& 63))), a5, a6, a7, a8, a9, a10, a11, a12, a13, a14)) → wpX_arrive p' (fc, fd, fs, nI 1, sp, fw, fx, fm, fo, a1, a2, a3, a4, a5, a6, a7, a8, a9, a10, a11, a12, a13, a14) (nI r))
    (h : ∀ (fm : Int32) (a4' : Nat → Int64) (a12 a13 a14 : Nat → Int32), (∀ j, j ≠ H → a4' j = a4 j) → (∀ i, sr_b (a4' H) i = true ↔ sr_b (a4 H) i = true ∨ (i < 36 ∧ g i = true)) → post (fc, fd, fs, nI 1, sp, nI (sr_cn g 36), fx, fm, fo, a1, a2, a3, a4', a5, a6, a7, a8, a9, a10, a11, a12, a13, a14)) : wpX_join post (fc, fd, fs, fp, fn, fw, fx, fm, fo, a1, a2, a3, a4, a5, a6, a7, a8, a9, a10, a11, a12, a13, a14) (nI r) sp := by
  refine sr_jone hr hz h1 h2 hp0 hp1 (fun a12' a13' a14' e12 e13 e14 => ⟨201, ?_⟩)
  refine (sr_j100a (H := H) (fit := fun f => sr_b (a2 (A / 100)) f && fitc f) (sl := fun f a => sr_q4 a 4 (nI (f / 6)) (y f) (-1) (-1)) (b := a4) (g := g) (fun f _ hf => hg f hf) ?_ ?_ ?_ 201).1 0 0 fm a4 a13' a14' (by omega) (by omega) (by omega) e13 e14 (fun _ _ => rfl) (fun i => ⟨Or.inl, fun q => q.elim id (fun q => absurd q.1 (by omega))⟩)
  · intro p' c fw fm a4 a13 a14 hc hv k0 k1
    refine sr_bind (d := 0) (w := a2 (A / 100)) (by omega) hc e12 (by omega) hA hA8 (by rw [if_neg hsp]) (fun hb => k0 (by rw [hb]; rfl) a14 hv) (fun hb a hcp => ?_)
    have hs : sr_q4 a 4 (-1) (-1) (-1) (-1) := ⟨(hcp.2 0 (by omega)).trans (hv 0 (by omega)), (hcp.2 1 (by omega)).trans (hv 1 (by omega)), (hcp.2 2 (by omega)).trans (hv 2 (by omega)), (hcp.2 3 (by omega)).trans (hv 3 (by omega))⟩
    obtain ⟨q1, q2⟩ := hbd a c hc hs
    have lo : ∀ v, v < 4 → sr_bA a 4 A c v = -1 := fun v v4 => by
      rw [sr_bA_lo v4, hcp.1 v (by omega)]
      exact hv v v4
    show p' (nI (sr_v (sr_bf a 4 A c))) _
    cases hf : fitc c
    · rw [q1, hf]
      exact k0 (by rw [hf]; exact Bool.and_false _) _ lo
    · rw [q1, hf]
      exact k1 (by rw [hb, hf]; rfl) _ lo q2
  · intro p' c fw fm a4 a13 a14 hc hf hsl k0 k1
    exact ha p' c fw fm a4 a12' a13 a14 hc hf hsl k0 k1
  · intro fm a4' a13 a14 hj hi
    exact h fm a4' a12' a13 a14 hj hi
/-- the rules: kind 0: R2(x,y) if R0(x,y); 1: R2(x,z) if R2(x,y), R0(y,z); 2: R4(x,y) if R0(x,y), not R2(y,x); 3: R6(x,t) if R2(x,t) -/
def sr_row (t k r : Nat) (a6 a7 a8 a9 : Nat → Int32) : Prop :=
  (k = 0 ∧ a6 r = nI 201 ∧ a7 r = nI 1 ∧ a8 (3 * r) = nI 1 ∧ a9 (3 * r) = 0) ∨
  (k = 1 ∧ a6 r = nI 202 ∧ a7 r = nI 2 ∧ a8 (3 * r) = nI 201 ∧ a9 (3 * r) = 0 ∧ a8 (3 * r + 1) = nI 12 ∧ a9 (3 * r + 1) = 0) ∨
  (k = 2 ∧ a6 r = nI 401 ∧ a7 r = nI 2 ∧ a8 (3 * r) = nI 1 ∧ a9 (3 * r) = 0 ∧ a8 (3 * r + 1) = nI 210 ∧ a9 (3 * r + 1) = 1) ∨
  (k = 3 ∧ a6 r = nI (604 + t) ∧ a7 r = nI 1 ∧ a8 (3 * r) = nI (204 + t) ∧ a9 (3 * r) = 0)
def sr_lay (k : Nat) : Nat := if k ≤ 1 then 1 else k
/-- which facts a rule with one plain atom derives -/
def sr_g (a2 : Nat → Int64) (t k f : Nat) : Bool := if k = 0 then sr_b (a2 0) f else if k = 2 then sr_b (a2 0) f && !sr_b (a2 2) (6 * (f % 6) + f / 6) else sr_b (a2 2) f && decide (t = f % 6)
/-- which facts a rule derives, its first plain atom over D if it is of kind 1 -/
def sr_eff (a2 : Nat → Int64) (D : Int64) (t k i : Nat) : Prop := (k = 1 ∧ sr_Y0 D (a2 0) 36 i) ∨ (k ≠ 1 ∧ i < 36 ∧ sr_g a2 t k i = true)
theorem sr_tv_lo {a : Nat → Int32} {p term : Nat} (h : term < 4) : sr_tv a p term = a (p + term) := if_pos h
theorem sr_tv_hi {a : Nat → Int32} {p term : Nat} (h : 4 ≤ term) : sr_tv a p term = nI (term - 4) := if_neg (by omega)
theorem sr_join0 {post : St2 → Prop} {r : Nat} {sp : Int32} (hr : r < 14) (h6 : a6 r = nI 201) (h7 : a7 r = nI 1) (h8 : a8 (3 * r) = nI 1) (h9 : a9 (3 * r) = 0) (hsp : ¬ nI (3 * r) = sp)
    (h : ∀ (fm : Int32) (a4' : Nat → Int64) (a12 a13 a14 : Nat → Int32), (∀ j, j ≠ 2 → a4' j = a4 j) → (∀ i, sr_b (a4' 2) i = true ↔ sr_b (a4 2) i = true ∨ (i < 36 ∧ sr_b (a2 0) i = true)) → post (fc, fd, fs, nI 1, sp, nI (sr_cn (sr_b (a2 0)) 36), fx, fm, fo, a1, a2, a3, a4', a5, a6, a7, a8, a9, a10, a11, a12, a13, a14)) : wpX_join post (fc, fd, fs, fp, fn, fw, fx, fm, fo, a1, a2, a3, a4, a5, a6, a7, a8, a9, a10, a11, a12, a13, a14) (nI r) sp := by
  refine sr_joinG (z := 1) (A := 1) (H := 2) (fitc := fun _ => true) (y := fun f => nI (f % 6)) (g := sr_b (a2 0)) hr h7 (by omega) (by omega) h9 (fun e => absurd e (by omega)) h8 (by omega) hsp (fun a f hf hs => sr_bd01 (by decide) (by decide) hs) (fun f hf => by rw [Bool.and_true]; exact hf) ?_ h
  intro p' c fw fm a4 a12 a13 a14 hc hf hsl k0 k1
  rw [Bool.and_true] at hf
  have t := k1 hf
  refine nm_r (e' := nI 4) (by decide) (nm_r (sr_3r0 r) ⟨1 + 1, sr_arrP (z := 1) hr h7 (by omega) (by omega) h9 (sr_arrH (n := 0) (z := 1) (p := 4) (H := 201) (X := c / 6) (Y := c % 6) hr h7 (by omega) h6 (by omega) (by omega) ((sr_tv_lo (term := 0) (by omega)).trans hsl.1) ((sr_tv_lo (term := 1) (by omega)).trans hsl.2.1) (by omega) ?_)⟩)
  rw [show 6 * (c / 6) + c % 6 = c by omega]
  exact t
theorem sr_join2 {post : St2 → Prop} {r : Nat} {sp : Int32} (hr : r < 14) (h6 : a6 r = nI 401) (h7 : a7 r = nI 2) (h8 : a8 (3 * r) = nI 1) (h9 : a9 (3 * r) = 0) (h8' : a8 (3 * r + 1) = nI 210) (h9' : a9 (3 * r + 1) = 1) (hsp : ¬ nI (3 * r) = sp)
    (h : ∀ (fm : Int32) (a4' : Nat → Int64) (a12 a13 a14 : Nat → Int32), (∀ j, j ≠ 4 → a4' j = a4 j) → (∀ i, sr_b (a4' 4) i = true ↔ sr_b (a4 4) i = true ∨ (i < 36 ∧ (sr_b (a2 0) i && !sr_b (a2 2) (6 * (i % 6) + i / 6)) = true)) → post (fc, fd, fs, nI 1, sp, nI (sr_cn (fun f => sr_b (a2 0) f && !sr_b (a2 2) (6 * (f % 6) + f / 6)) 36), fx, fm, fo, a1, a2, a3, a4', a5, a6, a7, a8, a9, a10, a11, a12, a13, a14)) : wpX_join post (fc, fd, fs, fp, fn, fw, fx, fm, fo, a1, a2, a3, a4, a5, a6, a7, a8, a9, a10, a11, a12, a13, a14) (nI r) sp := by
  refine sr_joinG (z := 2) (A := 1) (H := 4) (fitc := fun _ => true) (y := fun f => nI (f % 6)) (g := fun f => sr_b (a2 0) f && !sr_b (a2 2) (6 * (f % 6) + f / 6)) hr h7 (by omega) (by omega) h9 (fun _ => by rw [h9']; decide) h8 (by omega) hsp (fun a f hf hs => sr_bd01 (by decide) (by decide) hs) (fun f hf => by rw [Bool.and_true]; exact (Bool.and_eq_true _ _ ▸ hf).1) ?_ h
  intro p' c fw fm a4 a12 a13 a14 hc hf hsl k0 k1
  rw [Bool.and_true] at hf
  have hf' : sr_b (a2 0) c = true := hf
  refine nm_r (e' := nI 4) (by decide) (nm_r (sr_3r0 r) ⟨2 + 1, sr_arrP (z := 2) hr h7 (by omega) (by omega) h9 (sr_arrN (n := 1) (z := 2) (p := 4) (A := 210) (X := c % 6) (Y := c / 6) hr h7 (by omega) (by omega) (by rw [h9']; decide) h8' (by omega) (by omega) ((sr_tv_lo (term := 1) (by omega)).trans hsl.2.1) ((sr_tv_lo (term := 0) (by omega)).trans hsl.1) (by omega) (fun hb => ?_) (fun hb => ?_))⟩)
  · have hb' : sr_b (a2 2) (6 * (c % 6) + c / 6) = true := hb
    exact k0 (by show (sr_b (a2 0) c && !sr_b (a2 2) (6 * (c % 6) + c / 6)) = false; rw [hb', Bool.not_true, Bool.and_false])
  · have hb' : sr_b (a2 2) (6 * (c % 6) + c / 6) = false := hb
    have t := k1 (by show (sr_b (a2 0) c && !sr_b (a2 2) (6 * (c % 6) + c / 6)) = true; rw [hb', hf']; rfl)
    refine sr_arrH (n := 0) (z := 2) (p := 4) (H := 401) (X := c / 6) (Y := c % 6) hr h7 (by omega) h6 (by omega) (by omega) ((sr_tv_lo (term := 0) (by omega)).trans hsl.1) ((sr_tv_lo (term := 1) (by omega)).trans hsl.2.1) (by omega) ?_
    rw [show 6 * (c / 6) + c % 6 = c by omega]
    exact t
theorem sr_join3 {post : St2 → Prop} {r t : Nat} {sp : Int32} (ht : t < 6) (hr : r < 14) (h6 : a6 r = nI (604 + t)) (h7 : a7 r = nI 1) (h8 : a8 (3 * r) = nI (204 + t)) (h9 : a9 (3 * r) = 0) (hsp : ¬ nI (3 * r) = sp)
    (h : ∀ (fm : Int32) (a4' : Nat → Int64) (a12 a13 a14 : Nat → Int32), (∀ j, j ≠ 6 → a4' j = a4 j) → (∀ i, sr_b (a4' 6) i = true ↔ sr_b (a4 6) i = true ∨ (i < 36 ∧ (sr_b (a2 2) i && decide (t = i % 6)) = true)) → post (fc, fd, fs, nI 1, sp, nI (sr_cn (fun f => sr_b (a2 2) f && decide (t = f % 6)) 36), fx, fm, fo, a1, a2, a3, a4', a5, a6, a7, a8, a9, a10, a11, a12, a13, a14)) : wpX_join post (fc, fd, fs, fp, fn, fw, fx, fm, fo, a1, a2, a3, a4, a5, a6, a7, a8, a9, a10, a11, a12, a13, a14) (nI r) sp := by
  have e2 : (204 + t) / 100 = 2 := by omega
  refine sr_joinG (z := 1) (A := 204 + t) (H := 6) (fitc := fun f => decide (t = f % 6)) (y := fun f => -1) (g := fun f => sr_b (a2 2) f && decide (t = f % 6)) hr h7 (by omega) (by omega) h9 (fun e => absurd e (by omega)) h8 (by omega) hsp (fun a f hf hs => sr_bd0c (by omega) (by omega) hs) (fun f hf => by rw [e2]; exact hf) ?_ h
  intro p' c fw fm a4 a12 a13 a14 hc hf hsl k0 k1
  rw [e2] at hf
  have q := k1 hf
  have et : t = c % 6 := of_decide_eq_true (Bool.and_eq_true _ _ ▸ hf).2
  have e6 : (604 + t) / 100 = 6 := by omega
  refine nm_r (e' := nI 4) (by decide) (nm_r (sr_3r0 r) ⟨1 + 1, sr_arrP (z := 1) hr h7 (by omega) (by omega) h9 (sr_arrH (n := 0) (z := 1) (p := 4) (H := 604 + t) (X := c / 6) (Y := t) hr h7 (by omega) h6 (by omega) (by omega) (by rw [show (604 + t) / 10 % 10 = 0 by omega]; exact (sr_tv_lo (term := 0) (by omega)).trans hsl.1) (by rw [sr_tv_hi (by omega), show (604 + t) % 10 - 4 = t by omega]) (by omega) ?_)⟩)
  rw [show 6 * (c / 6) + t = c by omega, e6]
  exact q
theorem sr_join1 {post : St2 → Prop} {r : Nat} {sp : Int32} {D : Int64} (hr : r < 14) (h6 : a6 r = nI 202) (h7 : a7 r = nI 2) (h8 : a8 (3 * r) = nI 201) (h9 : a9 (3 * r) = 0) (h8' : a8 (3 * r + 1) = nI 12) (h9' : a9 (3 * r + 1) = 0) (hD : D = if nI (3 * r) = sp then a3 2 else a2 2) (hsp : ¬ nI (3 * r + 1) = sp)
    (h : ∀ (fw fm : Int32) (a4' : Nat → Int64) (a12 a13 a14 : Nat → Int32), (∀ j, j ≠ 2 → a4' j = a4 j) → (∀ i, sr_b (a4' 2) i = true ↔ sr_b (a4 2) i = true ∨ sr_Y0 D (a2 0) 36 i) → post (fc, fd, fs, nI 2, sp, fw, fx, fm, fo, a1, a2, a3, a4', a5, a6, a7, a8, a9, a10, a11, a12, a13, a14)) : wpX_join post (fc, fd, fs, fp, fn, fw, fx, fm, fo, a1, a2, a3, a4, a5, a6, a7, a8, a9, a10, a11, a12, a13, a14) (nI r) sp := by
  refine sr_jtwo hr h7 h9 h9' (fun a12' a13' a14' e12 e12' e13 e14 => ⟨3001, ?_⟩)
  refine (sr_j100b (H := 2) (D := D) (S := a2 0) (b := a4) ?_ ?_ ?_ ?_ 3001).1 0 0 0 fm a4 a13' a14' (by omega) (by omega) (by omega) e13 e14 (fun _ _ => rfl) (fun i => ⟨Or.inl, fun q => q.elim id (fun q => absurd q sr_Y_0)⟩)
  · intro p' c fw fm a4 a13 a14 hc hv k0 k1
    refine sr_bind (d := 0) (w := D) (A := 201) (by omega) hc e12 (by omega) h8 (by omega) hD (fun hb => k0 hb a14 hv) (fun hb a hcp => ?_)
    have hs : sr_q4 a 4 (-1) (-1) (-1) (-1) := ⟨(hcp.2 0 (by omega)).trans (hv 0 (by omega)), (hcp.2 1 (by omega)).trans (hv 1 (by omega)), (hcp.2 2 (by omega)).trans (hv 2 (by omega)), (hcp.2 3 (by omega)).trans (hv 3 (by omega))⟩
    obtain ⟨q1, q2⟩ := sr_bd01 (A := 201) (f := c) (by decide) (by decide) hs
    have lo : ∀ v, v < 4 → sr_bA a 4 201 c v = -1 := fun v v4 => by
      rw [sr_bA_lo v4, hcp.1 v (by omega)]
      exact hv v v4
    show p' (nI (sr_v (sr_bf a 4 201 c))) _
    rw [q1]
    exact k1 hb _ lo q2
  · intro p' c0 c fw fm a4 a13 a14 hc0 hc hv hsl k0 k1
    refine sr_bind (d := 1) (w := a2 0) (A := 12) (by omega) hc e12' (by omega) h8' (by omega) (by rw [if_neg hsp]) (fun hb => k0 (fun z => sr_tf z.1 hb) a14 hv hsl) (fun hb a hcp => ?_)
    have hs : sr_q4 a 8 (nI (c0 / 6)) (nI (c0 % 6)) (-1) (-1) := ⟨(hcp.2 0 (by omega)).trans hsl.1, (hcp.2 1 (by omega)).trans hsl.2.1, (hcp.2 2 (by omega)).trans hsl.2.2.1, (hcp.2 3 (by omega)).trans hsl.2.2.2⟩
    obtain ⟨q1, q2⟩ := sr_bd12 (A := 12) (f := c) hc (by omega) (by decide) (by decide) hs
    have lo : ∀ v, v < 4 → sr_bA a 8 12 c v = -1 := fun v v4 => by
      rw [sr_bA_lo (by omega), hcp.1 v (by omega)]
      exact hv v v4
    have ls : sr_q4 (sr_bA a 8 12 c) 4 (nI (c0 / 6)) (nI (c0 % 6)) (-1) (-1) := by
      refine ⟨?_, ?_, ?_, ?_⟩
      · rw [sr_bA_lo (by omega), hcp.1 _ (by omega)]
        exact hsl.1
      · rw [sr_bA_lo (by omega), hcp.1 _ (by omega)]
        exact hsl.2.1
      · rw [sr_bA_lo (by omega), hcp.1 _ (by omega)]
        exact hsl.2.2.1
      · rw [sr_bA_lo (by omega), hcp.1 _ (by omega)]
        exact hsl.2.2.2
    show p' (nI (sr_v (sr_bf a 8 12 c))) _
    rw [q1]
    by_cases e : c0 % 6 = c / 6
    · rw [decide_eq_true e]
      exact k1 hb e.symm _ lo ls (q2 e)
    · rw [decide_eq_false e]
      exact k0 (fun z => e z.2.symm) _ lo ls
  · intro p' c0 c fw fm a4 a13 a14 hc0 hc hsl k
    exact nm_r (e' := nI 8) (by decide) (nm_r (sr_3r0 r) ⟨2 + 1, sr_arrP (z := 2) hr h7 (by omega) (by omega) h9 (sr_arrP (n := 1) (z := 2) hr h7 (by omega) (by omega) h9' (sr_arrH (n := 0) (z := 2) (p := 8) (H := 202) (X := c0 / 6) (Y := c % 6) hr h7 (by omega) h6 (by omega) (by omega) ((sr_tv_lo (term := 0) (by omega)).trans hsl.1) ((sr_tv_lo (term := 2) (by omega)).trans hsl.2.2.1) (by omega) k))⟩)
  · intro fw fm a4' a13 a14 hj hi
    exact h fw fm a4' a12' a13 a14 hj hi
/-- join of a rule of any kind -/
theorem sr_join {post : St2 → Prop} {t k r : Nat} {sp : Int32} (ht : t < 6) (hr : r < 14) (hrow : sr_row t k r a6 a7 a8 a9) (hsp : sp = -1 ∨ (k = 1 ∧ sp = nI (3 * r)))
    (h : ∀ (fp fn fw fm : Int32) (a4' : Nat → Int64) (a12 a13 a14 : Nat → Int32), (k ≠ 1 → fw = nI (sr_cn (sr_g a2 t k) 36)) → (∀ j, j ≠ 2 * sr_lay k → a4' j = a4 j) → (∀ i, sr_b (a4' (2 * sr_lay k)) i = true ↔ sr_b (a4 (2 * sr_lay k)) i = true ∨ sr_eff a2 (if sp = -1 then a2 2 else a3 2) t k i) → post (fc, fd, fs, fp, fn, fw, fx, fm, fo, a1, a2, a3, a4', a5, a6, a7, a8, a9, a10, a11, a12, a13, a14)) : wpX_join post (fc, fd, fs, fp, fn, fw, fx, fm, fo, a1, a2, a3, a4, a5, a6, a7, a8, a9, a10, a11, a12, a13, a14) (nI r) sp := by
  rcases hrow with ⟨rfl, h6, h7, h8, h9⟩ | ⟨rfl, h6, h7, h8, h9, h8', h9'⟩ | ⟨rfl, h6, h7, h8, h9, h8', h9'⟩ | ⟨rfl, h6, h7, h8, h9⟩
  · have e : sp = -1 := hsp.elim id (fun z => absurd z.1 (by decide))
    subst e
    refine sr_join0 hr h6 h7 h8 h9 (sr_nm1 (by omega)) (fun fm a4' a12 a13 a14 hj hi => h _ _ _ fm a4' a12 a13 a14 (fun _ => rfl) hj (fun i => ?_))
    exact (hi i).trans ⟨fun q => q.elim Or.inl (fun q => Or.inr (Or.inr ⟨by decide, q⟩)), fun q => q.elim Or.inl (fun q => q.elim (fun q => absurd q.1 (by decide)) (fun q => Or.inr q.2))⟩
  · refine sr_join1 (D := if sp = -1 then a2 2 else a3 2) hr h6 h7 h8 h9 h8' h9' ?_ ?_ (fun fw fm a4' a12 a13 a14 hj hi => h _ _ fw fm a4' a12 a13 a14 (fun z => absurd rfl z) hj (fun i => ?_))
    · rcases hsp with e | ⟨_, e⟩
      · rw [e, if_pos rfl, if_neg (sr_nm1 (by omega))]
      · rw [e, if_neg (sr_nm1 (by omega)), if_pos rfl]
    · rcases hsp with e | ⟨_, e⟩
      · rw [e]
        exact sr_nm1 (by omega)
      · rw [e]
        exact fun z => absurd ((nI_eq (by omega) (by omega)).mp z) (by omega)
    · exact (hi i).trans ⟨fun q => q.elim Or.inl (fun q => Or.inr (Or.inl ⟨rfl, q⟩)), fun q => q.elim Or.inl (fun q => q.elim (fun q => Or.inr q.2) (fun q => absurd rfl q.1))⟩
  · have e : sp = -1 := hsp.elim id (fun z => absurd z.1 (by decide))
    subst e
    refine sr_join2 hr h6 h7 h8 h9 h8' h9' (sr_nm1 (by omega)) (fun fm a4' a12 a13 a14 hj hi => h _ _ _ fm a4' a12 a13 a14 (fun _ => rfl) hj (fun i => ?_))
    exact (hi i).trans ⟨fun q => q.elim Or.inl (fun q => Or.inr (Or.inr ⟨by decide, q⟩)), fun q => q.elim Or.inl (fun q => q.elim (fun q => absurd q.1 (by decide)) (fun q => Or.inr q.2))⟩
  · have e : sp = -1 := hsp.elim id (fun z => absurd z.1 (by decide))
    subst e
    refine sr_join3 ht hr h6 h7 h8 h9 (sr_nm1 (by omega)) (fun fm a4' a12 a13 a14 hj hi => h _ _ _ fm a4' a12 a13 a14 (fun _ => rfl) hj (fun i => ?_))
    exact (hi i).trans ⟨fun q => q.elim Or.inl (fun q => Or.inr (Or.inr ⟨by decide, q⟩)), fun q => q.elim Or.inl (fun q => q.elim (fun q => absurd q.1 (by decide)) (fun q => Or.inr q.2))⟩
end
end
section
/-! settle, joinNew -/
section
variable {fc fd fs fp fn fw fx fm fo : Int32} {a1 a2 a3 a4 a5 : Nat → Int64} {a6 a7 a8 a9 a10 a11 a12 a13 a14 : Nat → Int32}
/-- settle, below m -/
def sr_set (a2 a4 a2' a3' a4' : Nat → Int64) (m : Nat) : Prop := ∀ j, j < m → a3' j = a4 j &&& (a2 j ^^^ (-1)) ∧ a2' j = a2 j ||| a3' j ∧ a4' j = 0
def sr_any (r : Int32) (a3 : Nat → Int64) (m : Nat) : Prop := (r = 0 ∧ ∀ j, j < m → a3 j = 0) ∨ (r = 1 ∧ ∃ j, j < m ∧ ¬ a3 j = 0)
theorem sr_set_step {a2 a4 b2 b3 b4 : Nat → Int64} {i : Nat} (h : sr_set a2 a4 b2 b3 b4 i) (h2 : b2 i = a2 i) (h4 : b4 i = a4 i) :
    sr_set a2 a4 (vp_updL b2 i (b2 i ||| (b4 i &&& (b2 i ^^^ (-1))))) (vp_updL b3 i (b4 i &&& (b2 i ^^^ (-1)))) (vp_updL b4 i 0) (i + 1) := by
  intro j hj
  by_cases e : j = i
  · subst e
    rw [pk_uLs, pk_uLs, pk_uLs, h2, h4]
    exact ⟨rfl, rfl, rfl⟩
  · rw [pk_uLn e, pk_uLn e, pk_uLn e]
    exact h j (by omega)
theorem sr_settle4 {post : Int32 → St2 → Prop} (h : ∀ (a2' a3' a4' : Nat → Int64) (r : Int32), sr_set a2 a4 a2' a3' a4' 8 → sr_any r a3' 8 → post r (fc, fd, fs, fp, fn, fw, fx, fm, fo, a1, a2', a3', a4', a5, a6, a7, a8, a9, a10, a11, a12, a13, a14)) :
    ∀ (n i : Nat) (x : Int32) (b2 b3 b4 : Nat → Int64), i ≤ 8 → 8 < n + i → sr_set a2 a4 b2 b3 b4 i → sr_any x b3 i → (∀ j, i ≤ j → b2 j = a2 j ∧ b4 j = a4 j) → wX_settle_4 post fc fd fs fp fn fw fx fm fo n x (nI i) a1 b2 b3 b4 a5 a6 a7 a8 a9 a10 a11 a12 a13 a14 := by
  intro n
  induction n with
  | zero =>
    intro i x b2 b3 b4 h1 h2
    omega
  | succ n ih =>
    intro i x b2 b3 b4 h1 h2 hs ha hr
    have V : i < 8 → vp_in (nI i) 8 := fun hi => pk_in i 8 hi
    refine pk_le 8 i (fun z => ?_) (fun z => ⟨V z, V z, V z, nm_r (e' := vp_updL b3 i (b4 i &&& (b2 i ^^^ (-1)))) (by rw [nI_clamp (by omega)]) ⟨V z, V z, V z, nm_r (e' := vp_updL b2 i (b2 i ||| (b4 i &&& (b2 i ^^^ (-1))))) (by rw [nI_clamp (by omega), pk_uLs]) ⟨V z, nm_r (e' := vp_updL b4 i 0) (by rw [nI_clamp (by omega)]) ?_⟩⟩⟩)
    · have e : i = 8 := by omega
      subst e
      refine ⟨?_, h b2 b3 b4 x hs ha⟩
      rcases ha with ⟨e, _⟩ | ⟨e, _⟩ <;> subst e <;> rfl
    · have hs' := sr_set_step hs (hr i (Nat.le_refl i)).1 (hr i (Nat.le_refl i)).2
      have hr' : ∀ j, i + 1 ≤ j → vp_updL b2 i (b2 i ||| (b4 i &&& (b2 i ^^^ (-1)))) j = a2 j ∧ vp_updL b4 i 0 j = a4 j := fun j hj => by
        rw [pk_uLn (by omega), pk_uLn (by omega)]
        exact hr j (by omega)
      rcases ha with ⟨e, h0⟩ | ⟨e, j0, hj0, hn0⟩
      · subst e
        refine br_t rfl ⟨V z, ?_⟩
        rw [nI_clamp (by omega), pk_uLs]
        by_cases c : b4 i &&& (b2 i ^^^ (-1)) = 0
        · refine br_t c (nm_r (nI_1 i) (ih (i + 1) 0 _ _ _ (by omega) (by omega) hs' (Or.inl ⟨rfl, fun j hj => ?_⟩) hr'))
          by_cases e : j = i
          · subst e
            rw [pk_uLs, c]
          · rw [pk_uLn e]
            exact h0 j (by omega)
        · exact br_f c (nm_r (nI_1 i) (ih (i + 1) 1 _ _ _ (by omega) (by omega) hs' (Or.inr ⟨rfl, i, by omega, by rw [pk_uLs]; exact c⟩) hr'))
      · subst e
        exact br_f (by decide) (nm_r (nI_1 i) (ih (i + 1) 1 _ _ _ (by omega) (by omega) hs' (Or.inr ⟨rfl, j0, by omega, by rw [pk_uLn (by omega)]; exact hn0⟩) hr'))
/-- settle -/
theorem sr_settle {post : Int32 → St2 → Prop} (h : ∀ (a2' a3' a4' : Nat → Int64) (r : Int32), sr_set a2 a4 a2' a3' a4' 8 → sr_any r a3' 8 → post r (fc, fd, fs, fp, fn, fw, fx, fm, fo, a1, a2', a3', a4', a5, a6, a7, a8, a9, a10, a11, a12, a13, a14)) : wpX_settle post (fc, fd, fs, fp, fn, fw, fx, fm, fo, a1, a2, a3, a4, a5, a6, a7, a8, a9, a10, a11, a12, a13, a14) :=
  ⟨9, sr_settle4 h 9 0 0 a2 a3 a4 (by omega) (by omega) (fun j hj => absurd hj (by omega)) (Or.inl ⟨rfl, fun j hj => absurd hj (by omega)⟩) (fun j _ => ⟨rfl, rfl⟩)⟩
/-- one turn of joinNew -/
theorem sr_jn {post : St2 → Prop} {l n m q r z H A : Nat} (hfc : fc = nI m) (hm : m ≤ 14) (hq : q < 3 * m) (hr : q / 3 = r) (h7 : a7 r = nI z) (hz : z ≤ 3) (h6 : a6 r = nI H) (hH : H < 800) (h8 : q % 3 < z → a8 q = nI A) (hA : A < 800) (hl : l < 4)
    (hJ : ¬ (q % 3 < z ∧ H / 200 = l ∧ ¬ nI r = fs ∧ a9 q = 0 ∧ ¬ a3 (A / 100) = 0) → wX_joinNew_2 post (nI l) n (nI (q + 1)) fc fd fs fp fn fw fx fm fo a1 a2 a3 a4 a5 a6 a7 a8 a9 a10 a11 a12 a13 a14)
    (hK : q % 3 < z → H / 200 = l → ¬ nI r = fs → a9 q = 0 → ¬ a3 (A / 100) = 0 → ∀ p' : St2 → Prop, (∀ (fp' fn' fw' fm' : Int32) (a4' : Nat → Int64) (a12' a13' a14' : Nat → Int32), wX_joinNew_2 post (nI l) n (nI (q + 1)) fc fd fs fp' fn' fw' fx fm' fo a1 a2 a3 a4' a5 a6 a7 a8 a9 a10 a11 a12' a13' a14' → p' (fc, fd, fs, fp', fn', fw', fx, fm', fo, a1, a2, a3, a4', a5, a6, a7, a8, a9, a10, a11, a12', a13', a14')) → wpX_join p' (fc, fd, fs, fp, fn, fw, fx, fm, fo, a1, a2, a3, a4, a5, a6, a7, a8, a9, a10, a11, a12, a13, a14) (nI r) (nI q)) : wX_joinNew_2 post (nI l) (n + 1) (nI q) fc fd fs fp fn fw fx fm fo a1 a2 a3 a4 a5 a6 a7 a8 a9 a10 a11 a12 a13 a14 := by
  subst hfc
  have e3 : nI q / 3 = nI r := by rw [show (3 : Int32) = nI 3 from rfl, pk_div (by omega) (by omega) (by omega), hr]
  have em : nI q - nI q / 3 * 3 = nI (q % 3) := by rw [show (3 : Int32) = nI 3 from rfl, pk_rem (by omega) (by omega) (by omega)]
  have c7 : a7 (nI r).toNatClampNeg = nI z := by rw [nI_clamp (by omega), h7]
  have c6 : a6 (nI r).toNatClampNeg = nI H := by rw [nI_clamp (by omega), h6]
  have e2 : a6 (nI r).toNatClampNeg / 200 = nI (H / 200) := by rw [c6, sr_d200 hH]
  have skip : ¬ (q % 3 < z ∧ H / 200 = l ∧ ¬ nI r = fs ∧ a9 q = 0 ∧ ¬ a3 (A / 100) = 0) → wX_joinNew_53 post (wX_joinNew_2 post (nI l) n) (nI l) (nI q) (nI r) (nI m) fd fs fp fn fw fx fm fo a1 a2 a3 a4 a5 a6 a7 a8 a9 a10 a11 a12 a13 a14 := fun hc => br_t rfl (nm_r (nI_1 q) (hJ hc))
  refine pk_le (3 * m) q (fun z => absurd z (by omega)) (fun _ => ⟨by decide, nm_r e3 ⟨by decide, pk_in r 14 (by omega), ?_⟩⟩) (sr_3r0 m)
  rw [em]
  refine pk_le z (q % 3) (fun g => skip (fun c => absurd c.1 (by omega))) (fun g => ⟨pk_in r 14 (by omega), by decide, ?_⟩) c7
  refine pk_eq (H / 200) l (fun gl => br_c (fun gs => skip (fun c => c.2.2.1 gs)) (fun gs => ?_)) (fun gl => skip (fun c => gl c.2.1)) e2
  have c8 : a8 (nI q).toNatClampNeg = nI A := by rw [nI_clamp (by omega), h8 g]
  have e1 : a8 (nI q).toNatClampNeg / 100 = nI (A / 100) := by rw [c8, sr_d100 hA]
  refine br_f (by decide) ⟨pk_in q 42 (by omega), ?_⟩
  rw [show a9 (nI q).toNatClampNeg = a9 q by rw [nI_clamp (by omega)]]
  refine br_c (fun g9 => ⟨pk_in q 42 (by omega), by decide, pk_in (A / 100) 8 (by omega) e1, ?_⟩) (fun g9 => nm_r (nI_1 q) (hJ (fun c => g9 c.2.2.2.1)))
  rw [show a3 (a8 (nI q).toNatClampNeg / 100).toNatClampNeg = a3 (A / 100) by rw [e1, nI_clamp (by omega)]]
  refine br_c (fun ga => nm_r (nI_1 q) (hJ (fun c => c.2.2.2.2 ga))) (fun ga => hK g gl gs g9 ga _ (fun fp' fn' fw' fm' a4' a12' a13' a14' t => nm_r (nI_1 q) t))
/-- the table of rules: n rows, row r of kind kd r -/
def sr_tab (n : Nat) (kd : Nat → Nat) (t : Nat) (fc : Int32) (a6 a7 a8 a9 : Nat → Int32) : Prop := fc = nI n ∧ n ≤ 14 ∧ 2 ≤ n ∧ t < 6 ∧ kd 0 = 0 ∧ kd 1 = 1 ∧ (∀ r, 2 ≤ r → r < n → 2 ≤ kd r) ∧ ∀ r, r < n → sr_row t (kd r) r a6 a7 a8 a9
/-- what joinNew derives up to place q -/
def sr_jE (kd : Nat → Nat) (fs : Int32) (l : Nat) (D S : Int64) (q i : Nat) : Prop := ∃ r, 3 * r < q ∧ kd r = 1 ∧ l = 1 ∧ ¬ nI r = fs ∧ sr_Y0 D S 36 i
theorem sr_Y0D {S : Int64} {c i : Nat} : ¬ sr_Y0 0 S c i := fun ⟨f, z, _, _, h, _⟩ => sr_tf h (sr_0 f)
theorem sr_jE_no {kd : Nat → Nat} {fs : Int32} {l : Nat} {D S : Int64} {q i : Nat} (h : ¬ (q % 3 = 0 ∧ kd (q / 3) = 1 ∧ l = 1 ∧ ¬ nI (q / 3) = fs ∧ ¬ D = 0)) : sr_jE kd fs l D S (q + 1) i ↔ sr_jE kd fs l D S q i := by
  constructor
  · rintro ⟨r, h1, h2, h3, h4, h5⟩
    by_cases e : 3 * r = q
    · have er : q / 3 = r := by omega
      refine absurd ⟨by omega, by rw [er]; exact h2, h3, by rw [er]; exact h4, fun z => ?_⟩ h
      subst z
      exact sr_Y0D h5
    · exact ⟨r, by omega, h2, h3, h4, h5⟩
  · rintro ⟨r, h1, h2⟩
    exact ⟨r, by omega, h2⟩
theorem sr_jE_yes {kd : Nat → Nat} {fs : Int32} {l : Nat} {D S : Int64} {r i : Nat} (h1 : kd r = 1) (h2 : l = 1) (h3 : ¬ nI r = fs) : sr_jE kd fs l D S (3 * r + 1) i ↔ sr_jE kd fs l D S (3 * r) i ∨ sr_Y0 D S 36 i := by
  constructor
  · rintro ⟨r', g1, g2, g3, g4, g5⟩
    exact Or.inr g5
  · rintro (⟨r', g1, g2⟩ | g)
    · exact ⟨r', by omega, g2⟩
    · exact ⟨r, by omega, h1, h2, h3, g⟩
/-- joinNew's loop -/
theorem sr_jn2 {post : St2 → Prop} {m l t : Nat} {kd : Nat → Nat} {b : Nat → Int64} (T : sr_tab m kd t fc a6 a7 a8 a9) (hl : l < 4) (h3 : ∀ j, j < 8 → j ≠ 2 * l → a3 j = 0)
    (h : ∀ (fp fn fw fm : Int32) (a4 : Nat → Int64) (a12 a13 a14 : Nat → Int32), (∀ j, j ≠ 2 → a4 j = b j) → (∀ i, sr_b (a4 2) i = true ↔ sr_b (b 2) i = true ∨ sr_jE kd fs l (a3 2) (a2 0) (3 * m) i) → post (fc, fd, fs, fp, fn, fw, fx, fm, fo, a1, a2, a3, a4, a5, a6, a7, a8, a9, a10, a11, a12, a13, a14)) :
    ∀ (n q : Nat) (fp fn fw fm : Int32) (a4 : Nat → Int64) (a12 a13 a14 : Nat → Int32), q ≤ 3 * m → 3 * m < n + q → (∀ j, j ≠ 2 → a4 j = b j) → (∀ i, sr_b (a4 2) i = true ↔ sr_b (b 2) i = true ∨ sr_jE kd fs l (a3 2) (a2 0) q i) → wX_joinNew_2 post (nI l) n (nI q) fc fd fs fp fn fw fx fm fo a1 a2 a3 a4 a5 a6 a7 a8 a9 a10 a11 a12 a13 a14 := by
  obtain ⟨hfc, hm, hm2, ht, k0, k1, k2, hrow⟩ := T
  intro n
  induction n with
  | zero =>
    intro q fp fn fw fm a4 a12 a13 a14 h1 h2
    omega
  | succ n ih =>
    intro q fp fn fw fm a4 a12 a13 a14 h1 h2 hj hi
    by_cases e : q = 3 * m
    · subst e
      exact pk_le (3 * m) (3 * m) (fun _ => h fp fn fw fm a4 a12 a13 a14 hj hi) (fun z => absurd z (by omega)) (by rw [hfc]; exact sr_3r0 m)
    · have hq : q < 3 * m := by omega
      have skip : ¬ (q % 3 = 0 ∧ kd (q / 3) = 1 ∧ l = 1 ∧ ¬ nI (q / 3) = fs ∧ ¬ a3 2 = 0) → wX_joinNew_2 post (nI l) n (nI (q + 1)) fc fd fs fp fn fw fx fm fo a1 a2 a3 a4 a5 a6 a7 a8 a9 a10 a11 a12 a13 a14 := fun hc =>
        ih (q + 1) fp fn fw fm a4 a12 a13 a14 (by omega) (by omega) hj (fun i => by rw [hi i, sr_jE_no hc])
      have hk := hrow (q / 3) (by omega)
      have e3 : q = 3 * (q / 3) + q % 3 := by omega
      rcases hk with ⟨ek, h6, h7, h8, h9⟩ | ⟨ek, h6, h7, h8, h9, h8', h9'⟩ | ⟨ek, h6, h7, h8, h9, h8', h9'⟩ | ⟨ek, h6, h7, h8, h9⟩
      · refine sr_jn (A := 1) hfc hm hq rfl h7 (by omega) h6 (by omega) (fun g => by rw [e3, show q % 3 = 0 by omega]; exact h8) (by omega) hl (fun _ => skip (fun c => absurd (ek.symm.trans c.2.1) (by decide))) (fun g gl gs g9 ga => ?_)
        exact absurd (h3 0 (by omega) (by omega)) ga
      · by_cases e0 : q % 3 = 0
        · have eq3 : q = 3 * (q / 3) := by omega
          refine sr_jn (A := 201) hfc hm hq rfl h7 (by omega) h6 (by omega) (fun g => by rw [eq3]; exact h8) (by omega) hl (fun c => skip (fun d => c ⟨by omega, d.2.2.1.symm, d.2.2.2.1, by rw [eq3]; exact h9, d.2.2.2.2⟩)) (fun g gl gs g9 ga p' hp => ?_)
          have gl' : l = 1 := gl.symm
          refine sr_join (k := 1) ht (by omega) (Or.inr (Or.inl ⟨rfl, h6, h7, h8, h9, h8', h9'⟩)) (Or.inr ⟨rfl, by rw [← eq3]⟩) (fun fp' fn' fw' fm' a4' a12' a13' a14' _ hj' hi' => hp fp' fn' fw' fm' a4' a12' a13' a14' ?_)
          refine ih (q + 1) fp' fn' fw' fm' a4' a12' a13' a14' (by omega) (by omega) (fun j z => (hj' j z).trans (hj j z)) (fun i => ?_)
          have t1 := hi' i
          rw [if_neg (sr_nm1 (by omega))] at t1
          have t2 : sr_jE kd fs l (a3 2) (a2 0) (q + 1) i ↔ sr_jE kd fs l (a3 2) (a2 0) q i ∨ sr_Y0 (a3 2) (a2 0) 36 i := by
            have t3 := sr_jE_yes (kd := kd) (D := a3 2) (S := a2 0) (i := i) ek gl' gs
            rw [← eq3] at t3
            exact t3
          rw [t2]
          refine t1.trans ?_
          rw [show (2 * sr_lay 1) = 2 from rfl, hi i]
          constructor
          · rintro ((c | c) | c)
            · exact Or.inl c
            · exact Or.inr (Or.inl c)
            · rcases c with ⟨_, c⟩ | ⟨c, _⟩
              · exact Or.inr (Or.inr c)
              · exact absurd rfl c
          · rintro (c | c | c)
            · exact Or.inl (Or.inl c)
            · exact Or.inl (Or.inr c)
            · exact Or.inr (Or.inl ⟨rfl, c⟩)
        · refine sr_jn (A := 12) hfc hm hq rfl h7 (by omega) h6 (by omega) (fun g => by rw [e3, show q % 3 = 1 by omega]; exact h8') (by omega) hl (fun _ => skip (fun c => e0 c.1)) (fun g gl gs g9 ga => ?_)
          have gl' : 1 = l := gl
          exact absurd (h3 0 (by omega) (by omega)) ga
      · by_cases e0 : q % 3 = 0
        · refine sr_jn (A := 1) hfc hm hq rfl h7 (by omega) h6 (by omega) (fun g => by rw [e3, e0]; exact h8) (by omega) hl (fun _ => skip (fun c => absurd (ek.symm.trans c.2.1) (by decide))) (fun g gl gs g9 ga => ?_)
          have gl' : 2 = l := gl
          exact absurd (h3 0 (by omega) (by omega)) ga
        · refine sr_jn (A := 210) hfc hm hq rfl h7 (by omega) h6 (by omega) (fun g => by rw [e3, show q % 3 = 1 by omega]; exact h8') (by omega) hl (fun _ => skip (fun c => e0 c.1)) (fun g gl gs g9 ga => ?_)
          rw [e3, show q % 3 = 1 by omega, h9'] at g9
          exact absurd g9 (by decide)
      · refine sr_jn (A := 204 + t) hfc hm hq rfl h7 (by omega) h6 (by omega) (fun g => by rw [e3, show q % 3 = 0 by omega]; exact h8) (by omega) hl (fun _ => skip (fun c => absurd (ek.symm.trans c.2.1) (by decide))) (fun g gl gs g9 ga => ?_)
        have gl' : 3 = l := by omega
        rw [show (204 + t) / 100 = 2 by omega] at ga
        exact absurd (h3 2 (by omega) (by omega)) ga
/-- joinNew -/
theorem sr_joinNew {post : St2 → Prop} {m l t : Nat} {kd : Nat → Nat} (T : sr_tab m kd t fc a6 a7 a8 a9) (hl : l < 4) (h3 : ∀ j, j < 8 → j ≠ 2 * l → a3 j = 0)
    (h : ∀ (fp fn fw fm : Int32) (a4' : Nat → Int64) (a12 a13 a14 : Nat → Int32), (∀ j, j ≠ 2 → a4' j = a4 j) → (∀ i, sr_b (a4' 2) i = true ↔ sr_b (a4 2) i = true ∨ sr_jE kd fs l (a3 2) (a2 0) (3 * m) i) → post (fc, fd, fs, fp, fn, fw, fx, fm, fo, a1, a2, a3, a4', a5, a6, a7, a8, a9, a10, a11, a12, a13, a14)) : wpX_joinNew post (fc, fd, fs, fp, fn, fw, fx, fm, fo, a1, a2, a3, a4, a5, a6, a7, a8, a9, a10, a11, a12, a13, a14) (nI l) :=
  ⟨3 * m + 1, sr_jn2 (b := a4) T hl h3 h (3 * m + 1) 0 fp fn fw fm a4 a12 a13 a14 (by omega) (by omega) (fun _ _ => rfl) (fun i => ⟨Or.inl, fun q => q.elim id (fun ⟨r, z, _⟩ => absurd z (by omega))⟩)⟩
end
end
section
/-! solve -/
section
variable {fc fd fs fp fn fw fx fm fo : Int32} {a1 a2 a3 a4 a5 : Nat → Int64} {a6 a7 a8 a9 a10 a11 a12 a13 a14 : Nat → Int32}
theorem sr_z1 (x : Int64) : 0 &&& x = 0 := sr_ext (fun i _ => by rw [sr_and, sr_0, Bool.false_and])
theorem sr_z2 (x : Int64) : x ||| 0 = x := sr_ext (fun i _ => by rw [sr_or, sr_0, Bool.or_false])
theorem sr_zero {w : Int64} (h : ∀ i, sr_b w i = false) : w = 0 := sr_ext (fun i _ => (h i).trans (sr_0 i).symm)
theorem sr_ne0 {w : Int64} (h : ¬ w = 0) : ∃ i, sr_b w i = true := Classical.byContradiction (fun z => h (sr_zero (fun i => sr_nt (fun e => z ⟨i, e⟩))))
/-- what the rules of layer l in the rows below q derive -/
def sr_lE (kd : Nat → Nat) (fs : Int32) (t l : Nat) (a2 : Nat → Int64) (q i : Nat) : Prop := ∃ r, r < q ∧ sr_lay (kd r) = l ∧ ¬ nI r = fs ∧ sr_eff a2 (a2 2) t (kd r) i
theorem sr_lE_no {kd : Nat → Nat} {fs : Int32} {t l : Nat} {a2 : Nat → Int64} {q i : Nat} (h : ¬ (sr_lay (kd q) = l ∧ ¬ nI q = fs)) : sr_lE kd fs t l a2 (q + 1) i ↔ sr_lE kd fs t l a2 q i := by
  constructor
  · rintro ⟨r, h1, h2, h3, h4⟩
    by_cases e : r = q
    · subst e
      exact absurd ⟨h2, h3⟩ h
    · exact ⟨r, by omega, h2, h3, h4⟩
  · rintro ⟨r, h1, h2⟩
    exact ⟨r, by omega, h2⟩
theorem sr_lE_yes {kd : Nat → Nat} {fs : Int32} {t l : Nat} {a2 : Nat → Int64} {q i : Nat} (h1 : sr_lay (kd q) = l) (h2 : ¬ nI q = fs) : sr_lE kd fs t l a2 (q + 1) i ↔ sr_lE kd fs t l a2 q i ∨ sr_eff a2 (a2 2) t (kd q) i := by
  constructor
  · rintro ⟨r, g1, g2, g3, g4⟩
    by_cases e : r = q
    · subst e
      exact Or.inr g4
    · exact Or.inl ⟨r, by omega, g2, g3, g4⟩
  · rintro (⟨r, g1, g2⟩ | g)
    · exact ⟨r, by omega, g2⟩
    · exact ⟨q, by omega, h1, h2, g⟩
theorem sr_rowH {t k r : Nat} (ht : t < 6) (h : sr_row t k r a6 a7 a8 a9) : ∃ H, a6 r = nI H ∧ H < 800 ∧ H / 200 = sr_lay k := by
  rcases h with ⟨rfl, h6, _⟩ | ⟨rfl, h6, _⟩ | ⟨rfl, h6, _⟩ | ⟨rfl, h6, _⟩
  · exact ⟨201, h6, by omega, rfl⟩
  · exact ⟨202, h6, by omega, rfl⟩
  · exact ⟨401, h6, by omega, rfl⟩
  · refine ⟨604 + t, h6, by omega, ?_⟩
    show (604 + t) / 200 = 3
    omega
/-- the first pass over a layer's rules -/
theorem sr_s49 {post : St2 → Prop} {J} {m l t : Nat} {kd : Nat → Nat} (T : sr_tab m kd t fc a6 a7 a8 a9) (hl : l < 4)
    (h : ∀ (fp fn fw fx fm : Int32) (a4' : Nat → Int64) (a12 a13 a14 : Nat → Int32), (∀ j, j < 8 → j ≠ 2 * l → a4' j = 0) → (∀ i, sr_b (a4' (2 * l)) i = true ↔ sr_lE kd fs t l a2 m i) → ∀ (a2' a3' a4'' : Nat → Int64) (rr : Int32), sr_set a2 a4' a2' a3' a4'' 8 → sr_any rr a3' 8 → ∃ n, wX_solve_102 post J (nI l) n rr 0 fc fd fs fp fn fw fx fm fo a1 a2' a3' a4'' a5 a6 a7 a8 a9 a10 a11 a12 a13 a14) :
    ∀ (n q : Nat) (fp fn fw fx fm : Int32) (a4 : Nat → Int64) (a12 a13 a14 : Nat → Int32), q ≤ m → m < n + q → (∀ j, j < 8 → j ≠ 2 * l → a4 j = 0) → (∀ i, sr_b (a4 (2 * l)) i = true ↔ sr_lE kd fs t l a2 q i) → wX_solve_49 post J (nI l) n (nI q) fc fd fs fp fn fw fx fm fo a1 a2 a3 a4 a5 a6 a7 a8 a9 a10 a11 a12 a13 a14 := by
  obtain ⟨hfc, hm, hm2, ht, k0, k1, k2, hrow⟩ := T
  intro n
  induction n with
  | zero =>
    intro q fp fn fw fx fm a4 a12 a13 a14 h1 h2
    omega
  | succ n ih =>
    intro q fp fn fw fx fm a4 a12 a13 a14 h1 h2 hj hi
    by_cases e : q = m
    · subst e
      exact pk_le q q (fun _ => sr_settle (h fp fn fw fx fm a4 a12 a13 a14 hj hi)) (fun z => absurd z (by omega)) hfc
    · obtain ⟨H, h6, hH, hlay⟩ := sr_rowH ht (hrow q (by omega))
      have c6 : a6 (nI q).toNatClampNeg / 200 = nI (H / 200) := by rw [nI_clamp (by omega), h6, sr_d200 hH]
      have skip : ¬ (sr_lay (kd q) = l ∧ ¬ nI q = fs) → wX_solve_49 post J (nI l) n (nI (q + 1)) fc fd fs fp fn fw fx fm fo a1 a2 a3 a4 a5 a6 a7 a8 a9 a10 a11 a12 a13 a14 := fun hc => ih (q + 1) fp fn fw fx fm a4 a12 a13 a14 (by omega) (by omega) hj (fun i => by rw [hi i, sr_lE_no hc])
      refine pk_le m q (fun z => absurd z (by omega)) (fun _ => ⟨pk_in q 14 (by omega), by decide, ?_⟩) hfc
      refine pk_eq (H / 200) l (fun gl => br_c (fun gs => nm_r (nI_1 q) (skip (fun c => c.2 gs))) (fun gs => ?_)) (fun gl => nm_r (nI_1 q) (skip (fun c => gl (hlay.trans c.1)))) c6
      have gl' : sr_lay (kd q) = l := hlay.symm.trans gl
      refine sr_join (k := kd q) ht (by omega) (hrow q (by omega)) (Or.inl rfl) (fun fp' fn' fw' fm' a4' a12' a13' a14' _ hj' hi' => nm_r (nI_1 q) (ih (q + 1) fp' fn' fw' _ fm' a4' a12' a13' a14' (by omega) (by omega) (fun j j8 jl => ?_) (fun i => ?_)))
      · rw [hj' j (by rw [gl']; exact jl)]
        exact hj j j8 jl
      · have t1 := hi' i
        rw [gl', if_pos rfl, hi i] at t1
        rw [sr_lE_yes gl' gs]
        exact t1
/-- the rounds of a layer whose rules ask lower layers alone -/
theorem sr_s102F {post : St2 → Prop} {J} {m l t : Nat} {kd : Nat → Nat} {rr : Int32} (T : sr_tab m kd t fc a6 a7 a8 a9) (hl : l < 4) (hl1 : l ≠ 1) (h4 : ∀ j, j < 8 → a4 j = 0) (h3 : ∀ j, j < 8 → j ≠ 2 * l → a3 j = 0) (hr : sr_any rr a3 8)
    (h : ∀ (fp fn fw fm : Int32) (a2' a3' a4' : Nat → Int64) (a12 a13 a14 : Nat → Int32), (∀ j, j < 8 → a4' j = 0) → (∀ j, j < 8 → a2' j = a2 j) → J (nI (l + 1)) fc fd fs fp fn fw fx fm fo a1 a2' a3' a4' a5 a6 a7 a8 a9 a10 a11 a12 a13 a14) : ∃ n, wX_solve_102 post J (nI l) n rr 0 fc fd fs fp fn fw fx fm fo a1 a2 a3 a4 a5 a6 a7 a8 a9 a10 a11 a12 a13 a14 := by
  refine ⟨0 + 1 + 1, pk_le 74 0 (fun z => absurd z (by omega)) (fun _ => ?_)⟩
  rcases hr with ⟨e, _⟩ | ⟨e, _⟩
  · exact br_t e (nm_r (nI_1 l) (h _ _ _ _ a2 a3 a4 _ _ _ h4 (fun _ _ => rfl)))
  · subst e
    refine br_f (by decide) (sr_joinNew T hl h3 (fun fp fn fw fm a4' a12 a13 a14 hj hi => sr_settle (fun a2' a3' a4'' rr hs ha => nm_r (e' := nI 1) (by decide) ?_)))
    have z4 : ∀ j, j < 8 → a4' j = 0 := by
      intro j j8
      by_cases e : j = 2
      · subst e
        refine sr_zero (fun i => sr_nt (fun z => ?_))
        rcases (hi i).mp z with c | ⟨r, _, _, c, _⟩
        · rw [h4 2 (by omega)] at c
          exact sr_tf c (sr_0 i)
        · exact hl1 c
      · rw [hj j e]
        exact h4 j j8
    have z3 : ∀ j, j < 8 → a3' j = 0 := fun j j8 => by rw [(hs j j8).1, z4 j j8, sr_z1]
    have er : rr = 0 := by
      rcases ha with ⟨e, _⟩ | ⟨_, j, j8, c⟩
      · exact e
      · exact absurd (z3 j j8) c
    exact pk_le 74 1 (fun z => absurd z (by omega)) (fun _ => br_t er (nm_r (nI_1 l) (h _ _ _ _ a2' a3' a4'' _ _ _ (fun j j8 => (hs j j8).2.2) (fun j j8 => by rw [(hs j j8).2.1, z3 j j8, sr_z2]))))
/-- such a layer -/
theorem sr_layF {post : St2 → Prop} {J} {m l t : Nat} {kd : Nat → Nat} (T : sr_tab m kd t fc a6 a7 a8 a9) (hl : l < 4) (hl1 : l ≠ 1) (h4 : ∀ j, j < 8 → a4 j = 0)
    (h : ∀ (fp fn fw fx fm : Int32) (a2' a3' a4' : Nat → Int64) (a12 a13 a14 : Nat → Int32), (∀ j, j < 8 → a4' j = 0) → (∀ j, j < 8 → j ≠ 2 * l → a2' j = a2 j) → (∀ i, sr_b (a2' (2 * l)) i = true ↔ sr_b (a2 (2 * l)) i = true ∨ sr_lE kd fs t l a2 m i) → J (nI (l + 1)) fc fd fs fp fn fw fx fm fo a1 a2' a3' a4' a5 a6 a7 a8 a9 a10 a11 a12 a13 a14) : ∃ n, wX_solve_49 post J (nI l) n 0 fc fd fs fp fn fw fx fm fo a1 a2 a3 a4 a5 a6 a7 a8 a9 a10 a11 a12 a13 a14 := by
  refine ⟨m + 1, sr_s49 T hl (fun fp fn fw fx fm a4' a12 a13 a14 hj hi a2' a3' a4'' rr hs ha => ?_) (m + 1) 0 fp fn fw fx fm a4 a12 a13 a14 (by omega) (by omega) (fun j j8 _ => h4 j j8) (fun i => ?_)⟩
  · have z3 : ∀ j, j < 8 → j ≠ 2 * l → a3' j = 0 := fun j j8 jl => by rw [(hs j j8).1, hj j j8 jl, sr_z1]
    refine sr_s102F T hl hl1 (fun j j8 => (hs j j8).2.2) z3 ha (fun fp fn fw fm b2 b3 b4 a12 a13 a14 g4 g2 => h fp fn fw fx fm b2 b3 b4 a12 a13 a14 g4 (fun j j8 jl => ?_) (fun i => ?_))
    · rw [g2 j j8, (hs j j8).2.1, z3 j j8 jl, sr_z2]
    · rw [g2 _ (by omega), (hs (2 * l) (by omega)).2.1, (hs (2 * l) (by omega)).1, sr_or, sr_andn, ← hi i]
      cases sr_b (a2 (2 * l)) i <;> cases sr_b (a4' (2 * l)) i <;> decide
  · rw [h4 (2 * l) (by omega), sr_0]
    exact ⟨fun z => absurd z (by decide), fun ⟨r, z, _⟩ => absurd z (by omega)⟩
/-- the closure's rounds: F what holds, D what was new in the last round -/
def sr_V (S F D : Int64) : Prop := sr_36 F ∧ (∀ i, sr_b S i = true → sr_b F i = true) ∧ (∀ i, sr_b D i = true → sr_b F i = true) ∧ (∀ x z y, x < 6 → z < 6 → y < 6 → sr_b F (6 * x + z) = true → sr_b D (6 * x + z) = false → sr_b S (6 * z + y) = true → sr_b F (6 * x + y) = true) ∧ ∀ T, sr_tr T → sr_in S T → sr_in F T
theorem sr_Vstep {S F D C D' F' : Int64} (h : sr_V S F D) (hC : ∀ i, sr_b C i = true ↔ sr_Y0 D S 36 i) (hD : D' = C &&& (F ^^^ (-1))) (hF : F' = F ||| D') : sr_V S F' D' := by
  obtain ⟨v1, v2, v3, v4, v5⟩ := h
  have bD : ∀ i, sr_b D' i = true ↔ sr_b C i = true ∧ sr_b F i = false := by
    intro i
    rw [hD, sr_andn]
    cases sr_b C i <;> cases sr_b F i <;> decide
  have bF : ∀ i, sr_b F' i = true ↔ sr_b F i = true ∨ sr_b C i = true := by
    intro i
    rw [hF, sr_or, hD, sr_andn]
    cases sr_b C i <;> cases sr_b F i <;> decide
  refine ⟨?_, fun i hi => (bF i).mpr (Or.inl (v2 i hi)), ?_, ?_, ?_⟩
  · intro i hi
    apply sr_nt
    intro z
    rcases (bF i).mp z with c | c
    · exact sr_tf c (v1 i hi)
    · obtain ⟨f, y, h1, h2, _, _, h5⟩ := (hC i).mp c
      omega
  · intro i hi
    exact (bF i).mpr (Or.inr ((bD i).mp hi).1)
  · intro x z y hx hz hy p q s
    have pF : sr_b F (6 * x + z) = true := by
      rcases (bF _).mp p with c | c
      · exact c
      · cases e : sr_b F (6 * x + z)
        · exact sr_tf ((bD _).mpr ⟨c, e⟩) q
        · rfl
    cases e : sr_b D (6 * x + z)
    · exact (bF _).mpr (Or.inl (v4 x z y hx hz hy pF e s))
    · exact (bF _).mpr (Or.inr ((hC _).mpr ⟨6 * x + z, y, by omega, hy, e, by rw [show (6 * x + z) % 6 = z by omega]; exact s, by omega⟩))
  · intro T hT hS x y hx hy p
    rcases (bF _).mp p with c | c
    · exact v5 T hT hS x y hx hy c
    · obtain ⟨f, z, h1, h2, h3, h4, h5⟩ := (hC _).mp c
      have g1 : T (f / 6) (f % 6) := v5 T hT hS (f / 6) (f % 6) (by omega) (by omega) (by rw [show 6 * (f / 6) + f % 6 = f by omega]; exact v3 f h3)
      have g2 : T (f % 6) z := hS (f % 6) z (by omega) h2 h4
      have g3 := hT _ _ _ (by omega) (by omega) h2 g1 g2
      rw [show x = f / 6 by omega, show y = z by omega]
      exact g3
theorem sr_Vend {S F R : Int64} (hR : sr_TC S R) (h : sr_V S F 0) : ∀ i, sr_b F i = sr_b R i :=
  sr_same hR h.1 h.2.1 (fun x z y hx hz hy p s => h.2.2.2.1 x z y hx hz hy p (sr_0 _) s) h.2.2.2.2
theorem sr_Vcn {F D' F' C : Int64} (h36 : sr_36 F') (hD : D' = C &&& (F ^^^ (-1))) (hF : F' = F ||| D') (hn : ¬ D' = 0) : sr_cn (sr_b F) 36 < sr_cn (sr_b F') 36 := by
  obtain ⟨i, hi⟩ := sr_ne0 hn
  have f1 : sr_b F' i = true := by rw [hF, sr_or, hi, Bool.or_true]
  have f0 : sr_b F i = false := by
    rw [hD, sr_andn] at hi
    cases e : sr_b F i
    · rfl
    · rw [e] at hi
      exact absurd hi (by simp)
  have i36 : i < 36 := by
    rcases Nat.lt_or_ge i 36 with c | c
    · exact c
    · exact sr_tf f1 (h36 i c)
  exact sr_cn_lt (fun j _ hj => by rw [hF, sr_or, hj, Bool.true_or]) i i36 f0 f1
/-- the rounds of layer 1 -/
theorem sr_s102T {post : St2 → Prop} {J} {m t : Nat} {kd : Nat → Nat} {S R : Int64} {b : Nat → Int64} (T : sr_tab m kd t fc a6 a7 a8 a9) (f1 : ¬ nI 1 = fs) (hR : sr_TC S R) (hb : b 0 = S)
    (h : ∀ (fp fn fw fm : Int32) (a2 a3 a4 : Nat → Int64) (a12 a13 a14 : Nat → Int32), (∀ j, j < 8 → a4 j = 0) → (∀ j, j < 8 → j ≠ 2 → a2 j = b j) → (∀ i, sr_b (a2 2) i = sr_b R i) → J (nI 2) fc fd fs fp fn fw fx fm fo a1 a2 a3 a4 a5 a6 a7 a8 a9 a10 a11 a12 a13 a14) :
    ∀ (n k : Nat) (rr fp fn fw fm : Int32) (a2 a3 a4 : Nat → Int64) (a12 a13 a14 : Nat → Int32), k ≤ 36 → 74 < n + k → (∀ j, j < 8 → a4 j = 0) → (∀ j, j < 8 → j ≠ 2 → a3 j = 0) → (∀ j, j < 8 → j ≠ 2 → a2 j = b j) → sr_V S (a2 2) (a3 2) → ((rr = 0 ∧ a3 2 = 0) ∨ (rr = 1 ∧ k + 1 ≤ sr_cn (sr_b (a2 2)) 36)) → wX_solve_102 post J (nI 1) n rr (nI k) fc fd fs fp fn fw fx fm fo a1 a2 a3 a4 a5 a6 a7 a8 a9 a10 a11 a12 a13 a14 := by
  intro n
  induction n with
  | zero =>
    intro k rr fp fn fw fm a2 a3 a4 a12 a13 a14 h1 h2
    omega
  | succ n ih =>
    intro k rr fp fn fw fm a2 a3 a4 a12 a13 a14 h1 h2 h4 h3 hb2 hV hr
    refine pk_le 74 k (fun z => absurd z (by omega)) (fun _ => ?_)
    rcases hr with ⟨e, z⟩ | ⟨e, hk⟩
    · refine br_t e (nm_r (nI_1 1) (h fp fn fw fm a2 a3 a4 a12 a13 a14 h4 hb2 ?_))
      rw [z] at hV
      exact sr_Vend hR hV
    · subst e
      refine br_f (by decide) (sr_joinNew T (by omega) h3 (fun fp fn fw fm a4' a12 a13 a14 hj hi => sr_settle (fun a2' a3' a4'' rr hs ha => nm_r (nI_1 k) ?_)))
      have hS : a2 0 = S := (hb2 0 (by omega) (by omega)).trans hb
      have hC : ∀ i, sr_b (a4' 2) i = true ↔ sr_Y0 (a3 2) S 36 i := by
        intro i
        rw [hi i, h4 2 (by omega), sr_0, hS]
        constructor
        · rintro (c | ⟨r, _, _, _, _, c⟩)
          · exact absurd c (by decide)
          · exact c
        · intro c
          obtain ⟨_, _, hm2, _, _, k1, _⟩ := T
          exact Or.inr ⟨1, by omega, k1, rfl, f1, c⟩
      have hD := (hs 2 (by omega)).1
      have hF := (hs 2 (by omega)).2.1
      have hV' := sr_Vstep hV hC hD hF
      have z3 : ∀ j, j < 8 → j ≠ 2 → a3' j = 0 := fun j j8 jl => by rw [(hs j j8).1, hj j jl, h4 j j8, sr_z1]
      have c36 := sr_cn_le (sr_b (a2 2)) 36
      refine ih (k + 1) rr fp fn fw fm a2' a3' a4'' a12 a13 a14 (by omega) (by omega) (fun j j8 => (hs j j8).2.2) z3 (fun j j8 jl => by rw [(hs j j8).2.1, z3 j j8 jl, sr_z2]; exact hb2 j j8 jl) hV' ?_
      rcases ha with ⟨e, z⟩ | ⟨e, j, j8, c⟩
      · exact Or.inl ⟨e, z 2 (by omega)⟩
      · by_cases ej : j = 2
        · subst ej
          have := sr_Vcn hV'.1 hD hF c
          exact Or.inr ⟨e, by omega⟩
        · exact absurd (z3 j j8 ej) c
/-- layer 1 -/
theorem sr_layT {post : St2 → Prop} {J} {m t : Nat} {kd : Nat → Nat} {S R : Int64} (T : sr_tab m kd t fc a6 a7 a8 a9) (f0 : ¬ nI 0 = fs) (f1 : ¬ nI 1 = fs) (hS : sr_36 S) (hR : sr_TC S R) (h4 : ∀ j, j < 8 → a4 j = 0) (h0 : a2 0 = S) (h2 : a2 2 = 0)
    (h : ∀ (fp fn fw fx fm : Int32) (a2' a3' a4' : Nat → Int64) (a12 a13 a14 : Nat → Int32), (∀ j, j < 8 → a4' j = 0) → (∀ j, j < 8 → j ≠ 2 → a2' j = a2 j) → (∀ i, sr_b (a2' 2) i = sr_b R i) → J (nI 2) fc fd fs fp fn fw fx fm fo a1 a2' a3' a4' a5 a6 a7 a8 a9 a10 a11 a12 a13 a14) : ∃ n, wX_solve_49 post J (nI 1) n 0 fc fd fs fp fn fw fx fm fo a1 a2 a3 a4 a5 a6 a7 a8 a9 a10 a11 a12 a13 a14 := by
  refine ⟨m + 1, sr_s49 T (by omega) (fun fp fn fw fx fm a4' a12 a13 a14 hj hi a2' a3' a4'' rr hs ha => ?_) (m + 1) 0 fp fn fw fx fm a4 a12 a13 a14 (by omega) (by omega) (fun j j8 _ => h4 j j8) (fun i => ?_)⟩
  · have hC : ∀ i, sr_b (a4' 2) i = sr_b S i := by
      intro i
      have q : sr_lE kd fs t 1 a2 m i ↔ sr_b S i = true := by
        obtain ⟨_, _, hm2, _, k0, k1, k2, _⟩ := T
        constructor
        · rintro ⟨r, r1, r2, r3, r4⟩
          by_cases e0 : r = 0
          · subst e0
            rw [k0] at r4
            rcases r4 with ⟨c, _⟩ | ⟨_, _, c⟩
            · exact absurd c (by decide)
            · rw [← h0]
              exact c
          · by_cases e1 : r = 1
            · subst e1
              rw [k1, h2] at r4
              rcases r4 with ⟨_, c⟩ | ⟨c, _⟩
              · exact absurd c sr_Y0D
              · exact absurd rfl c
            · have := k2 r (by omega) r1
              unfold sr_lay at r2
              rw [if_neg (by omega)] at r2
              omega
        · intro c
          refine ⟨0, by omega, by rw [k0]; rfl, f0, ?_⟩
          rw [k0]
          refine Or.inr ⟨by decide, ?_, ?_⟩
          · rcases Nat.lt_or_ge i 36 with g | g
            · exact g
            · exact sr_tf c (hS i g)
          · show sr_b (a2 0) i = true
            rw [h0]
            exact c
      have p := (hi i).trans q
      cases e : sr_b S i
      · exact sr_nt (fun z => sr_tf (p.mp z) e)
      · exact p.mpr e
    have bD : ∀ i, sr_b (a3' 2) i = sr_b S i := by
      intro i
      rw [(hs 2 (by omega)).1, h2, sr_andn, sr_0, hC i, Bool.not_false, Bool.and_true]
    have bF : ∀ i, sr_b (a2' 2) i = sr_b S i := by
      intro i
      rw [(hs 2 (by omega)).2.1, h2, sr_or, sr_0, bD i, Bool.false_or]
    have z3 : ∀ j, j < 8 → j ≠ 2 → a3' j = 0 := fun j j8 jl => by rw [(hs j j8).1, hj j j8 jl, sr_z1]
    refine ⟨75, sr_s102T (b := a2) T f1 hR h0 (fun fp fn fw fm b2 b3 b4 a12 a13 a14 g4 g2 g => h fp fn fw fx fm b2 b3 b4 a12 a13 a14 g4 g2 g) 75 0 rr fp fn fw fm a2' a3' a4'' a12 a13 a14 (by omega) (by omega) (fun j j8 => (hs j j8).2.2) z3 (fun j j8 jl => by rw [(hs j j8).2.1, z3 j j8 jl, sr_z2]) ⟨fun i hi => by rw [bF i]; exact hS i hi, fun i hi => by rw [bF i]; exact hi, fun i hi => by rw [bF i, ← bD i]; exact hi, fun x z y _ _ _ p q _ => sr_tf ((bF _).symm.trans p) ((bD _).symm.trans q), fun T _ hT x y hx hy p => hT x y hx hy (by rw [bF] at p; exact p)⟩ ?_⟩
    rcases ha with ⟨e, z⟩ | ⟨e, j, j8, c⟩
    · exact Or.inl ⟨e, z 2 (by omega)⟩
    · refine Or.inr ⟨e, ?_⟩
      by_cases ej : j = 2
      · subst ej
        obtain ⟨i, hi⟩ := sr_ne0 c
        rw [bD i] at hi
        have i36 : i < 36 := by
          rcases Nat.lt_or_ge i 36 with g | g
          · exact g
          · exact sr_tf hi (hS i g)
        have := sr_cn_lt (p := fun _ => false) (q := sr_b (a2' 2)) (n := 36) (fun _ _ z => absurd z (by decide)) i i36 rfl (by rw [bF i]; exact hi)
        omega
      · exact absurd (z3 j j8 ej) c
  · show sr_b (a4 2) i = true ↔ _
    rw [h4 2 (by omega), sr_0]
    exact ⟨fun z => absurd z (by decide), fun ⟨r, z, _⟩ => absurd z (by omega)⟩
/-- steps without a way back; the ways to t -/
def sr_N (S R : Int64) (i : Nat) : Bool := decide (i < 36) && (sr_b S i && !sr_b R (6 * (i % 6) + i / 6))
def sr_C (R : Int64) (t i : Nat) : Bool := decide (i < 36) && (sr_b R i && decide (t = i % 6))
/-- what holds at the end -/
def sr_fin (q2 q3 : Bool) (S R : Int64) (t : Nat) (a2 : Nat → Int64) : Prop := a2 0 = S ∧ (∀ i, sr_b (a2 2) i = sr_b R i) ∧ (∀ i, sr_b (a2 4) i = (q2 && sr_N S R i)) ∧ (∀ i, sr_b (a2 6) i = (q3 && sr_C R t i)) ∧ a2 1 = 0 ∧ a2 3 = 0 ∧ a2 5 = 0 ∧ a2 7 = 0
def sr_act (m : Nat) (kd : Nat → Nat) (fs : Int32) (k : Nat) (q : Bool) : Prop := q = true ↔ ∃ r, r < m ∧ kd r = k ∧ ¬ nI r = fs
theorem sr_layk {k l : Nat} (hl : 2 ≤ l) (h : sr_lay k = l) : k = l := by
  unfold sr_lay at h
  by_cases e : k ≤ 1
  · rw [if_pos e] at h
    omega
  · rw [if_neg e] at h
    exact h
theorem sr_lE2 {m t l : Nat} {kd : Nat → Nat} {q : Bool} (hl : 2 ≤ l) (h : sr_act m kd fs l q) {i : Nat} : sr_lE kd fs t l a2 m i ↔ (q && (decide (i < 36) && sr_g a2 t l i)) = true := by
  unfold sr_act at h
  rw [Bool.and_eq_true, Bool.and_eq_true, decide_eq_true_iff, h]
  constructor
  · rintro ⟨r, r1, r2, r3, r4⟩
    have e := sr_layk hl r2
    rw [e] at r4
    rcases r4 with ⟨c, _⟩ | ⟨_, c⟩
    · omega
    · exact ⟨⟨r, r1, e, r3⟩, c⟩
  · rintro ⟨⟨r, r1, r2, r3⟩, c⟩
    refine ⟨r, r1, ?_, r3, ?_⟩
    · rw [r2]
      unfold sr_lay
      rw [if_neg (by omega)]
    · rw [r2]
      exact Or.inr ⟨by omega, c⟩
theorem sr_btf {a b : Bool} (h : a = true ↔ b = true) : a = b := by
  cases a <;> cases b
  · rfl
  · exact absurd (h.mpr rfl) (by decide)
  · exact absurd (h.mp rfl) (by decide)
  · rfl
/-- the four layers -/
theorem sr_s42 {post : St2 → Prop} {m t : Nat} {kd : Nat → Nat} {S R : Int64} {q2 q3 : Bool} (T : sr_tab m kd t fc a6 a7 a8 a9) (f0 : ¬ nI 0 = fs) (f1 : ¬ nI 1 = fs) (hS : sr_36 S) (hR : sr_TC S R) (h2 : sr_act m kd fs 2 q2) (h3 : sr_act m kd fs 3 q3) (g0 : a2 0 = S) (g : ∀ j, 0 < j → j < 8 → a2 j = 0) (h4 : ∀ j, j < 8 → a4 j = 0)
    (h : ∀ (fp fn fw fx fm : Int32) (a2 a3 a4 : Nat → Int64) (a12 a13 a14 : Nat → Int32), sr_fin q2 q3 S R t a2 → post (fc, fd, fs, fp, fn, fw, fx, fm, fo, a1, a2, a3, a4, a5, a6, a7, a8, a9, a10, a11, a12, a13, a14)) : ∃ n, wX_solve_42 post n 0 fc fd fs fp fn fw fx fm fo a1 a2 a3 a4 a5 a6 a7 a8 a9 a10 a11 a12 a13 a14 := by
  refine ⟨0 + 1 + 1 + 1 + 1 + 1, pk_le 4 0 (fun z => absurd z (by omega)) (fun _ => sr_layF (l := 0) T (by omega) (by omega) h4 (fun fp fn fw fx fm b2 b3 b4 a12 a13 a14 b4z bo bb => ?_))⟩
  have e0 : b2 0 = S := by
    refine sr_ext (fun i _ => sr_btf ((bb i).trans ?_))
    show sr_b (a2 0) i = true ∨ _ ↔ _
    rw [g0]
    refine ⟨fun z => z.elim id (fun ⟨r, _, z, _⟩ => ?_), Or.inl⟩
    unfold sr_lay at z
    by_cases e : kd r ≤ 1
    · rw [if_pos e] at z
      omega
    · rw [if_neg e] at z
      omega
  have eo : ∀ j, 0 < j → j < 8 → b2 j = 0 := fun j j0 j8 => (bo j j8 (by omega)).trans (g j j0 j8)
  refine pk_le 4 1 (fun z => absurd z (by omega)) (fun _ => sr_layT T f0 f1 hS hR b4z e0 (eo 2 (by omega) (by omega)) (fun fp fn fw fx fm c2 c3 c4 a12 a13 a14 c4z co cb => ?_))
  have d0 : c2 0 = S := (co 0 (by omega) (by omega)).trans e0
  refine pk_le 4 2 (fun z => absurd z (by omega)) (fun _ => sr_layF (l := 2) T (by omega) (by omega) c4z (fun fp fn fw fx fm d2 d3 d4 a12 a13 a14 d4z dO db => ?_))
  refine pk_le 4 3 (fun z => absurd z (by omega)) (fun _ => sr_layF (l := 3) T (by omega) (by omega) d4z (fun fp fn fw fx fm x2 x3 x4 a12 a13 a14 x4z xo xb => ?_))
  refine pk_le 4 4 (fun _ => h fp fn fw fx fm x2 x3 x4 a12 a13 a14 ?_) (fun z => absurd z (by omega))
  have w0 : d2 0 = S := (dO 0 (by omega) (by omega)).trans d0
  have w2 : ∀ i, sr_b (d2 2) i = sr_b R i := fun i => by rw [dO 2 (by omega) (by omega)]; exact cb i
  have zo : ∀ j, j < 8 → j ≠ 0 → j ≠ 2 → j ≠ 4 → j ≠ 6 → x2 j = 0 := fun j j8 j0 j2 j4 j6 => (xo j j8 (by omega)).trans ((dO j j8 (by omega)).trans ((co j j8 j2).trans (eo j (by omega) j8)))
  refine ⟨(xo 0 (by omega) (by omega)).trans w0, fun i => by rw [xo 2 (by omega) (by omega)]; exact w2 i, fun i => ?_, fun i => ?_, zo 1 (by omega) (by omega) (by omega) (by omega) (by omega), zo 3 (by omega) (by omega) (by omega) (by omega) (by omega), zo 5 (by omega) (by omega) (by omega) (by omega) (by omega), zo 7 (by omega) (by omega) (by omega) (by omega) (by omega)⟩
  · rw [xo 4 (by omega) (by omega)]
    refine sr_btf ((db i).trans ?_)
    show sr_b (c2 4) i = true ∨ _ ↔ _
    rw [co 4 (by omega) (by omega), eo 4 (by omega) (by omega), sr_0, sr_lE2 (by omega) h2]
    show _ ↔ (q2 && (decide (i < 36) && (sr_b S i && !sr_b R (6 * (i % 6) + i / 6)))) = true
    rw [show sr_g c2 t 2 i = (sr_b S i && !sr_b R (6 * (i % 6) + i / 6)) by show (sr_b (c2 0) i && !sr_b (c2 2) (6 * (i % 6) + i / 6)) = _; rw [d0, cb]]
    exact ⟨fun z => z.elim (fun z => absurd z (by decide)) id, Or.inr⟩
  · refine sr_btf ((xb i).trans ?_)
    show sr_b (d2 6) i = true ∨ _ ↔ _
    rw [dO 6 (by omega) (by omega), co 6 (by omega) (by omega), eo 6 (by omega) (by omega), sr_0, sr_lE2 (by omega) h3]
    show _ ↔ (q3 && (decide (i < 36) && (sr_b R i && decide (t = i % 6)))) = true
    rw [show sr_g d2 t 3 i = (sr_b R i && decide (t = i % 6)) by show (sr_b (d2 2) i && decide (t = i % 6)) = _; rw [w2]]
    exact ⟨fun z => z.elim (fun z => absurd z (by decide)) id, Or.inr⟩
/-- solve's first loop -/
theorem sr_s2 {post : St2 → Prop} (h : ∀ a2' a3' a4' : Nat → Int64, (∀ j, j < 8 → a2' j = a1 j) → (∀ j, j < 8 → a4' j = 0) → ∃ n, wX_solve_42 post n 0 fc fd fs fp fn fw fx fm fo a1 a2' a3' a4' a5 a6 a7 a8 a9 a10 a11 a12 a13 a14) :
    ∀ (n i : Nat) (b2 b3 b4 : Nat → Int64), i ≤ 8 → 8 < n + i → (∀ j, j < i → b2 j = a1 j) → (∀ j, j < i → b4 j = 0) → wX_solve_2 post fc fd fs fp fn fw fx fm fo n (nI i) a1 b2 b3 b4 a5 a6 a7 a8 a9 a10 a11 a12 a13 a14 := by
  intro n
  induction n with
  | zero =>
    intro i b2 b3 b4 h1 h2
    omega
  | succ n ih =>
    intro i b2 b3 b4 h1 h2 k2 k4
    refine pk_le 8 i (fun z => ?_) (fun z => ⟨pk_in i 8 z, pk_in i 8 z, nm_r (e' := vp_updL b2 i (a1 i)) (by rw [nI_clamp (by omega)]) ⟨pk_in i 8 z, nm_r (e' := vp_updL b3 i 0) (by rw [nI_clamp (by omega)]) ⟨pk_in i 8 z, nm_r (e' := vp_updL b4 i 0) (by rw [nI_clamp (by omega)]) (nm_r (nI_1 i) (ih (i + 1) _ _ _ (by omega) (by omega) (fun j hj => ?_) (fun j hj => ?_)))⟩⟩⟩)
    · exact h b2 b3 b4 (fun j hj => k2 j (by omega)) (fun j hj => k4 j (by omega))
    · by_cases e : j = i
      · subst e
        exact pk_uLs
      · rw [pk_uLn e]
        exact k2 j (by omega)
    · by_cases e : j = i
      · subst e
        exact pk_uLs
      · rw [pk_uLn e]
        exact k4 j (by omega)
/-- solve -/
theorem sr_solve {post : St2 → Prop} {m t : Nat} {kd : Nat → Nat} {S R : Int64} {q2 q3 : Bool} (T : sr_tab m kd t fc a6 a7 a8 a9) (f0 : ¬ nI 0 = fs) (f1 : ¬ nI 1 = fs) (hS : sr_36 S) (hR : sr_TC S R) (h2 : sr_act m kd fs 2 q2) (h3 : sr_act m kd fs 3 q3) (g0 : a1 0 = S) (g : ∀ j, 0 < j → j < 8 → a1 j = 0)
    (h : ∀ (fp fn fw fx fm : Int32) (a2 a3 a4 : Nat → Int64) (a12 a13 a14 : Nat → Int32), sr_fin q2 q3 S R t a2 → post (fc, fd, fs, fp, fn, fw, fx, fm, fo, a1, a2, a3, a4, a5, a6, a7, a8, a9, a10, a11, a12, a13, a14)) : wpX_solve post (fc, fd, fs, fp, fn, fw, fx, fm, fo, a1, a2, a3, a4, a5, a6, a7, a8, a9, a10, a11, a12, a13, a14) :=
  ⟨9, sr_s2 (fun b2 b3 b4 k2 k4 => sr_s42 T f0 f1 hS hR h2 h3 ((k2 0 (by omega)).trans g0) (fun j j0 j8 => (k2 j j8).trans (g j j0 j8)) k4 h) 9 0 a2 a3 a4 (by omega) (by omega) (fun j hj => absurd hj (by omega)) (fun j hj => absurd hj (by omega))⟩
end
end
section
/-! refresh and the questions -/
section
variable {fc fd fs fp fn fw fx fm fo : Int32} {a1 a2 a3 a4 a5 : Nat → Int64} {a6 a7 a8 a9 a10 a11 a12 a13 a14 : Nat → Int32}
theorem sr_isRel {post : Int32 → Prop} {x : Int32} (j : Nat) (hj : j < 8) (h : post 1) (hx : x = nI j := by rfl) : wpX_isRelation post () x :=
  pk_lt j 0 (fun z => absurd z (by omega)) (fun _ => pk_le 8 j (fun z => absurd z (by omega)) (fun _ => h) rfl hx) hx
theorem sr_isThing {post : Int32 → Prop} {x : Int32} (j : Nat) (hj : j < 6) (h : post 1) (hx : x = nI j := by rfl) : wpX_isThing post () x :=
  pk_lt j 0 (fun z => absurd z (by omega)) (fun _ => pk_le 6 j (fun z => absurd z (by omega)) (fun _ => h) rfl hx) hx
theorem sr_isRule {post : Int32 → Prop} {m : Nat} (j : Nat) (hfc : fc = nI m) (hm : m ≤ 14) (hj : j < m) (h : post 1) : wpX_isRule post (fc, fd, fs, fp, fn, fw, fx, fm, fo, a1, a2, a3, a4, a5, a6, a7, a8, a9, a10, a11, a12, a13, a14) (nI j) :=
  pk_lt j 0 (fun z => absurd z (by omega)) (fun _ => pk_le m j (fun z => absurd z (by omega)) (fun _ => h) hfc rfl)
/-- what doesn't change between the questions -/
def sr_st (m : Nat) (kd : Nat → Nat) (t : Nat) (S R : Int64) (q2 q3 : Bool) (fc fs : Int32) (a1 : Nat → Int64) (a6 a7 a8 a9 : Nat → Int32) : Prop := sr_tab m kd t fc a6 a7 a8 a9 ∧ fs = -1 ∧ sr_36 S ∧ sr_TC S R ∧ sr_act m kd (-1) 2 q2 ∧ sr_act m kd (-1) 3 q3 ∧ a1 0 = S ∧ ∀ j, 0 < j → j < 8 → a1 j = 0
/-- solved or not -/
def sr_so (q2 q3 : Bool) (S R : Int64) (t : Nat) (fo : Int32) (a2 : Nat → Int64) : Prop := fo = 0 ∨ (fo = 1 ∧ sr_fin q2 q3 S R t a2)
theorem sr_refresh {post : St2 → Prop} {m t : Nat} {kd : Nat → Nat} {S R : Int64} {q2 q3 : Bool} (K : sr_st m kd t S R q2 q3 fc fs a1 a6 a7 a8 a9) (ho : sr_so q2 q3 S R t fo a2)
    (h : ∀ (fp fn fw fx fm : Int32) (a2 a3 a4 : Nat → Int64) (a12 a13 a14 : Nat → Int32), sr_fin q2 q3 S R t a2 → post (fc, fd, fs, fp, fn, fw, fx, fm, 1, a1, a2, a3, a4, a5, a6, a7, a8, a9, a10, a11, a12, a13, a14)) : wpX_refresh post (fc, fd, fs, fp, fn, fw, fx, fm, fo, a1, a2, a3, a4, a5, a6, a7, a8, a9, a10, a11, a12, a13, a14) := by
  obtain ⟨T, hfs, hS, hR, h2, h3, g0, g⟩ := K
  rcases ho with e | ⟨e, f⟩
  · subst e hfs
    exact br_t rfl (sr_solve T (sr_nm1 (by omega)) (sr_nm1 (by omega)) hS hR h2 h3 g0 g (fun fp fn fw fx fm a2 a3 a4 a12 a13 a14 f => h fp fn fw fx fm a2 a3 a4 a12 a13 a14 f))
  · subst e
    exact br_f (by decide) (h fp fn fw fx fm a2 a3 a4 a12 a13 a14 f)
theorem sr_holds {post : Int32 → St2 → Prop} {x y z : Int32} {m t : Nat} {kd : Nat → Nat} {S R : Int64} {q2 q3 : Bool} (j a b : Nat) (hj : j < 8) (ha : a < 6) (hb : b < 6) (K : sr_st m kd t S R q2 q3 fc fs a1 a6 a7 a8 a9) (ho : sr_so q2 q3 S R t fo a2)
    (h : ∀ (fp fn fw fx fm : Int32) (a2 a3 a4 : Nat → Int64) (a12 a13 a14 : Nat → Int32), sr_fin q2 q3 S R t a2 → post (nI (sr_v (sr_b (a2 j) (6 * a + b)))) (fc, fd, fs, fp, fn, fw, fx, fm, 1, a1, a2, a3, a4, a5, a6, a7, a8, a9, a10, a11, a12, a13, a14)) (hx : x = nI j := by rfl) (hy : y = nI a := by rfl) (hz : z = nI b := by rfl) : wpX_holds post (fc, fd, fs, fp, fn, fw, fx, fm, fo, a1, a2, a3, a4, a5, a6, a7, a8, a9, a10, a11, a12, a13, a14) x y z := by
  subst hx hy hz
  unfold wpX_holds
  dsimp only
  refine sr_isRel j hj ?_
  refine br_f (by decide) ?_
  refine sr_isThing a ha ?_
  refine br_f (by decide) ?_
  refine sr_isThing b hb ?_
  refine br_f (by decide) ?_
  refine sr_refresh K ho (fun fp fn fw fx fm a2 a3 a4 a12 a13 a14 f => ?_)
  refine ⟨pk_in j 8 hj, sr_bitAt (6 * a + b) (by omega) ?_ (sr_6 a b)⟩
  rw [nI_clamp (by omega)]
  exact h fp fn fw fx fm a2 a3 a4 a12 a13 a14 f
theorem sr_size {post : Int32 → St2 → Prop} {x : Int32} {m t : Nat} {kd : Nat → Nat} {S R : Int64} {q2 q3 : Bool} (j : Nat) (hj : j < 8) (K : sr_st m kd t S R q2 q3 fc fs a1 a6 a7 a8 a9) (ho : sr_so q2 q3 S R t fo a2)
    (h : ∀ (fp fn fw fx fm : Int32) (a2 a3 a4 : Nat → Int64) (a12 a13 a14 : Nat → Int32), sr_fin q2 q3 S R t a2 → post (nI (sr_cn (sr_b (a2 j)) 36)) (fc, fd, fs, fp, fn, fw, fx, fm, 1, a1, a2, a3, a4, a5, a6, a7, a8, a9, a10, a11, a12, a13, a14)) (hx : x = nI j := by rfl) : wpX_size post (fc, fd, fs, fp, fn, fw, fx, fm, fo, a1, a2, a3, a4, a5, a6, a7, a8, a9, a10, a11, a12, a13, a14) x := by
  subst hx
  unfold wpX_size
  dsimp only
  refine sr_isRel j hj ?_
  refine br_f (by decide) ?_
  refine sr_refresh K ho (fun fp fn fw fx fm a2 a3 a4 a12 a13 a14 f => ?_)
  refine ⟨pk_in j 8 hj, sr_onesX ?_⟩
  rw [nI_clamp (by omega)]
  exact h fp fn fw fx fm a2 a3 a4 a12 a13 a14 f
theorem sr_fanE {w : Int64} {a : Nat} (ha : a < 6) : sr_cn (sr_b ((w.toUInt64 >>> (((6 : Int32) * nI a).toInt64.toUInt64 &&& Int64.toUInt64 63)).toInt64 &&& 63)) 36 = sr_cn (fun y => sr_b w (6 * a + y)) 6 := by
  have e : (6 : Int32) * nI a = nI (6 * a) := by rw [show (6 : Int32) = nI 6 from rfl, pk_mul]
  rw [e, sr_cn_tail (m := 6) (by omega) (fun i hi _ => by rw [sr_and, sr_63, decide_eq_false (by omega), Bool.and_false])]
  exact sr_cn_congr (fun i hi => by rw [sr_and, sr_63, decide_eq_true hi, Bool.and_true, sr_ush (by omega)])
theorem sr_fan {post : Int32 → St2 → Prop} {x y : Int32} {m t : Nat} {kd : Nat → Nat} {S R : Int64} {q2 q3 : Bool} (j a : Nat) (hj : j < 8) (ha : a < 6) (K : sr_st m kd t S R q2 q3 fc fs a1 a6 a7 a8 a9) (ho : sr_so q2 q3 S R t fo a2)
    (h : ∀ (fp fn fw fx fm : Int32) (a2 a3 a4 : Nat → Int64) (a12 a13 a14 : Nat → Int32), sr_fin q2 q3 S R t a2 → post (nI (sr_cn (fun b => sr_b (a2 j) (6 * a + b)) 6)) (fc, fd, fs, fp, fn, fw, fx, fm, 1, a1, a2, a3, a4, a5, a6, a7, a8, a9, a10, a11, a12, a13, a14)) (hx : x = nI j := by rfl) (hy : y = nI a := by rfl) : wpX_fan post (fc, fd, fs, fp, fn, fw, fx, fm, fo, a1, a2, a3, a4, a5, a6, a7, a8, a9, a10, a11, a12, a13, a14) x y := by
  subst hx hy
  unfold wpX_fan
  dsimp only
  refine sr_isRel j hj ?_
  refine br_f (by decide) ?_
  refine sr_isThing a ha ?_
  refine br_f (by decide) ?_
  refine sr_refresh K ho (fun fp fn fw fx fm a2 a3 a4 a12 a13 a14 f => ?_)
  refine ⟨pk_in j 8 hj, sr_onesX ?_⟩
  rw [nI_clamp (by omega), sr_fanE ha]
  exact h fp fn fw fx fm a2 a3 a4 a12 a13 a14 f
theorem sr_ways {post : Int32 → St2 → Prop} {x : Int32} {m t : Nat} {kd : Nat → Nat} {S R : Int64} {q2 q3 : Bool} (j : Nat) (hj : j < m) (hk : kd j ≠ 1) (K : sr_st m kd t S R q2 q3 fc fs a1 a6 a7 a8 a9) (ho : sr_so q2 q3 S R t fo a2)
    (h : ∀ (fp fn fw fx fm : Int32) (a2 a3 a4 : Nat → Int64) (a12 a13 a14 : Nat → Int32), sr_fin q2 q3 S R t a2 → post (nI (sr_cn (sr_g a2 t (kd j)) 36)) (fc, fd, fs, fp, fn, fw, fx, fm, 1, a1, a2, a3, a4, a5, a6, a7, a8, a9, a10, a11, a12, a13, a14)) (hx : x = nI j := by rfl) : wpX_ways post (fc, fd, fs, fp, fn, fw, fx, fm, fo, a1, a2, a3, a4, a5, a6, a7, a8, a9, a10, a11, a12, a13, a14) x := by
  subst hx
  have T := K.1
  obtain ⟨hfc, hm, hm2, ht, k0, k1, k2, hrow⟩ := T
  unfold wpX_ways
  dsimp only
  refine sr_isRule j hfc hm hj ?_
  refine br_f (by decide) ?_
  refine sr_refresh K ho (fun fp fn fw fx fm a2 a3 a4 a12 a13 a14 f => ?_)
  refine sr_join (k := kd j) ht (by omega) (hrow j hj) (Or.inl rfl) (fun fp' fn' fw' fm' a4' a12' a13' a14' hw _ _ => ?_)
  have e := hw hk
  subst e
  exact h fp' fn' _ (-1) fm' a2 a3 a4' a12' a13' a14' f
theorem sr_within {post : Int32 → St2 → Prop} {x y : Int32} {m t : Nat} {kd : Nat → Nat} {S R : Int64} {q2 q3 : Bool} (j k : Nat) (hj : j < 8) (hk : k < 8) (K : sr_st m kd t S R q2 q3 fc fs a1 a6 a7 a8 a9) (ho : sr_so q2 q3 S R t fo a2)
    (hw : ∀ a2, sr_fin q2 q3 S R t a2 → a2 j &&& (a2 k ^^^ (-1)) = 0)
    (h : ∀ (fp fn fw fx fm : Int32) (a2 a3 a4 : Nat → Int64) (a12 a13 a14 : Nat → Int32), sr_fin q2 q3 S R t a2 → post 1 (fc, fd, fs, fp, fn, fw, fx, fm, 1, a1, a2, a3, a4, a5, a6, a7, a8, a9, a10, a11, a12, a13, a14)) (hx : x = nI j := by rfl) (hy : y = nI k := by rfl) : wpX_within post (fc, fd, fs, fp, fn, fw, fx, fm, fo, a1, a2, a3, a4, a5, a6, a7, a8, a9, a10, a11, a12, a13, a14) x y := by
  subst hx hy
  unfold wpX_within
  dsimp only
  refine sr_isRel j hj ?_
  refine br_f (by decide) ?_
  refine sr_isRel k hk ?_
  refine br_f (by decide) ?_
  refine sr_refresh K ho (fun fp fn fw fx fm a2 a3 a4 a12 a13 a14 f => ?_)
  refine ⟨pk_in j 8 hj, pk_in k 8 hk, br_t ?_ (h fp fn fw fx fm a2 a3 a4 a12 a13 a14 f)⟩
  rw [nI_clamp (by omega), nI_clamp (by omega)]
  exact hw a2 f
/-- weight: the facts kept -/
theorem sr_w16 {post : Int32 → St2 → Prop} {p : Nat} (h : ∀ a5' : Nat → Int64, (∀ j, j < 8 → a5' j = a2 j) → wpX_solve (fun u => match u with | (fc', fd', fs', fp', fn', fw', fx', fm', fo', a1', a2', a3', a4', a5', a6', a7', a8', a9', a10', a11', a12', a13', a14') => ∃ n : Nat, wX_weight_63 post fc' fd' (-1) fp' fn' fw' fx' fm' 0 a1' a2' a3' a4' a5' a6' a7' a8' a9' a10' a11' a12' a13' a14' n 0 0) (fc, fd, nI p, fp, fn, fw, fx, fm, fo, a1, a2, a3, a4, a5', a6, a7, a8, a9, a10, a11, a12, a13, a14)) :
    ∀ (n i : Nat) (b5 : Nat → Int64), i ≤ 8 → 8 < n + i → (∀ j, j < i → b5 j = a2 j) → wX_weight_16 post (nI p) fc fd fs fp fn fw fx fm fo n (nI i) a1 a2 a3 a4 b5 a6 a7 a8 a9 a10 a11 a12 a13 a14 := by
  intro n
  induction n with
  | zero =>
    intro i b5 h1 h2
    omega
  | succ n ih =>
    intro i b5 h1 h2 k5
    refine pk_le 8 i (fun z => ?_) (fun z => ⟨pk_in i 8 z, pk_in i 8 z, nm_r (e' := vp_updL b5 i (a2 i)) (by rw [nI_clamp (by omega)]) (nm_r (nI_1 i) (ih (i + 1) _ (by omega) (by omega) (fun j hj => ?_)))⟩)
    · exact h b5 (fun j hj => k5 j (by omega))
    · by_cases e : j = i
      · subst e
        exact pk_uLs
      · rw [pk_uLn e]
        exact k5 j (by omega)
def sr_sum (f : Nat → Nat) : Nat → Nat
  | 0 => 0
  | n + 1 => sr_sum f n + f n
theorem sr_w63 {post : Int32 → St2 → Prop} (h : post (nI (sr_sum (fun j => sr_cn (sr_b (a5 j ^^^ a2 j)) 36) 8)) (fc, fd, fs, fp, fn, fw, fx, fm, fo, a1, a2, a3, a4, a5, a6, a7, a8, a9, a10, a11, a12, a13, a14)) : ∃ n, wX_weight_63 post fc fd fs fp fn fw fx fm fo a1 a2 a3 a4 a5 a6 a7 a8 a9 a10 a11 a12 a13 a14 n 0 0 :=
  pk_loop (fun n i (s : Int32) => wX_weight_63 post fc fd fs fp fn fw fx fm fo a1 a2 a3 a4 a5 a6 a7 a8 a9 a10 a11 a12 a13 a14 n s (nI i)) (fun i s => s = nI (sr_sum (fun j => sr_cn (sr_b (a5 j ^^^ a2 j)) 36) i)) 8 0 0 (by omega) rfl
    (fun n s hs => pk_le 8 8 (fun _ => by subst hs; exact h) (fun z => absurd z (by omega)))
    (fun n i s hi hs hw => pk_le 8 i (fun z => absurd z (by omega)) (fun _ => ⟨pk_in i 8 hi, pk_in i 8 hi, sr_onesX (nm_r (e' := nI (sr_sum (fun j => sr_cn (sr_b (a5 j ^^^ a2 j)) 36) (i + 1))) (by rw [hs, nI_clamp (by omega), nI_add]; rfl) (nm_r (nI_1 i) (hw _ rfl)))⟩))
theorem sr_sumE {q2 q3 p2 p3 : Bool} {S R : Int64} {t : Nat} {a2 b2 a5 : Nat → Int64} (h : sr_fin q2 q3 S R t b2) (h5 : ∀ j, j < 8 → a5 j = b2 j) (h' : sr_fin p2 p3 S R t a2) :
    sr_sum (fun j => sr_cn (sr_b (a5 j ^^^ a2 j)) 36) 8 = sr_cn (fun i => (q2 ^^ p2) && sr_N S R i) 36 + sr_cn (fun i => (q3 ^^ p3) && sr_C R t i) 36 := by
  obtain ⟨u0, u2, u4, u6, u1, u3, u5, u7⟩ := h
  obtain ⟨v0, v2, v4, v6, v1, v3, v5, v7⟩ := h'
  have z : ∀ j, j < 8 → (∀ i, sr_b (b2 j) i = sr_b (a2 j) i) → sr_cn (sr_b (a5 j ^^^ a2 j)) 36 = 0 := fun j j8 e => sr_cn_0 (fun i _ => by rw [h5 j j8, sr_xor, e i, Bool.xor_self])
  have s4 : sr_cn (sr_b (a5 4 ^^^ a2 4)) 36 = sr_cn (fun i => (q2 ^^ p2) && sr_N S R i) 36 := sr_cn_congr (fun i _ => by rw [h5 4 (by omega), sr_xor, u4 i, v4 i]; cases q2 <;> cases p2 <;> cases sr_N S R i <;> rfl)
  have s6 : sr_cn (sr_b (a5 6 ^^^ a2 6)) 36 = sr_cn (fun i => (q3 ^^ p3) && sr_C R t i) 36 := sr_cn_congr (fun i _ => by rw [h5 6 (by omega), sr_xor, u6 i, v6 i]; cases q3 <;> cases p3 <;> cases sr_C R t i <;> rfl)
  show 0 + sr_cn (sr_b (a5 0 ^^^ a2 0)) 36 + sr_cn (sr_b (a5 1 ^^^ a2 1)) 36 + sr_cn (sr_b (a5 2 ^^^ a2 2)) 36 + sr_cn (sr_b (a5 3 ^^^ a2 3)) 36 + sr_cn (sr_b (a5 4 ^^^ a2 4)) 36 + sr_cn (sr_b (a5 5 ^^^ a2 5)) 36 + sr_cn (sr_b (a5 6 ^^^ a2 6)) 36 + sr_cn (sr_b (a5 7 ^^^ a2 7)) 36 = _
  rw [s4, s6, z 0 (by omega) (fun i => by rw [u0, v0]), z 1 (by omega) (fun i => by rw [u1, v1]), z 2 (by omega) (fun i => by rw [u2, v2]), z 3 (by omega) (fun i => by rw [u3, v3]), z 5 (by omega) (fun i => by rw [u5, v5]), z 7 (by omega) (fun i => by rw [u7, v7])]
  omega
theorem sr_weight {post : Int32 → St2 → Prop} {x : Int32} {m t : Nat} {kd : Nat → Nat} {S R : Int64} {q2 q3 p2 p3 : Bool} (j : Nat) (hj : j < m) (hj2 : 2 ≤ j) (K : sr_st m kd t S R q2 q3 fc fs a1 a6 a7 a8 a9) (ho : sr_so q2 q3 S R t fo a2) (h2 : sr_act m kd (nI j) 2 p2) (h3 : sr_act m kd (nI j) 3 p3)
    (h : ∀ (fp fn fw fx fm : Int32) (a2 a3 a4 a5 : Nat → Int64) (a12 a13 a14 : Nat → Int32), post (nI (sr_cn (fun i => (q2 ^^ p2) && sr_N S R i) 36 + sr_cn (fun i => (q3 ^^ p3) && sr_C R t i) 36)) (fc, fd, fs, fp, fn, fw, fx, fm, 0, a1, a2, a3, a4, a5, a6, a7, a8, a9, a10, a11, a12, a13, a14)) (hx : x = nI j := by rfl) : wpX_weight post (fc, fd, fs, fp, fn, fw, fx, fm, fo, a1, a2, a3, a4, a5, a6, a7, a8, a9, a10, a11, a12, a13, a14) x := by
  subst hx
  have K' := K
  obtain ⟨T, hfs, hS, hR, _, _, g0, g⟩ := K'
  subst hfs
  have hm := T.2.1
  unfold wpX_weight
  dsimp only
  refine sr_isRule j T.1 T.2.1 hj ?_
  refine br_f (by decide) ?_
  refine sr_refresh K ho (fun fp fn fw fx fm b2 a3 a4 a12 a13 a14 f => ?_)
  refine ⟨9, sr_w16 (fun b5 e5 => ?_) 9 0 a5 (by omega) (by omega) (fun j hj => absurd hj (by omega))⟩
  refine sr_solve T (fun z => absurd ((nI_eq (by omega) (by omega)).mp z) (by omega)) (fun z => absurd ((nI_eq (by omega) (by omega)).mp z) (by omega)) hS hR h2 h3 g0 g (fun fp fn fw fx fm c2 c3 c4 a12 a13 a14 f' => ?_)
  refine sr_w63 ?_
  rw [sr_sumE f e5 f']
  exact h fp fn fw fx fm c2 c3 c4 b5 a12 a13 a14
end
end
section
/-! give, body, rule, drop -/
section
variable {fc fd fs fp fn fw fx fm fo : Int32} {a1 a2 a3 a4 a5 : Nat → Int64} {a6 a7 a8 a9 a10 a11 a12 a13 a14 : Nat → Int32}
theorem sr_give55 {post : Int32 → St2 → Prop} {w : Int64} {z : Int32} (h : post z (fc, fd, fs, fp, fn, fw, fx, fm, 0, vp_updL a1 0 (a1 0 ||| w), a2, a3, a4, a5, a6, a7, a8, a9, a10, a11, a12, a13, a14)) : wX_give_55 post 0 1 w z fc fd fs fp fn fw fx fm fo a1 a2 a3 a4 a5 a6 a7 a8 a9 a10 a11 a12 a13 a14 :=
  br_f (by decide) ⟨pk_in 0 8 (by omega), pk_in 0 8 (by omega), nm_e h⟩
theorem sr_give {post : Int32 → St2 → Prop} {x y : Int32} (a b : Nat) (ha : a < 6) (hb : b < 6) (h : ∀ r : Int32, post r (fc, fd, fs, fp, fn, fw, fx, fm, 0, vp_updL a1 0 (a1 0 ||| ((1 : Int64) <<< ((nI (6 * a + b)).toInt64 &&& 63))), a2, a3, a4, a5, a6, a7, a8, a9, a10, a11, a12, a13, a14)) (hx : x = nI a := by rfl) (hy : y = nI b := by rfl) : wpX_give post (fc, fd, fs, fp, fn, fw, fx, fm, fo, a1, a2, a3, a4, a5, a6, a7, a8, a9, a10, a11, a12, a13, a14) 0 x y 1 := by
  subst hx hy
  unfold wpX_give
  dsimp only
  refine sr_isRel 0 (by omega) ?_
  refine br_f (by decide) ?_
  refine sr_isThing a ha ?_
  refine br_f (by decide) ?_
  refine sr_isThing b hb ?_
  refine br_f (by decide) ?_
  refine nm_r (e' := (1 : Int64) <<< ((nI (6 * a + b)).toInt64 &&& 63)) (by rw [sr_6]) ⟨pk_in 0 8 (by omega), ?_⟩
  exact br_c (fun _ => sr_give55 (h 0)) (fun _ => sr_give55 (h 1))
theorem sr_body {post : Int32 → St2 → Prop} {x p1 : Int32} (p d z : Nat) (hp : p < 800) (hd : d < 3) (hz : (p1 = 0 ∧ z = 0) ∨ (¬ p1 = 0 ∧ z = 1)) (h : post (nI (d + 1)) (fc, nI (d + 1), fs, fp, fn, fw, fx, fm, fo, a1, a2, a3, a4, a5, a6, a7, a8, a9, upd a10 d (nI p), upd a11 d (nI z), a12, a13, a14)) (hx : x = nI p := by rfl) : wpX_body post (fc, nI d, fs, fp, fn, fw, fx, fm, fo, a1, a2, a3, a4, a5, a6, a7, a8, a9, a10, a11, a12, a13, a14) x p1 := by
  subst hx
  refine pk_lt p 0 (fun z => absurd z (by omega)) (fun _ => pk_le p 799 (fun _ => pk_eq d 3 (fun e => absurd e (by omega)) (fun _ => ⟨pk_in d 3 hd, nm_r (e' := upd a10 d (nI p)) (by rw [nI_clamp (by omega)]) ?_⟩)) (fun e => absurd e (by omega)))
  rcases hz with ⟨e, rfl⟩ | ⟨e, rfl⟩
  · exact br_t e ⟨pk_in d 3 hd, nm_r (e' := upd a11 d (nI 0)) (by rw [nI_clamp (by omega)]; rfl) (nm_r (nI_1 d) h)⟩
  · exact br_f e ⟨pk_in d 3 hd, nm_r (e' := upd a11 d (nI 1)) (by rw [nI_clamp (by omega)]; rfl) (nm_r (nI_1 d) h)⟩
/-- the variables of an atom -/
def sr_vo (A : Nat) : Int32 := (if A / 10 % 10 < 4 then (1 : Int32) <<< (nI (A / 10 % 10) &&& 31) else 0) ||| (if A % 10 < 4 then (1 : Int32) <<< (nI (A % 10) &&& 31) else 0)
theorem sr_vars {post : Int32 → Prop} {x : Int32} (A : Nat) (hA : A < 800) (h : post (sr_vo A)) (hx : x = nI A := by rfl) : wpX_variablesOf post () x := by
  subst hx
  unfold sr_vo at h
  have key : ∀ w : Int32, post (w ||| (if A % 10 < 4 then (1 : Int32) <<< (nI (A % 10) &&& 31) else 0)) → wX_variablesOf_25 post (nI (A % 10)) w := by
    intro w hw
    refine pk_le 4 (A % 10) (fun g => ?_) (fun g => ?_)
    · rw [if_neg (by omega)] at hw
      exact hw
    · rw [if_pos g] at hw
      exact hw
  refine ⟨by decide, by decide, nm_r (sr_d10 hA) ⟨by decide, nm_r (sr_m10 hA) ?_⟩⟩
  refine pk_le 4 (A / 10 % 10) (fun g => key _ ?_) (fun g => key _ ?_)
  · rw [if_neg (show ¬ A / 10 % 10 < 4 by omega)] at h
    exact h
  · rw [if_pos (show A / 10 % 10 < 4 by omega)] at h
    exact h
/-- rule's first loop: a plain atom -/
theorem sr_r35p {post : Int32 → St2 → Prop} {H l n k d A : Nat} {s : Int32} (hd : d ≤ 3) (hk : k < d) (hA : a10 k = nI A) (hA8 : A < 800) (h11 : a11 k = 0) (hl : l < 4) (hle : A / 200 ≤ l) (h : wX_rule_35 post (nI H) (nI l) fc (nI d) fs fp fn fw fx fm fo a1 a2 a3 a4 a5 a6 a7 a8 a9 a10 a11 a12 a13 a14 n (s ||| sr_vo A) (nI (k + 1))) : wX_rule_35 post (nI H) (nI l) fc (nI d) fs fp fn fw fx fm fo a1 a2 a3 a4 a5 a6 a7 a8 a9 a10 a11 a12 a13 a14 (n + 1) s (nI k) := by
  have c10 : a10 (nI k).toNatClampNeg = nI A := by rw [nI_clamp (by omega), hA]
  have c11 : a11 (nI k).toNatClampNeg = 0 := by rw [nI_clamp (by omega), h11]
  have e2 : a10 (nI k).toNatClampNeg / 200 = nI (A / 200) := by rw [c10, sr_d200 hA8]
  have V : vp_in (nI k) 3 := pk_in k 3 (by omega)
  refine pk_le d k (fun z => absurd z (by omega)) (fun _ => ⟨V, br_t c11 ⟨V, by decide, ?_⟩⟩)
  refine pk_le (A / 200) l (fun _ => ⟨V, br_t c11 ⟨V, ?_⟩⟩) (fun z => absurd z (by omega)) e2
  exact sr_vars A hA8 (nm_e (nm_r (nI_1 k) h)) c10
/-- .. a negated atom -/
theorem sr_r35n {post : Int32 → St2 → Prop} {H l n k d A : Nat} {s : Int32} (hd : d ≤ 3) (hk : k < d) (hA : a10 k = nI A) (hA8 : A < 800) (h11 : ¬ a11 k = 0) (hl : l < 4) (hl1 : 1 ≤ l) (h : A / 200 ≤ l - 1 → wX_rule_35 post (nI H) (nI l) fc (nI d) fs fp fn fw fx fm fo a1 a2 a3 a4 a5 a6 a7 a8 a9 a10 a11 a12 a13 a14 n (s ||| 0) (nI (k + 1))) (h3 : l - 1 < A / 200 → post (-3) (fc, nI d, fs, fp, fn, fw, fx, fm, fo, a1, a2, a3, a4, a5, a6, a7, a8, a9, a10, a11, a12, a13, a14)) : wX_rule_35 post (nI H) (nI l) fc (nI d) fs fp fn fw fx fm fo a1 a2 a3 a4 a5 a6 a7 a8 a9 a10 a11 a12 a13 a14 (n + 1) s (nI k) := by
  have c10 : a10 (nI k).toNatClampNeg = nI A := by rw [nI_clamp (by omega), hA]
  have c11 : ¬ a11 (nI k).toNatClampNeg = 0 := by rw [nI_clamp (by omega)]; exact h11
  have e2 : a10 (nI k).toNatClampNeg / 200 = nI (A / 200) := by rw [c10, sr_d200 hA8]
  have e1 : nI l - 1 = nI (l - 1) := pk_sub (b := 1) hl1
  have V : vp_in (nI k) 3 := pk_in k 3 (by omega)
  refine pk_le d k (fun z => absurd z (by omega)) (fun _ => ⟨V, br_f c11 ⟨V, by decide, ?_⟩⟩)
  exact pk_le (A / 200) (l - 1) (fun g => ⟨V, br_f c11 (nm_e (nm_r (nI_1 k) (h g)))⟩) (fun g => h3 g) e2 e1
/-- .. its end -/
theorem sr_r35e {post : Int32 → St2 → Prop} {H l n d : Nat} {s : Int32} (hd : d ≤ 3) (hH : H < 800) (h : ∃ m, wX_rule_123 post (nI H) s fc (nI d) fs fp fn fw fx fm fo a1 a2 a3 a4 a5 a6 a7 a8 a9 a10 a11 a12 a13 a14 m (sr_vo H) 0) : wX_rule_35 post (nI H) (nI l) fc (nI d) fs fp fn fw fx fm fo a1 a2 a3 a4 a5 a6 a7 a8 a9 a10 a11 a12 a13 a14 (n + 1) s (nI d) :=
  pk_le d d (fun _ => sr_vars H hH h) (fun z => absurd z (by omega))
/-- rule's second loop -/
theorem sr_r123p {post : Int32 → St2 → Prop} {H n k d : Nat} {s w : Int32} (hd : d ≤ 3) (hk : k < d) (h11 : a11 k = 0) (h : wX_rule_123 post (nI H) s fc (nI d) fs fp fn fw fx fm fo a1 a2 a3 a4 a5 a6 a7 a8 a9 a10 a11 a12 a13 a14 n (w ||| 0) (nI (k + 1))) : wX_rule_123 post (nI H) s fc (nI d) fs fp fn fw fx fm fo a1 a2 a3 a4 a5 a6 a7 a8 a9 a10 a11 a12 a13 a14 (n + 1) w (nI k) :=
  pk_le d k (fun z => absurd z (by omega)) (fun _ => ⟨pk_in k 3 (by omega), br_t (by rw [nI_clamp (by omega), h11]) (nm_e (nm_r (nI_1 k) h))⟩)
theorem sr_r123n {post : Int32 → St2 → Prop} {H n k d A : Nat} {s w : Int32} (hd : d ≤ 3) (hk : k < d) (hA : a10 k = nI A) (hA8 : A < 800) (h11 : ¬ a11 k = 0) (h : wX_rule_123 post (nI H) s fc (nI d) fs fp fn fw fx fm fo a1 a2 a3 a4 a5 a6 a7 a8 a9 a10 a11 a12 a13 a14 n (w ||| sr_vo A) (nI (k + 1))) : wX_rule_123 post (nI H) s fc (nI d) fs fp fn fw fx fm fo a1 a2 a3 a4 a5 a6 a7 a8 a9 a10 a11 a12 a13 a14 (n + 1) w (nI k) := by
  refine pk_le d k (fun z => absurd z (by omega)) (fun _ => ⟨pk_in k 3 (by omega), br_f (by rw [nI_clamp (by omega)]; exact h11) ⟨pk_in k 3 (by omega), ?_⟩⟩)
  exact sr_vars A hA8 (nm_e (nm_r (nI_1 k) h)) (by rw [nI_clamp (by omega), hA])
theorem sr_r123e {post : Int32 → St2 → Prop} {H n d c : Nat} {s w : Int32} (hd : d ≤ 3) (hc : c < 14) (hv : w &&& (s ^^^ (-1)) = 0) (h : ∃ m, wX_rule_205 post (nI c) (nI d) fs fp fn fw fx fm fo m 0 a1 a2 a3 a4 a5 (upd a6 c (nI H)) (upd a7 c (nI d)) a8 a9 a10 a11 a12 a13 a14) : wX_rule_123 post (nI H) s (nI c) (nI d) fs fp fn fw fx fm fo a1 a2 a3 a4 a5 a6 a7 a8 a9 a10 a11 a12 a13 a14 (n + 1) w (nI d) :=
  pk_le d d (fun _ => br_t hv ⟨pk_in c 14 hc, nm_r (e' := upd a6 c (nI H)) (by rw [nI_clamp (by omega)]) ⟨pk_in c 14 hc, nm_r (e' := upd a7 c (nI d)) (by rw [nI_clamp (by omega)]) h⟩⟩) (fun z => absurd z (by omega))
theorem sr_r123f {post : Int32 → St2 → Prop} {H n d : Nat} {s w : Int32} (hd : d ≤ 3) (hv : ¬ w &&& (s ^^^ (-1)) = 0) (h : post (-4) (fc, nI d, fs, fp, fn, fw, fx, fm, fo, a1, a2, a3, a4, a5, a6, a7, a8, a9, a10, a11, a12, a13, a14)) : wX_rule_123 post (nI H) s fc (nI d) fs fp fn fw fx fm fo a1 a2 a3 a4 a5 a6 a7 a8 a9 a10 a11 a12 a13 a14 (n + 1) w (nI d) :=
  pk_le d d (fun _ => br_f hv h) (fun z => absurd z (by omega))
/-- rule's third loop -/
theorem sr_r205 {post : Int32 → St2 → Prop} {n k d c : Nat} (hd : d ≤ 3) (hc : c < 14) (hk : k < d) (h : wX_rule_205 post (nI c) (nI d) fs fp fn fw fx fm fo n (nI (k + 1)) a1 a2 a3 a4 a5 a6 a7 (upd a8 (3 * c + k) (a10 k)) (upd a9 (3 * c + k) (vp_nar .boolean (a11 k))) a10 a11 a12 a13 a14) : wX_rule_205 post (nI c) (nI d) fs fp fn fw fx fm fo (n + 1) (nI k) a1 a2 a3 a4 a5 a6 a7 a8 a9 a10 a11 a12 a13 a14 := by
  have V : vp_in (nI k) 3 := pk_in k 3 (by omega)
  have W : vp_in ((3 : Int32) * nI c + nI k) 42 := pk_in (3 * c + k) 42 (by omega) (sr_3r c k)
  exact pk_le d k (fun z => absurd z (by omega)) (fun _ => ⟨V, W, nm_r (e' := upd a8 (3 * c + k) (a10 k)) (by rw [sr_3r, nI_clamp (by omega), nI_clamp (by omega)]) ⟨V, W, nm_r (e' := upd a9 (3 * c + k) (vp_nar .boolean (a11 k))) (by rw [sr_3r, nI_clamp (by omega), nI_clamp (by omega)]) (nm_r (nI_1 k) h)⟩⟩)
theorem sr_r205e {post : Int32 → St2 → Prop} {n d c : Nat} (hd : d ≤ 3) (h : post (nI c) (nI (c + 1), 0, fs, fp, fn, fw, fx, fm, 0, a1, a2, a3, a4, a5, a6, a7, a8, a9, a10, a11, a12, a13, a14)) : wX_rule_205 post (nI c) (nI d) fs fp fn fw fx fm fo (n + 1) (nI d) a1 a2 a3 a4 a5 a6 a7 a8 a9 a10 a11 a12 a13 a14 :=
  pk_le d d (fun _ => nm_r (nI_1 c) (by rw [nI_pred]; exact h)) (fun z => absurd z (by omega))
theorem sr_ruleS {post : Int32 → St2 → Prop} {x : Int32} {H c d : Nat} (hH : H < 800) (hc : c < 14) (h : ∃ n, wX_rule_35 post (nI H) (nI (H / 200)) (nI c) (nI d) fs fp fn fw fx fm fo a1 a2 a3 a4 a5 a6 a7 a8 a9 a10 a11 a12 a13 a14 n 0 0) (hx : x = nI H) : wpX_rule post (nI c, nI d, fs, fp, fn, fw, fx, fm, fo, a1, a2, a3, a4, a5, a6, a7, a8, a9, a10, a11, a12, a13, a14) x := by
  subst hx
  refine pk_lt H 0 (fun z => absurd z (by omega)) (fun _ => pk_le H 799 (fun _ => pk_eq c 14 (fun e => absurd e (by omega)) (fun _ => ⟨by decide, ?_⟩)) (fun e => absurd e (by omega)))
  rw [sr_d200 hH]
  exact h
/-- rule with one plain atom -/
theorem sr_rule1 {post : Int32 → St2 → Prop} {x : Int32} {H A c : Nat} (hH : H < 800) (hA8 : A < 800) (hc : c < 14) (hx : x = nI H) (h10 : a10 0 = nI A) (h11 : a11 0 = 0) (hle : A / 200 ≤ H / 200) (hv : (sr_vo H ||| 0) &&& ((0 ||| sr_vo A) ^^^ (-1)) = 0)
    (h : post (nI c) (nI (c + 1), 0, fs, fp, fn, fw, fx, fm, 0, a1, a2, a3, a4, a5, upd a6 c (nI H), upd a7 c (nI 1), upd a8 (3 * c) (nI A), upd a9 (3 * c) 0, a10, a11, a12, a13, a14)) : wpX_rule post (nI c, nI 1, fs, fp, fn, fw, fx, fm, fo, a1, a2, a3, a4, a5, a6, a7, a8, a9, a10, a11, a12, a13, a14) x := by
  refine sr_ruleS hH hc ⟨0 + 1 + 1, ?_⟩ hx
  refine sr_r35p (k := 0) (by omega) (by omega) h10 hA8 h11 (by omega) hle ?_
  refine sr_r35e (d := 1) (by omega) hH ⟨0 + 1 + 1, ?_⟩
  refine sr_r123p (k := 0) (by omega) (by omega) h11 ?_
  refine sr_r123e (d := 1) (by omega) hc hv ⟨0 + 1 + 1, ?_⟩
  refine sr_r205 (k := 0) (by omega) hc (by omega) ?_
  refine sr_r205e (d := 1) (by omega) ?_
  rw [h10, h11]
  exact h
/-- rule with two plain atoms -/
theorem sr_rule2 {post : Int32 → St2 → Prop} {x : Int32} {H A B c : Nat} (hH : H < 800) (hA8 : A < 800) (hB8 : B < 800) (hc : c < 14) (hx : x = nI H) (h10 : a10 0 = nI A) (h11 : a11 0 = 0) (h10' : a10 1 = nI B) (h11' : a11 1 = 0) (hle : A / 200 ≤ H / 200) (hle' : B / 200 ≤ H / 200) (hv : (sr_vo H ||| 0 ||| 0) &&& ((0 ||| sr_vo A ||| sr_vo B) ^^^ (-1)) = 0)
    (h : post (nI c) (nI (c + 1), 0, fs, fp, fn, fw, fx, fm, 0, a1, a2, a3, a4, a5, upd a6 c (nI H), upd a7 c (nI 2), upd (upd a8 (3 * c) (nI A)) (3 * c + 1) (nI B), upd (upd a9 (3 * c) 0) (3 * c + 1) 0, a10, a11, a12, a13, a14)) : wpX_rule post (nI c, nI 2, fs, fp, fn, fw, fx, fm, fo, a1, a2, a3, a4, a5, a6, a7, a8, a9, a10, a11, a12, a13, a14) x := by
  refine sr_ruleS hH hc ⟨0 + 1 + 1 + 1, ?_⟩ hx
  refine sr_r35p (k := 0) (by omega) (by omega) h10 hA8 h11 (by omega) hle ?_
  refine sr_r35p (k := 1) (by omega) (by omega) h10' hB8 h11' (by omega) hle' ?_
  refine sr_r35e (d := 2) (by omega) hH ⟨0 + 1 + 1 + 1, ?_⟩
  refine sr_r123p (k := 0) (by omega) (by omega) h11 ?_
  refine sr_r123p (k := 1) (by omega) (by omega) h11' ?_
  refine sr_r123e (d := 2) (by omega) hc hv ⟨0 + 1 + 1 + 1, ?_⟩
  refine sr_r205 (k := 0) (by omega) hc (by omega) ?_
  refine sr_r205 (k := 1) (by omega) hc (by omega) ?_
  refine sr_r205e (d := 2) (by omega) ?_
  rw [h10, h11, h10', h11']
  exact h
/-- rule with a plain and a negated atom -/
theorem sr_rule2n {post : Int32 → St2 → Prop} {x : Int32} {H A B c : Nat} (hH : H < 800) (hA8 : A < 800) (hB8 : B < 800) (hc : c < 14) (hx : x = nI H) (h10 : a10 0 = nI A) (h11 : a11 0 = 0) (h10' : a10 1 = nI B) (h11' : a11 1 = 1) (hle : A / 200 ≤ H / 200) (hl1 : 1 ≤ H / 200) (hle' : B / 200 ≤ H / 200 - 1) (hv : (sr_vo H ||| 0 ||| sr_vo B) &&& ((0 ||| sr_vo A ||| 0) ^^^ (-1)) = 0)
    (h : post (nI c) (nI (c + 1), 0, fs, fp, fn, fw, fx, fm, 0, a1, a2, a3, a4, a5, upd a6 c (nI H), upd a7 c (nI 2), upd (upd a8 (3 * c) (nI A)) (3 * c + 1) (nI B), upd (upd a9 (3 * c) 0) (3 * c + 1) 1, a10, a11, a12, a13, a14)) : wpX_rule post (nI c, nI 2, fs, fp, fn, fw, fx, fm, fo, a1, a2, a3, a4, a5, a6, a7, a8, a9, a10, a11, a12, a13, a14) x := by
  have n1 : ¬ a11 1 = 0 := by rw [h11']; decide
  refine sr_ruleS hH hc ⟨0 + 1 + 1 + 1, ?_⟩ hx
  refine sr_r35p (k := 0) (by omega) (by omega) h10 hA8 h11 (by omega) hle ?_
  refine sr_r35n (k := 1) (by omega) (by omega) h10' hB8 n1 (by omega) hl1 (fun _ => ?_) (fun z => absurd z (by omega))
  refine sr_r35e (d := 2) (by omega) hH ⟨0 + 1 + 1 + 1, ?_⟩
  refine sr_r123p (k := 0) (by omega) (by omega) h11 ?_
  refine sr_r123n (k := 1) (by omega) (by omega) h10' hB8 n1 ?_
  refine sr_r123e (d := 2) (by omega) hc hv ⟨0 + 1 + 1 + 1, ?_⟩
  refine sr_r205 (k := 0) (by omega) hc (by omega) ?_
  refine sr_r205 (k := 1) (by omega) hc (by omega) ?_
  refine sr_r205e (d := 2) (by omega) ?_
  rw [h10, h11, h10', h11']
  exact h
/-- .. whose negated atom isn't of a lower layer -/
theorem sr_rule3f {post : Int32 → St2 → Prop} {x : Int32} {H A B c : Nat} (hH : H < 800) (hA8 : A < 800) (hB8 : B < 800) (hc : c < 14) (hx : x = nI H) (h10 : a10 0 = nI A) (h11 : a11 0 = 0) (h10' : a10 1 = nI B) (h11' : a11 1 = 1) (hle : A / 200 ≤ H / 200) (hl1 : 1 ≤ H / 200) (hle' : H / 200 - 1 < B / 200)
    (h : post (-3) (nI c, nI 2, fs, fp, fn, fw, fx, fm, fo, a1, a2, a3, a4, a5, a6, a7, a8, a9, a10, a11, a12, a13, a14)) : wpX_rule post (nI c, nI 2, fs, fp, fn, fw, fx, fm, fo, a1, a2, a3, a4, a5, a6, a7, a8, a9, a10, a11, a12, a13, a14) x := by
  have n1 : ¬ a11 1 = 0 := by rw [h11']; decide
  refine sr_ruleS hH hc ⟨0 + 1 + 1, ?_⟩ hx
  refine sr_r35p (k := 0) (by omega) (by omega) h10 hA8 h11 (by omega) hle ?_
  exact sr_r35n (k := 1) (by omega) (by omega) h10' hB8 n1 (by omega) hl1 (fun z => absurd z (by omega)) (fun _ => h)
/-- .. with a variable that no plain atom binds -/
theorem sr_rule4f {post : Int32 → St2 → Prop} {x : Int32} {H A B c : Nat} (hH : H < 800) (hA8 : A < 800) (hB8 : B < 800) (hc : c < 14) (hx : x = nI H) (h10 : a10 0 = nI A) (h11 : a11 0 = 0) (h10' : a10 1 = nI B) (h11' : a11 1 = 1) (hle : A / 200 ≤ H / 200) (hl1 : 1 ≤ H / 200) (hle' : B / 200 ≤ H / 200 - 1) (hv : ¬ (sr_vo H ||| 0 ||| sr_vo B) &&& ((0 ||| sr_vo A ||| 0) ^^^ (-1)) = 0)
    (h : post (-4) (nI c, nI 2, fs, fp, fn, fw, fx, fm, fo, a1, a2, a3, a4, a5, a6, a7, a8, a9, a10, a11, a12, a13, a14)) : wpX_rule post (nI c, nI 2, fs, fp, fn, fw, fx, fm, fo, a1, a2, a3, a4, a5, a6, a7, a8, a9, a10, a11, a12, a13, a14) x := by
  have n1 : ¬ a11 1 = 0 := by rw [h11']; decide
  refine sr_ruleS hH hc ⟨0 + 1 + 1 + 1, ?_⟩ hx
  refine sr_r35p (k := 0) (by omega) (by omega) h10 hA8 h11 (by omega) hle ?_
  refine sr_r35n (k := 1) (by omega) (by omega) h10' hB8 n1 (by omega) hl1 (fun _ => ?_) (fun z => absurd z (by omega))
  refine sr_r35e (d := 2) (by omega) hH ⟨0 + 1 + 1 + 1, ?_⟩
  refine sr_r123p (k := 0) (by omega) (by omega) h11 ?_
  refine sr_r123n (k := 1) (by omega) (by omega) h10' hB8 n1 ?_
  exact sr_r123f (d := 2) (by omega) hv h
/-- drop's inner loop -/
theorem sr_d52 {post : Int32 → St2 → Prop} {J} {n k : Nat} (hk : k < 3) (h : wX_drop_52 post J (nI 3) fc fd fs fp fn fw fx fm fo n (nI (k + 1)) a1 a2 a3 a4 a5 a6 a7 (upd a8 (6 + k) (a8 (9 + k))) (upd a9 (6 + k) (vp_nar .boolean (a9 (9 + k)))) a10 a11 a12 a13 a14) : wX_drop_52 post J (nI 3) fc fd fs fp fn fw fx fm fo (n + 1) (nI k) a1 a2 a3 a4 a5 a6 a7 a8 a9 a10 a11 a12 a13 a14 := by
  have e1 : (3 : Int32) * nI 3 + nI k = nI (9 + k) := sr_3r 3 k
  have e2 : (3 : Int32) * nI 3 - 3 + nI k = nI (6 + k) := by rw [show (3 : Int32) * nI 3 - 3 = nI 6 by decide, nI_add]
  have V : vp_in ((3 : Int32) * nI 3 + nI k) 42 := pk_in (9 + k) 42 (by omega) e1
  have W : vp_in ((3 : Int32) * nI 3 - 3 + nI k) 42 := pk_in (6 + k) 42 (by omega) e2
  exact pk_le 3 k (fun z => absurd z (by omega)) (fun _ => ⟨V, W, nm_r (e' := upd a8 (6 + k) (a8 (9 + k))) (by rw [e1, e2, nI_clamp (by omega), nI_clamp (by omega)]) ⟨V, W, nm_r (e' := upd a9 (6 + k) (vp_nar .boolean (a9 (9 + k)))) (by rw [e1, e2, nI_clamp (by omega), nI_clamp (by omega)]) (nm_r (nI_1 k) h)⟩⟩)
theorem sr_rowC {t k r s : Nat} {b6 b7 b8 b9 : Nat → Int32} (h : sr_row t k r a6 a7 a8 a9) (e6 : b6 s = a6 r) (e7 : b7 s = a7 r) (e8 : b8 (3 * s) = a8 (3 * r)) (e8' : b8 (3 * s + 1) = a8 (3 * r + 1)) (e9 : b9 (3 * s) = a9 (3 * r)) (e9' : b9 (3 * s + 1) = a9 (3 * r + 1)) : sr_row t k s b6 b7 b8 b9 := by
  unfold sr_row at h ⊢
  rw [e6, e7, e8, e8', e9, e9']
  exact h
/-- the kinds of the rows, behind drop(2) -/
def sr_kB (r : Nat) : Nat := if r = 2 then 3 else r
/-- drop(2) of four rules -/
theorem sr_drop {post : Int32 → St2 → Prop} {t : Nat} (T : sr_tab 4 (fun r => r) t fc a6 a7 a8 a9)
    (h : ∀ a6' a7' a8' a9' : Nat → Int32, sr_tab 3 sr_kB t (nI 3) a6' a7' a8' a9' → post (nI 3) (nI 3, fd, fs, fp, fn, fw, fx, fm, 0, a1, a2, a3, a4, a5, a6', a7', a8', a9', a10, a11, a12, a13, a14)) : wpX_drop post (fc, fd, fs, fp, fn, fw, fx, fm, fo, a1, a2, a3, a4, a5, a6, a7, a8, a9, a10, a11, a12, a13, a14) 2 := by
  obtain ⟨hfc, _, _, ht, _, _, _, hrow⟩ := T
  subst hfc
  unfold wpX_drop
  dsimp only
  refine sr_isRule (m := 4) 2 rfl (by omega) (by omega) ?_
  refine br_f (by decide) ?_
  refine nm_r (e' := nI 3) (by decide) ⟨0 + 1 + 1, ?_⟩
  have e1 : nI 3 - 1 = nI 2 := nI_pred 2
  refine pk_le 4 3 (fun z => absurd z (by omega)) (fun _ => ⟨pk_in 3 14 (by omega), pk_in 2 14 (by omega) e1, nm_r (e' := upd a6 2 (a6 3)) (by rw [e1, nI_clamp (by omega), nI_clamp (by omega)]) ⟨pk_in 3 14 (by omega), pk_in 2 14 (by omega) e1, nm_r (e' := upd a7 2 (a7 3)) (by rw [e1, nI_clamp (by omega), nI_clamp (by omega)]) ⟨0 + 1 + 1 + 1 + 1, ?_⟩⟩⟩)
  refine sr_d52 (k := 0) (by omega) ?_
  refine sr_d52 (k := 1) (by omega) ?_
  refine sr_d52 (k := 2) (by omega) ?_
  refine pk_le 3 3 (fun _ => nm_r (nI_1 3) ?_) (fun z => absurd z (by omega))
  refine pk_le 4 4 (fun _ => nm_r (nI_pred 3) (h _ _ _ _ ?_)) (fun z => absurd z (by omega))
  refine ⟨rfl, by omega, by omega, ht, rfl, rfl, fun r h1 h2 => ?_, fun r hr => ?_⟩
  · rw [show r = 2 by omega]
    decide
  · have hr' : r = 0 ∨ r = 1 ∨ r = 2 := by omega
    rcases hr' with rfl | rfl | rfl
    · exact sr_rowC (hrow 0 (by omega)) rfl rfl rfl rfl rfl rfl
    · exact sr_rowC (hrow 1 (by omega)) rfl rfl rfl rfl rfl rfl
    · rcases hrow 3 (by omega) with ⟨z, _⟩ | ⟨z, _⟩ | ⟨z, _⟩ | ⟨_, h6, h7, h8, h9⟩
      · exact absurd z (by decide)
      · exact absurd z (by decide)
      · exact absurd z (by decide)
      · refine Or.inr (Or.inr (Or.inr ⟨rfl, h6, h7, h8, ?_⟩))
        show vp_nar .boolean (a9 9) = 0
        rw [show a9 9 = 0 from h9]
        rfl
end
end
section
/-! the law's checks -/
section
variable {fc fd fs fp fn fw fx fm fo : Int32} {a1 a2 a3 a4 a5 : Nat → Int64} {a6 a7 a8 a9 a10 a11 a12 a13 a14 : Nat → Int32}
/-- S, R, t: what the law holds in steps, reached, t; a, b: its x, y -/
theorem sr_518 {post : Int32 → St0 → Prop} {mc ms kc ks : Nat} {J352 J365} {x4 x7 : Int64} {x6 x9 x10 x11 x12 z0 z1 : Int32} {b : Nat} (hz : z1 = z0) (h : J365 x9 x10 x12 (nI (b + 1)) fc fd fs fp fn fw fx fm fo a1 a2 a3 a4 a5 a6 a7 a8 a9 a10 a11 a12 a13 a14) : wL_lawOf_518 post mc ms J352 J365 x4 x6 x7 x9 x10 x11 x12 (nI b) z0 z1 kc ks fc fd fs fp fn fw fx fm fo a1 a2 a3 a4 a5 a6 a7 a8 a9 a10 a11 a12 a13 a14 :=
  br_t hz (nm_r (nI_1 b) h)
theorem sr_C6 {R : Int64} {t a b : Nat} (ha : a < 6) (hb : b < 6) : sr_C R t (6 * a + b) = (sr_b R (6 * a + b) && decide (t = b)) := by
  unfold sr_C
  rw [decide_eq_true (show 6 * a + b < 36 by omega), Bool.true_and, show (6 * a + b) % 6 = b by omega]
theorem sr_N6 {S R : Int64} {a b : Nat} (ha : a < 6) (hb : b < 6) : sr_N S R (6 * a + b) = (sr_b S (6 * a + b) && !sr_b R (6 * b + a)) := by
  unfold sr_N
  rw [decide_eq_true (show 6 * a + b < 36 by omega), Bool.true_and, show (6 * a + b) % 6 = b by omega, show (6 * a + b) / 6 = a by omega]
theorem sr_491 {post : Int32 → St0 → Prop} {mc ms kc ks : Nat} {J352 J365} {x4 x7 : Int64} {x9 x10 x12 : Int32} {a b m t : Nat} {kd : Nat → Nat} {S R : Int64} {q2 : Bool} (on : Bool) (hon : on = sr_b R (6 * a + b)) (ha : a < 6) (hb : b < 6) (ht : t < 6) (K : sr_st m kd t S R q2 true fc fs a1 a6 a7 a8 a9) (ho : sr_so q2 true S R t fo a2)
    (h : ∀ (fp fn fw fx fm : Int32) (a2 a3 a4 : Nat → Int64) (a12 a13 a14 : Nat → Int32), sr_fin q2 true S R t a2 → J365 x9 x10 x12 (nI (b + 1)) fc fd fs fp fn fw fx fm 1 a1 a2 a3 a4 a5 a6 a7 a8 a9 a10 a11 a12 a13 a14) : wL_lawOf_491 post mc ms J352 J365 x4 (nI t) x7 x9 x10 (nI a) x12 (nI b) (nI (sr_v on)) kc ks fc fd fs fp fn fw fx fm fo a1 a2 a3 a4 a5 a6 a7 a8 a9 a10 a11 a12 a13 a14 := by
  refine sr_holds 6 a b (by omega) ha hb K ho (fun fp fn fw fx fm a2 a3 a4 a12 a13 a14 f => ?_)
  have e : sr_b (a2 6) (6 * a + b) = (on && decide (t = b)) := by
    rw [f.2.2.2.1, Bool.true_and, sr_C6 ha hb, hon]
  rw [e]
  cases on
  · exact br_t rfl (sr_518 rfl (h fp fn fw fx fm a2 a3 a4 a12 a13 a14 f))
  · refine br_f (by decide) (pk_eq b t (fun g => sr_518 ?_ (h fp fn fw fx fm a2 a3 a4 a12 a13 a14 f)) (fun g => sr_518 ?_ (h fp fn fw fx fm a2 a3 a4 a12 a13 a14 f)))
    · rw [Bool.true_and, decide_eq_true g.symm]
      rfl
    · rw [Bool.true_and, decide_eq_false (fun z => g z.symm)]
      rfl
theorem sr_476 {post : Int32 → St0 → Prop} {mc ms kc ks : Nat} {J352 J365} {x4 x7 : Int64} {x9 x12 : Int32} {a b m t w : Nat} {kd : Nat → Nat} {S R : Int64} {q2 : Bool} (on : Bool) (hon : on = sr_b R (6 * a + b)) (ha : a < 6) (hb : b < 6) (ht : t < 6) (K : sr_st m kd t S R q2 true fc fs a1 a6 a7 a8 a9) (ho : sr_so q2 true S R t fo a2)
    (h : ∀ (fp fn fw fx fm : Int32) (a2 a3 a4 : Nat → Int64) (a12 a13 a14 : Nat → Int32), sr_fin q2 true S R t a2 → J365 x9 (nI (w + sr_v (on && decide (t = b)))) x12 (nI (b + 1)) fc fd fs fp fn fw fx fm 1 a1 a2 a3 a4 a5 a6 a7 a8 a9 a10 a11 a12 a13 a14) : wL_lawOf_476 post mc ms J352 J365 x4 (nI t) x7 x9 (nI w) (nI a) x12 (nI b) (nI (sr_v on)) kc ks fc fd fs fp fn fw fx fm fo a1 a2 a3 a4 a5 a6 a7 a8 a9 a10 a11 a12 a13 a14 := by
  cases on
  · exact br_t rfl (sr_491 false hon ha hb ht K ho h)
  · refine br_f (by decide) (pk_eq b t (fun g => nm_r (nI_1 w) ?_) (fun g => ?_))
    · rw [decide_eq_true g.symm] at h
      exact sr_491 true hon ha hb ht K ho h
    · rw [decide_eq_false (fun z => g z.symm)] at h
      exact sr_491 true hon ha hb ht K ho h
theorem sr_468 {post : Int32 → St0 → Prop} {mc ms kc ks : Nat} {J352 J365} {x4 x7 : Int64} {x12 : Int32} {a b m t u w : Nat} {kd : Nat → Nat} {S R : Int64} {q2 : Bool} (on : Bool) (hon : on = sr_b R (6 * a + b)) (one : Bool) (ha : a < 6) (hb : b < 6) (ht : t < 6) (K : sr_st m kd t S R q2 true fc fs a1 a6 a7 a8 a9) (ho : sr_so q2 true S R t fo a2)
    (h : ∀ (fp fn fw fx fm : Int32) (a2 a3 a4 : Nat → Int64) (a12 a13 a14 : Nat → Int32), sr_fin q2 true S R t a2 → J365 (nI (u + sr_v one)) (nI (w + sr_v (on && decide (t = b)))) x12 (nI (b + 1)) fc fd fs fp fn fw fx fm 1 a1 a2 a3 a4 a5 a6 a7 a8 a9 a10 a11 a12 a13 a14) : wL_lawOf_468 post mc ms J352 J365 x4 (nI t) x7 (nI u) (nI w) (nI a) x12 (nI b) (nI (sr_v on)) (nI (sr_v one)) kc ks fc fd fs fp fn fw fx fm fo a1 a2 a3 a4 a5 a6 a7 a8 a9 a10 a11 a12 a13 a14 := by
  cases one
  · exact br_t rfl (sr_476 on hon ha hb ht K ho h)
  · exact br_f (by decide) (nm_r (nI_1 u) (sr_476 on hon ha hb ht K ho h))
theorem sr_455 {post : Int32 → St0 → Prop} {mc ms kc ks : Nat} {J352 J365} {x4 x7 : Int64} {z0 z1 : Int32} {a b m t u w v : Nat} {kd : Nat → Nat} {S R : Int64} {q2 : Bool} (on : Bool) (hon : on = sr_b R (6 * a + b)) (one : Bool) (hz : z1 = z0) (ha : a < 6) (hb : b < 6) (ht : t < 6) (K : sr_st m kd t S R q2 true fc fs a1 a6 a7 a8 a9) (ho : sr_so q2 true S R t fo a2)
    (h : ∀ (fp fn fw fx fm : Int32) (a2 a3 a4 : Nat → Int64) (a12 a13 a14 : Nat → Int32), sr_fin q2 true S R t a2 → J365 (nI (u + sr_v one)) (nI (w + sr_v (on && decide (t = b)))) (nI (v + sr_v on)) (nI (b + 1)) fc fd fs fp fn fw fx fm 1 a1 a2 a3 a4 a5 a6 a7 a8 a9 a10 a11 a12 a13 a14) : wL_lawOf_455 post mc ms J352 J365 x4 (nI t) x7 (nI u) (nI w) (nI a) (nI v) (nI b) (nI (sr_v on)) (nI (sr_v one)) z0 z1 kc ks fc fd fs fp fn fw fx fm fo a1 a2 a3 a4 a5 a6 a7 a8 a9 a10 a11 a12 a13 a14 := by
  refine br_t hz ?_
  cases on
  · exact br_t rfl (sr_468 false hon one ha hb ht K ho h)
  · exact br_f (by decide) (nm_r (nI_1 v) (sr_468 true hon one ha hb ht K ho h))
theorem sr_433 {post : Int32 → St0 → Prop} {mc ms kc ks : Nat} {J352 J365} {x4 x7 : Int64} {z0 z1 : Int32} {a b m t u w v : Nat} {kd : Nat → Nat} {S R : Int64} {q2 : Bool} (on : Bool) (hon : on = sr_b R (6 * a + b)) (one : Bool) (h1 : ∀ a2, sr_fin q2 true S R t a2 → sr_b (a2 4) (6 * a + b) = one) (hz : z1 = z0) (ha : a < 6) (hb : b < 6) (ht : t < 6) (K : sr_st m kd t S R q2 true fc fs a1 a6 a7 a8 a9) (ho : sr_so q2 true S R t fo a2)
    (h : ∀ (fp fn fw fx fm : Int32) (a2 a3 a4 : Nat → Int64) (a12 a13 a14 : Nat → Int32), sr_fin q2 true S R t a2 → J365 (nI (u + sr_v one)) (nI (w + sr_v (on && decide (t = b)))) (nI (v + sr_v on)) (nI (b + 1)) fc fd fs fp fn fw fx fm 1 a1 a2 a3 a4 a5 a6 a7 a8 a9 a10 a11 a12 a13 a14) : wL_lawOf_433 post mc ms J352 J365 x4 (nI t) x7 (nI u) (nI w) (nI a) (nI v) (nI b) (nI (sr_v on)) (nI (sr_v one)) z0 z1 kc ks fc fd fs fp fn fw fx fm fo a1 a2 a3 a4 a5 a6 a7 a8 a9 a10 a11 a12 a13 a14 := by
  refine br_t hz ?_
  refine sr_holds 4 a b (by omega) ha hb K ho (fun fp fn fw fx fm a2 a3 a4 a12 a13 a14 f => ?_)
  rw [h1 a2 f]
  clear h1
  cases one
  · exact br_t rfl (sr_455 on hon false rfl ha hb ht K (Or.inr ⟨rfl, f⟩) h)
  · exact br_f (by decide) (sr_455 on hon true rfl ha hb ht K (Or.inr ⟨rfl, f⟩) h)
theorem sr_412 {post : Int32 → St0 → Prop} {mc ms kc ks : Nat} {J352 J365} {x4 x7 : Int64} {a b m t u w v : Nat} {kd : Nat → Nat} {S R : Int64} {q2 : Bool} (on : Bool) (hon : on = sr_b R (6 * a + b)) (one : Bool) (h1 : ∀ a2, sr_fin q2 true S R t a2 → sr_b (a2 4) (6 * a + b) = one) (ha : a < 6) (hb : b < 6) (ht : t < 6) (K : sr_st m kd t S R q2 true fc fs a1 a6 a7 a8 a9) (ho : sr_so q2 true S R t fo a2)
    (h : ∀ (fp fn fw fx fm : Int32) (a2 a3 a4 : Nat → Int64) (a12 a13 a14 : Nat → Int32), sr_fin q2 true S R t a2 → J365 (nI (u + sr_v one)) (nI (w + sr_v (on && decide (t = b)))) (nI (v + sr_v on)) (nI (b + 1)) fc fd fs fp fn fw fx fm 1 a1 a2 a3 a4 a5 a6 a7 a8 a9 a10 a11 a12 a13 a14) : wL_lawOf_412 post mc ms J352 J365 x4 (nI t) x7 (nI u) (nI w) (nI a) (nI v) (nI b) (nI (sr_v on)) (nI (sr_v one)) kc ks fc fd fs fp fn fw fx fm fo a1 a2 a3 a4 a5 a6 a7 a8 a9 a10 a11 a12 a13 a14 := by
  refine sr_holds 2 a b (by omega) ha hb K ho (fun fp fn fw fx fm a2 a3 a4 a12 a13 a14 f => ?_)
  rw [f.2.1, ← hon]
  cases on
  · exact br_t rfl (sr_433 false hon one h1 rfl ha hb ht K (Or.inr ⟨rfl, f⟩) h)
  · exact br_f (by decide) (sr_433 true hon one h1 rfl ha hb ht K (Or.inr ⟨rfl, f⟩) h)
/-- one turn of the checks' inner loop -/
theorem sr_365s {post : Int32 → St0 → Prop} {mc ms kc ks n : Nat} {J352} {a b m t u w v : Nat} {kd : Nat → Nat} {S R : Int64} (ha : a < 6) (hb : b < 6) (ht : t < 6) (K : sr_st m kd t S R true true fc fs a1 a6 a7 a8 a9) (ho : sr_so true true S R t fo a2)
    (h : ∀ (fp fn fw fx fm : Int32) (a2 a3 a4 : Nat → Int64) (a12 a13 a14 : Nat → Int32), sr_fin true true S R t a2 → wL_lawOf_365 post mc ms J352 S (nI t) R (nI a) kc ks n (nI (u + sr_v (sr_N S R (6 * a + b)))) (nI (w + sr_v (sr_C R t (6 * a + b)))) (nI (v + sr_v (sr_b R (6 * a + b)))) (nI (b + 1)) fc fd fs fp fn fw fx fm 1 a1 a2 a3 a4 a5 a6 a7 a8 a9 a10 a11 a12 a13 a14) : wL_lawOf_365 post mc ms J352 S (nI t) R (nI a) kc ks (n + 1) (nI u) (nI w) (nI v) (nI b) fc fd fs fp fn fw fx fm fo a1 a2 a3 a4 a5 a6 a7 a8 a9 a10 a11 a12 a13 a14 := by
  refine pk_le 6 b (fun z => absurd z (by omega)) (fun _ => ?_)
  refine sr_inL a b (by omega) ?_
  refine sr_inL a b (by omega) ?_
  rw [sr_C6 ha hb] at h
  have e := sr_N6 (S := S) (R := R) ha hb
  have h1 : ∀ a2, sr_fin true true S R t a2 → sr_b (a2 4) (6 * a + b) = sr_N S R (6 * a + b) := fun a2 f => by rw [f.2.2.1, Bool.true_and]
  cases g1 : sr_b S (6 * a + b)
  · rw [g1, Bool.false_and] at e
    rw [e] at h h1
    exact br_t rfl (sr_412 _ rfl false h1 ha hb ht K ho h)
  · refine br_f (by decide) ?_
    refine sr_inL b a (by omega) ?_
    cases g2 : sr_b R (6 * b + a)
    · rw [g1, g2] at e
      rw [e] at h h1
      exact br_t rfl (sr_412 _ rfl true h1 ha hb ht K ho h)
    · rw [g1, g2] at e
      rw [e] at h h1
      exact br_f (by decide) (sr_412 _ rfl false h1 ha hb ht K ho h)
/-- the checks' inner loop -/
theorem sr_365 {post : Int32 → St0 → Prop} {mc ms kc ks : Nat} {J352} {a m t : Nat} {kd : Nat → Nat} {S R : Int64} (ha : a < 6) (ht : t < 6) (K : sr_st m kd t S R true true fc fs a1 a6 a7 a8 a9)
    (h : ∀ (fp fn fw fx fm : Int32) (a2 a3 a4 : Nat → Int64) (a12 a13 a14 : Nat → Int32), sr_fin true true S R t a2 → J352 (nI (sr_cn (sr_N S R) (6 * (a + 1)))) (nI (sr_cn (sr_C R t) (6 * (a + 1)))) (nI (a + 1)) fc fd fs fp fn fw fx fm 1 a1 a2 a3 a4 a5 a6 a7 a8 a9 a10 a11 a12 a13 a14) :
    ∀ (n b : Nat) (fp fn fw fx fm fo : Int32) (a2 a3 a4 : Nat → Int64) (a12 a13 a14 : Nat → Int32), b ≤ 6 → 6 < n + b → sr_so true true S R t fo a2 →
      wL_lawOf_365 post mc ms J352 S (nI t) R (nI a) kc ks n (nI (sr_cn (sr_N S R) (6 * a + b))) (nI (sr_cn (sr_C R t) (6 * a + b))) (nI (sr_cn (fun y => sr_b R (6 * a + y)) b)) (nI b) fc fd fs fp fn fw fx fm fo a1 a2 a3 a4 a5 a6 a7 a8 a9 a10 a11 a12 a13 a14 := by
  intro n
  induction n with
  | zero =>
    intro b fp fn fw fx fm fo a2 a3 a4 a12 a13 a14 h1 h2
    omega
  | succ n ih =>
    intro b fp fn fw fx fm fo a2 a3 a4 a12 a13 a14 h1 h2 ho
    by_cases e : b = 6
    · subst e
      refine pk_le 6 6 (fun _ => ?_) (fun z => absurd z (by omega))
      refine sr_fan 2 a (by omega) ha K ho (fun fp fn fw fx fm a2 a3 a4 a12 a13 a14 f => ?_)
      refine br_t ?_ (nm_r (nI_1 a) (h fp fn fw fx fm a2 a3 a4 a12 a13 a14 f))
      rw [sr_cn_congr (p := fun b => sr_b (a2 2) (6 * a + b)) (fun i _ => f.2.1 (6 * a + i))]
    · exact sr_365s ha (by omega) ht K ho (fun fp fn fw fx fm a2 a3 a4 a12 a13 a14 f => ih (b + 1) fp fn fw fx fm 1 a2 a3 a4 a12 a13 a14 (by omega) (by omega) (Or.inr ⟨rfl, f⟩))
end
end
section
/-! the law -/
section
variable {fc fd fs fp fn fw fx fm fo : Int32} {a1 a2 a3 a4 a5 : Nat → Int64} {a6 a7 a8 a9 a10 a11 a12 a13 a14 : Nat → Int32}
theorem sr_actA2 : sr_act 4 (fun r => r) (-1) 2 true := ⟨fun _ => ⟨2, by omega, rfl, sr_nm1 (by omega)⟩, fun _ => rfl⟩
theorem sr_actA3 : sr_act 4 (fun r => r) (-1) 3 true := ⟨fun _ => ⟨3, by omega, rfl, sr_nm1 (by omega)⟩, fun _ => rfl⟩
theorem sr_actA22 : sr_act 4 (fun r => r) (nI 2) 2 false := ⟨fun z => absurd z (by decide), fun ⟨r, _, e, z⟩ => absurd (congrArg nI e) z⟩
theorem sr_actA23 : sr_act 4 (fun r => r) (nI 2) 3 true := ⟨fun _ => ⟨3, by omega, rfl, by decide⟩, fun _ => rfl⟩
theorem sr_actA32 : sr_act 4 (fun r => r) (nI 3) 2 true := ⟨fun _ => ⟨2, by omega, rfl, by decide⟩, fun _ => rfl⟩
theorem sr_actA33 : sr_act 4 (fun r => r) (nI 3) 3 false := ⟨fun z => absurd z (by decide), fun ⟨r, _, e, z⟩ => absurd (congrArg nI e) z⟩
theorem sr_actB2 : sr_act 3 sr_kB (-1) 2 false := ⟨fun z => absurd z (by decide), fun ⟨r, h, e, _⟩ => by
  have hr : r = 0 ∨ r = 1 ∨ r = 2 := by omega
  rcases hr with rfl | rfl | rfl
  · exact absurd e (by decide)
  · exact absurd e (by decide)
  · exact absurd e (by decide)⟩
theorem sr_actB3 : sr_act 3 sr_kB (-1) 3 true := ⟨fun _ => ⟨2, by omega, rfl, sr_nm1 (by omega)⟩, fun _ => rfl⟩
/-- the last checks -/
theorem sr_352e {post : Int32 → St0 → Prop} {mc ms kc ks n t : Nat} {S R : Int64} (K : sr_st 4 (fun r => r) t S R true true fc fs a1 a6 a7 a8 a9) (ho : sr_so true true S R t fo a2) (h : post 1 ()) :
    wL_lawOf_352 post mc ms S (nI t) R kc ks (n + 1) (nI (sr_cn (sr_N S R) 36)) (nI (sr_cn (sr_C R t) 36)) (nI 6) fc fd fs fp fn fw fx fm fo a1 a2 a3 a4 a5 a6 a7 a8 a9 a10 a11 a12 a13 a14 := by
  have cN : ∀ {q3 : Bool} (a2 : Nat → Int64), sr_fin true q3 S R t a2 → sr_cn (sr_b (a2 4)) 36 = sr_cn (sr_N S R) 36 := fun a2 f => sr_cn_congr (fun i _ => by rw [f.2.2.1, Bool.true_and])
  refine pk_le 6 6 (fun _ => ?_) (fun z => absurd z (by omega))
  refine sr_size 2 (by omega) K ho (fun fp fn fw fx fm a2 a3 a4 a12 a13 a14 f => ?_)
  refine sr_onesL ?_
  refine br_t (by rw [sr_cn_congr (fun i _ => f.2.1 i)]) ?_
  refine sr_size 4 (by omega) K (Or.inr ⟨rfl, f⟩) (fun fp fn fw fx fm a2 a3 a4 a12 a13 a14 f => ?_)
  refine br_t (by rw [cN a2 f]) ?_
  refine sr_ways 2 (by omega) (by decide) K (Or.inr ⟨rfl, f⟩) (fun fp fn fw fx fm a2 a3 a4 a12 a13 a14 f => ?_)
  refine br_t (congrArg nI (sr_cn_congr (fun i hi => ?_))) ?_
  · show (sr_b (a2 0) i && !sr_b (a2 2) (6 * (i % 6) + i / 6)) = sr_N S R i
    unfold sr_N
    rw [f.1, f.2.1, decide_eq_true hi, Bool.true_and]
  refine sr_ways 3 (by omega) (by decide) K (Or.inr ⟨rfl, f⟩) (fun fp fn fw fx fm a2 a3 a4 a12 a13 a14 f => ?_)
  refine br_t (congrArg nI (sr_cn_congr (fun i hi => ?_))) ?_
  · show (sr_b (a2 2) i && decide (t = i % 6)) = sr_C R t i
    unfold sr_C
    rw [f.2.1, decide_eq_true hi, Bool.true_and]
  refine sr_ways 0 (by omega) (by decide) K (Or.inr ⟨rfl, f⟩) (fun fp fn fw fx fm a2 a3 a4 a12 a13 a14 f => ?_)
  refine sr_onesL ?_
  refine br_t (congrArg nI (sr_cn_congr (fun i hi => ?_))) ?_
  · show sr_b (a2 0) i = sr_b S i
    rw [f.1]
  have RS : ∀ i, sr_b S i = true → sr_b R i = true := K.2.2.2.1.2.1
  refine sr_within 0 2 (by omega) (by omega) K (Or.inr ⟨rfl, f⟩) (fun a2 f => sr_zero (fun i => ?_)) (fun fp fn fw fx fm a2 a3 a4 a12 a13 a14 f => ?_)
  · rw [sr_andn, f.1, f.2.1]
    cases e : sr_b S i
    · rfl
    · rw [RS i e]
      rfl
  refine br_t rfl ?_
  refine sr_within 4 0 (by omega) (by omega) K (Or.inr ⟨rfl, f⟩) (fun a2 f => sr_zero (fun i => ?_)) (fun fp fn fw fx fm a2 a3 a4 a12 a13 a14 f => ?_)
  · rw [sr_andn, f.1, f.2.2.1]
    unfold sr_N
    cases sr_b S i <;> simp
  refine br_t rfl ?_
  refine sr_weight 2 (by omega) (by omega) K (Or.inr ⟨rfl, f⟩) sr_actA22 sr_actA23 (fun fp fn fw fx fm a2 a3 a4 a5 a12 a13 a14 => ?_)
  refine br_t (congrArg nI ?_) ?_
  · rw [sr_cn_congr (p := fun i => (true ^^ false) && sr_N S R i) (q := sr_N S R) (fun i _ => rfl), sr_cn_0 (p := fun i => (true ^^ true) && sr_C R t i) (fun i _ => rfl)]
    rfl
  refine sr_weight 3 (by omega) (by omega) K (Or.inl rfl) sr_actA32 sr_actA33 (fun fp fn fw fx fm a2 a3 a4 a5 a12 a13 a14 => ?_)
  refine br_t (congrArg nI ?_) ?_
  · rw [sr_cn_congr (p := fun i => (true ^^ false) && sr_C R t i) (q := sr_C R t) (fun i _ => rfl), sr_cn_0 (p := fun i => (true ^^ true) && sr_N S R i) (fun i _ => rfl), Nat.zero_add]
  obtain ⟨T, hfs, hS, hR, _, _, g0, g⟩ := K
  refine sr_drop T (fun a6' a7' a8' a9' T' => ?_)
  have K' : sr_st 3 sr_kB t S R false true (nI 3) fs a1 a6' a7' a8' a9' := ⟨T', hfs, hS, hR, sr_actB2, sr_actB3, g0, g⟩
  refine br_t rfl ?_
  refine sr_size 4 (by omega) K' (Or.inl rfl) (fun fp fn fw fx fm a2 a3 a4 a12 a13 a14 f => ?_)
  refine br_t ?_ ?_
  · rw [sr_cn_0 (fun i _ => by rw [f.2.2.1, Bool.false_and])]
    rfl
  refine sr_size 6 (by omega) K' (Or.inr ⟨rfl, f⟩) (fun fp fn fw fx fm a2 a3 a4 a12 a13 a14 f => ?_)
  refine br_t ?_ h
  rw [sr_cn_congr (q := sr_C R t) (fun i _ => by rw [f.2.2.2.1, Bool.true_and])]
/-- the checks -/
theorem sr_352 {post : Int32 → St0 → Prop} {mc ms kc ks t : Nat} {S R : Int64} (ht : t < 6) (K : sr_st 4 (fun r => r) t S R true true fc fs a1 a6 a7 a8 a9) (h : post 1 ()) :
    ∀ (n a : Nat) (fp fn fw fx fm fo : Int32) (a2 a3 a4 : Nat → Int64) (a12 a13 a14 : Nat → Int32), a ≤ 6 → 6 < n + a → sr_so true true S R t fo a2 →
      wL_lawOf_352 post mc ms S (nI t) R kc ks n (nI (sr_cn (sr_N S R) (6 * a))) (nI (sr_cn (sr_C R t) (6 * a))) (nI a) fc fd fs fp fn fw fx fm fo a1 a2 a3 a4 a5 a6 a7 a8 a9 a10 a11 a12 a13 a14 := by
  intro n
  induction n with
  | zero =>
    intro a fp fn fw fx fm fo a2 a3 a4 a12 a13 a14 h1 h2
    omega
  | succ n ih =>
    intro a fp fn fw fx fm fo a2 a3 a4 a12 a13 a14 h1 h2 ho
    by_cases e : a = 6
    · subst e
      exact sr_352e K ho h
    · refine pk_le 6 a (fun z => absurd z (by omega)) (fun _ => ⟨7, ?_⟩)
      exact sr_365 (by omega) ht K (fun fp fn fw fx fm a2 a3 a4 a12 a13 a14 f => ih (a + 1) fp fn fw fx fm 1 a2 a3 a4 a12 a13 a14 (by omega) (by omega) (Or.inr ⟨rfl, f⟩)) 7 0 fp fn fw fx fm fo a2 a3 a4 a12 a13 a14 (by omega) (by omega) ho
/-- Warshall's inner loop -/
theorem sr_277 {post : Int32 → St0 → Prop} {mc ms kc ks k : Nat} {J} {x4 R : Int64} {x6 : Int32} (hk : k < 6) (h : ∀ C, sr_Wi R k 36 C → J C (nI (k + 1))) : ∃ n, wL_lawOf_277 post mc ms J x4 x6 (nI k) kc ks fc fd fs fp fn fw fx fm fo a1 a2 a3 a4 a5 a6 a7 a8 a9 a10 a11 a12 a13 a14 n R 0 := by
  refine pk_loop (fun n i C => wL_lawOf_277 post mc ms J x4 x6 (nI k) kc ks fc fd fs fp fn fw fx fm fo a1 a2 a3 a4 a5 a6 a7 a8 a9 a10 a11 a12 a13 a14 n C (nI i)) (fun i C => sr_Wi R k i C) 36 0 R (by omega) (sr_Wi0 R k) (fun n C hC => pk_le 36 36 (fun _ => nm_r (nI_1 k) (h C hC)) (fun z => absurd z (by omega))) ?_
  intro n i C hi hC hw
  refine pk_le 36 i (fun z => absurd z (by omega)) (fun _ => ⟨by decide, nm_r (sr_d6 hi) ⟨by decide, nm_r (sr_m6 hi) ?_⟩⟩)
  refine sr_inL (i / 6) k (by omega) ?_
  rw [sr_Wcol hk hC]
  cases h1 : sr_b R (6 * (i / 6) + k)
  · exact br_t rfl (nm_r (nI_1 i) (hw _ (sr_Wi_no hC (fun z => sr_tf z.1 h1))))
  · refine br_f (by decide) ?_
    refine sr_inL k (i % 6) (by omega) ?_
    rw [sr_Wrow hk (by omega) hC]
    cases h2 : sr_b R (6 * k + i % 6)
    · exact br_t rfl (nm_r (nI_1 i) (hw _ (sr_Wi_no hC (fun z => sr_tf z.2 h2))))
    · exact br_f (by decide) (nm_e (nm_r (nI_1 i) (hw _ (sr_Wi_yes hi hC h1 h2))))
/-- Warshall -/
theorem sr_267 {post : Int32 → St0 → Prop} {mc ms kc ks : Nat} {S : Int64} {x6 : Int32} (hS : sr_36 S) (h : ∀ R, sr_TC S R → ∃ n, wL_lawOf_352 post mc ms S x6 R kc ks n 0 0 0 fc fd fs fp fn fw fx fm fo a1 a2 a3 a4 a5 a6 a7 a8 a9 a10 a11 a12 a13 a14) : ∃ n, wL_lawOf_267 post mc ms S x6 kc ks fc fd fs fp fn fw fx fm fo a1 a2 a3 a4 a5 a6 a7 a8 a9 a10 a11 a12 a13 a14 n S 0 := by
  refine pk_loop (fun n k R => wL_lawOf_267 post mc ms S x6 kc ks fc fd fs fp fn fw fx fm fo a1 a2 a3 a4 a5 a6 a7 a8 a9 a10 a11 a12 a13 a14 n R (nI k)) (fun k R => sr_W S k R) 6 0 S (by omega) (sr_W0 hS) (fun n R hR => pk_le 6 6 (fun _ => h R (sr_W6 hR)) (fun z => absurd z (by omega))) ?_
  intro n k R hk hR hw
  exact pk_le 6 k (fun z => absurd z (by omega)) (fun _ => sr_277 hk (fun C hC => hw C (sr_Wstep hk hR hC)))
theorem sr_vo4 : ∀ t, t < 6 → (sr_vo (604 + t) ||| 0) &&& ((0 ||| sr_vo (204 + t)) ^^^ (-1)) = 0 := by decide
/-- behind the loops that give: the rules, then all the rest -/
theorem sr_27e {post : Int32 → St0 → Prop} {mc ms kc ks n : Nat} {S : Int64} {x0 x2 : Int32} (hS : sr_36 S) (g0 : a1 0 = S) (g : ∀ j, 0 < j → j < 8 → a1 j = 0) (h : post 1 ()) :
    wL_lawOf_27 post mc ms x0 x2 kc ks (n + 1) S (nI 6) 0 0 (-1) fp fn fw fx fm 0 a1 a2 a3 a4 a5 a6 a7 a8 a9 a10 a11 a12 a13 a14 := by
  refine pk_le 6 6 (fun _ => ?_) (fun z => absurd z (by omega))
  refine sr_body 1 0 0 (by omega) (by omega) (Or.inl ⟨rfl, rfl⟩) ?_
  refine sr_rule1 (H := 201) (A := 1) (c := 0) (by omega) (by omega) (by omega) rfl rfl rfl (by decide) (by decide) ?_
  refine br_t rfl ?_
  refine sr_body 201 0 0 (by omega) (by omega) (Or.inl ⟨rfl, rfl⟩) ?_
  refine sr_body 12 1 0 (by omega) (by omega) (Or.inl ⟨rfl, rfl⟩) ?_
  refine sr_rule2 (H := 202) (A := 201) (B := 12) (c := 1) (by omega) (by omega) (by omega) (by omega) rfl rfl rfl rfl rfl (by decide) (by decide) (by decide) ?_
  refine br_t rfl ?_
  refine sr_body 1 0 0 (by omega) (by omega) (Or.inl ⟨rfl, rfl⟩) ?_
  refine sr_body 210 1 1 (by omega) (by omega) (Or.inr ⟨by decide, rfl⟩) ?_
  refine br_t rfl ?_
  refine sr_rule3f (H := 210) (A := 1) (B := 210) (c := 2) (by omega) (by omega) (by omega) (by omega) rfl rfl rfl rfl rfl (by decide) (by decide) (by decide) ?_
  refine br_t rfl ?_
  refine sr_rule4f (H := 402) (A := 1) (B := 210) (c := 2) (by omega) (by omega) (by omega) (by omega) rfl rfl rfl rfl rfl (by decide) (by decide) (by decide) (by decide) ?_
  refine br_t rfl ?_
  refine sr_rule2n (H := 401) (A := 1) (B := 210) (c := 2) (by omega) (by omega) (by omega) (by omega) rfl rfl rfl rfl rfl (by decide) (by decide) (by decide) (by decide) ?_
  refine br_t rfl ?_
  obtain ⟨j, hj, ej⟩ := pk_andE x2 (m := 7) 3 (by decide)
  have ht : j % 6 < 6 := by omega
  refine ⟨by decide, nm_r (e' := nI (j % 6)) (by rw [ej]; exact sr_m6 (by omega)) ?_⟩
  revert ht
  generalize j % 6 = t
  intro ht
  refine sr_body (204 + t) 0 0 (by omega) (by omega) (Or.inl ⟨rfl, rfl⟩) ?_ (nI_add 204 t)
  refine sr_rule1 (H := 604 + t) (A := 204 + t) (c := 3) (by omega) (by omega) (by omega) (nI_add 604 t) rfl rfl (by omega) (sr_vo4 t ht) ?_
  refine br_t rfl ?_
  refine sr_267 hS (fun R hR => ⟨7, ?_⟩)
  refine sr_352 ht ⟨⟨rfl, by omega, by omega, ht, rfl, rfl, fun r h1 _ => h1, fun r hr => ?_⟩, rfl, hS, hR, sr_actA2, sr_actA3, g0, g⟩ h 7 0 _ _ _ _ _ 0 _ _ _ _ _ _ (by omega) (by omega) (Or.inl rfl)
  have hr' : r = 0 ∨ r = 1 ∨ r = 2 ∨ r = 3 := by omega
  rcases hr' with rfl | rfl | rfl | rfl
  · exact Or.inl ⟨rfl, rfl, rfl, rfl, rfl⟩
  · exact Or.inr (Or.inl ⟨rfl, rfl, rfl, rfl, rfl, rfl, rfl⟩)
  · exact Or.inr (Or.inr (Or.inl ⟨rfl, rfl, rfl, rfl, rfl, rfl, rfl⟩))
  · exact Or.inr (Or.inr (Or.inr ⟨rfl, rfl, rfl, rfl, rfl⟩))
/-- ahead of pair i: what is given below i is what is left of the steps there; nothing is given from i on -/
def sr_G (i : Nat) (w : Int64) (a1 : Nat → Int64) : Prop := sr_36 w ∧ (∀ j, j < i → sr_b (a1 0) j = sr_b w j) ∧ (∀ j, i ≤ j → sr_b (a1 0) j = false) ∧ ∀ j, 0 < j → j < 8 → a1 j = 0
theorem sr_G_no {i : Nat} {w : Int64} {a1 : Nat → Int64} (hi : i < 36) (h : sr_G i w a1) : sr_G (i + 1) (w &&& (((1 : Int64) <<< ((nI i).toInt64 &&& 63)) ^^^ (-1))) a1 := by
  obtain ⟨h1, h2, h3, h4⟩ := h
  have b : ∀ j, sr_b (w &&& (((1 : Int64) <<< ((nI i).toInt64 &&& 63)) ^^^ (-1))) j = (sr_b w j && !decide (j = i)) := fun j => by rw [sr_andn, sr_one (by omega)]
  refine ⟨fun j hj => by rw [b j, h1 j hj, Bool.false_and], fun j hj => ?_, fun j hj => h3 j (by omega), h4⟩
  rw [b j]
  by_cases e : j = i
  · rw [h3 j (by omega), decide_eq_true e, Bool.not_true, Bool.and_false]
  · rw [decide_eq_false e, Bool.not_false, Bool.and_true]
    exact h2 j (by omega)
theorem sr_G_yes {i : Nat} {w : Int64} {a1 : Nat → Int64} (hi : i < 36) (h : sr_G i w a1) (hw : sr_b w i = true) : sr_G (i + 1) w (vp_updL a1 0 (a1 0 ||| ((1 : Int64) <<< ((nI i).toInt64 &&& 63)))) := by
  obtain ⟨h1, h2, h3, h4⟩ := h
  have b : ∀ j, sr_b (vp_updL a1 0 (a1 0 ||| ((1 : Int64) <<< ((nI i).toInt64 &&& 63))) 0) j = (sr_b (a1 0) j || decide (j = i)) := fun j => by rw [pk_uLs, sr_or, sr_one (by omega)]
  refine ⟨h1, fun j hj => ?_, fun j hj => ?_, fun j hj h8 => by rw [pk_uLn (by omega)]; exact h4 j hj h8⟩
  · rw [b j]
    by_cases e : j = i
    · subst e
      rw [decide_eq_true rfl, Bool.or_true, hw]
    · rw [decide_eq_false e, Bool.or_false]
      exact h2 j (by omega)
  · rw [b j, decide_eq_false (by omega), Bool.or_false]
    exact h3 j (by omega)
theorem sr_G36 {w : Int64} {a1 : Nat → Int64} (h : sr_G 36 w a1) : a1 0 = w := sr_ext (fun i _ => by
  obtain ⟨h1, h2, h3, h4⟩ := h
  rcases Nat.lt_or_ge i 36 with c | c
  · exact h2 i c
  · rw [h3 i c, h1 i c])
/-- the inner loop that gives -/
theorem sr_37 {post : Int32 → St0 → Prop} {mc ms kc ks a : Nat} {J} {x0 x2 : Int32} (ha : a < 6) (h : ∀ (w : Int64) (a1 : Nat → Int64), sr_G (6 * (a + 1)) w a1 → J w (nI (a + 1)) fc fd fs fp fn fw fx fm 0 a1 a2 a3 a4 a5 a6 a7 a8 a9 a10 a11 a12 a13 a14) :
    ∀ (n b : Nat) (w : Int64) (a1 : Nat → Int64), b ≤ 6 → 6 < n + b → sr_G (6 * a + b) w a1 → wL_lawOf_37 post mc ms J x0 x2 (nI a) kc ks n w (nI b) fc fd fs fp fn fw fx fm 0 a1 a2 a3 a4 a5 a6 a7 a8 a9 a10 a11 a12 a13 a14 := by
  intro n
  induction n with
  | zero =>
    intro b w a1 h1 h2
    omega
  | succ n ih =>
    intro b w a1 h1 h2 hG
    refine pk_le 6 b (fun z => nm_r (nI_1 a) (h w a1 (by rw [show 6 * (a + 1) = 6 * a + b by omega]; exact hG))) (fun z => ?_)
    have no : wL_lawOf_86 post mc ms J (wL_lawOf_37 post mc ms J x0 x2 (nI a) kc ks n) x0 x2 w (nI a) (nI b) kc ks fc fd fs fp fn fw fx fm 0 a1 a2 a3 a4 a5 a6 a7 a8 a9 a10 a11 a12 a13 a14 := by
      refine nm_r (e' := w &&& (((1 : Int64) <<< ((nI (6 * a + b)).toInt64 &&& 63)) ^^^ (-1))) (by rw [sr_6]) (nm_r (nI_1 b) ?_)
      exact ih (b + 1) _ a1 (by omega) (by omega) (sr_G_no (i := 6 * a + b) (by omega) hG)
    refine sr_inL a b (by omega) ?_
    cases hb : sr_b w (6 * a + b)
    · exact br_t rfl no
    · refine br_f (by decide) (br_c (fun _ => ?_) (fun _ => no))
      refine sr_give a b ha z (fun r => nm_r (nI_1 b) ?_)
      exact ih (b + 1) w _ (by omega) (by omega) (sr_G_yes (i := 6 * a + b) (by omega) hG hb)
/-- the outer one -/
theorem sr_27 {post : Int32 → St0 → Prop} {mc ms kc ks : Nat} {x0 x2 : Int32} (h : post 1 ()) :
    ∀ (n a : Nat) (w : Int64) (a1 : Nat → Int64), a ≤ 6 → 6 < n + a → sr_G (6 * a) w a1 → wL_lawOf_27 post mc ms x0 x2 kc ks n w (nI a) 0 0 (-1) fp fn fw fx fm 0 a1 a2 a3 a4 a5 a6 a7 a8 a9 a10 a11 a12 a13 a14 := by
  intro n
  induction n with
  | zero =>
    intro a w a1 h1 h2
    omega
  | succ n ih =>
    intro a w a1 h1 h2 hG
    by_cases e : a = 6
    · subst e
      exact sr_27e hG.1 (sr_G36 hG) hG.2.2.2 h
    · refine pk_le 6 a (fun z => absurd z (by omega)) (fun _ => ⟨7, ?_⟩)
      exact sr_37 (by omega) (fun w a1 g => ih (a + 1) w a1 (by omega) (by omega) g) 7 0 w a1 (by omega) (by omega) hG
end
end
section
/-! the statement that is owed -/
theorem sr_shl {k : Nat} (hk : k < 64) (x : Int64) {i : Nat} (hi : i < 64) : sr_b (x <<< ((nI k).toInt64 &&& 63)) i = (decide (k ≤ i) && sr_b x (i - k)) := by
  unfold sr_b
  rw [Int64.toBitVec_shiftLeft]
  show (x.toBitVec <<< (((nI k).toInt64 &&& 63).toBitVec.smod 64).toNat).getLsbD i = _
  rw [sr_sl k hk, BitVec.getLsbD_shiftLeft]
  rcases Nat.lt_or_ge i k with h | h
  · simp [h, Nat.not_le.mpr h]
  · simp [hi, h, Nat.not_lt.mpr h]
theorem sr_hi {x : Int32} {i : Nat} (hi : 18 ≤ i) : sr_b (x &&& 262143).toInt64 i = false := by
  obtain ⟨j, hj, e⟩ := pk_andE x (m := 262143) 18 (by decide)
  rw [e, nI_l (by omega)]
  show (BitVec.ofNat 64 j).getLsbD i = false
  rw [BitVec.getLsbD_ofNat, Nat.testBit_lt_two_pow (Nat.lt_of_lt_of_le hj (Nat.pow_le_pow_right (by decide) hi)), Bool.and_false]
theorem sr_steps (p q : Int32) : sr_36 (((p &&& 262143).toInt64) ||| (((q &&& 262143).toInt64) <<< ((18 : Int32).toInt64 &&& 63))) := by
  intro i hi
  by_cases h : i < 64
  · rw [sr_or, sr_hi (by omega), Bool.false_or]
    have e := sr_shl (k := 18) (by omega) (q &&& 262143).toInt64 h
    rw [sr_hi (by omega), Bool.and_false] at e
    exact e
  · exact sr_big (by omega)
theorem sr_cell {post : Int32 → Prop} {L : Nat} {xs : Nat → Int32} (j : Nat) (hL : L ≤ 3) (hj : j < 3) (h : ∀ r : Int32, post r) : wpL_cellAt post L xs () (nI j) :=
  pk_le L j (fun _ => h 0) (fun g => ⟨pk_in j L g, h _⟩)
theorem i_vc (xs : Nat → Int32) (L : Nat) (hL : L ≤ 3) : wpL_law (fun r => r = 1) L xs := by
  unfold wpL_law
  refine sr_cell 0 hL (by omega) (fun p => ?_)
  refine sr_cell 1 hL (by omega) (fun q => ?_)
  refine sr_cell 2 hL (by omega) (fun th => ?_)
  refine ⟨15, 204, by omega, by omega, by omega, by omega, 14, 181, by omega, by omega, ?_⟩
  unfold wpX_init
  dsimp only
  refine ⟨by omega, by omega, by omega, by omega, by omega, by omega, by omega, by omega, by omega, by omega, by omega, by omega, by omega, by omega, by omega, by omega, by omega, by omega, by omega, by omega, by omega, by omega, by omega, by omega, by omega, by omega, by omega, by omega, ?_⟩
  refine nm_e ⟨7, ?_⟩
  exact sr_27 rfl 7 0 _ _ (by omega) (by omega) ⟨sr_steps p q, fun j hj => absurd hj (by omega), fun j _ => sr_0 j, fun _ _ _ => rfl⟩
end
