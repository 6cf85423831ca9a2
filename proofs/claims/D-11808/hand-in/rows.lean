section
/-! bits of Int32 and Int64 -/
def la_b (x : Int32) (i : Nat) : Bool := x.toBitVec.getLsbD i
def la_l (x : Int64) (i : Nat) : Bool := x.toBitVec.getLsbD i
theorem la_sl : ∀ n, n < 32 → ((nI n &&& 31).toBitVec.smod 32).toNat = n := by decide +kernel
theorem la_sL : ∀ n, n < 64 → (((nI n).toInt64 &&& 63).toBitVec.smod 64).toNat = n := by decide +kernel
theorem la_b1 (w : BitVec 32) (n : Nat) (hn : n < 32) : (w.sshiftRight n &&& 1#32) = if w.getLsbD n = true then 1#32 else 0#32 := by
  apply BitVec.eq_of_getLsbD_eq
  intro i hi
  rw [BitVec.getLsbD_and, BitVec.getLsbD_sshiftRight]
  cases hb : w.getLsbD n
  · cases i with
    | zero => rw [Nat.add_zero, if_pos hn, hb]; simp
    | succ i => simp [BitVec.getLsbD_one]
  · cases i with
    | zero => rw [Nat.add_zero, if_pos hn, hb]; simp
    | succ i => simp [BitVec.getLsbD_one]
theorem la_l1 (w : BitVec 64) (n : Nat) (hn : n < 64) : (w.sshiftRight n &&& 1#64) = if w.getLsbD n = true then 1#64 else 0#64 := by
  apply BitVec.eq_of_getLsbD_eq
  intro i hi
  rw [BitVec.getLsbD_and, BitVec.getLsbD_sshiftRight]
  cases hb : w.getLsbD n
  · cases i with
    | zero => rw [Nat.add_zero, if_pos hn, hb]; simp
    | succ i => simp [BitVec.getLsbD_one]
  · cases i with
    | zero => rw [Nat.add_zero, if_pos hn, hb]; simp
    | succ i => simp [BitVec.getLsbD_one]
theorem la_bv (x : Int32) (n : Nat) (hn : n < 32) : ((x >>> (nI n &&& 31)) &&& 1) = if la_b x n = true then 1 else 0 := by
  apply Int32.toBitVec_inj.mp
  rw [Int32.toBitVec_and, Int32.toBitVec_shiftRight]
  have e := la_b1 x.toBitVec n hn
  have e2 : x.toBitVec.sshiftRight' ((nI n &&& 31).toBitVec.smod 32) = x.toBitVec.sshiftRight n := by
    show x.toBitVec.sshiftRight ((nI n &&& 31).toBitVec.smod 32).toNat = _
    rw [la_sl n hn]
  rw [e2]
  refine e.trans ?_
  unfold la_b
  cases x.toBitVec.getLsbD n <;> rfl
theorem la_lv (x : Int64) (n : Nat) (hn : n < 64) : ((x >>> ((nI n).toInt64 &&& 63)) &&& 1) = if la_l x n = true then 1 else 0 := by
  apply Int64.toBitVec_inj.mp
  rw [Int64.toBitVec_and, Int64.toBitVec_shiftRight]
  have e := la_l1 x.toBitVec n hn
  have e2 : x.toBitVec.sshiftRight' (((nI n).toInt64 &&& 63).toBitVec.smod 64) = x.toBitVec.sshiftRight n := by
    show x.toBitVec.sshiftRight (((nI n).toInt64 &&& 63).toBitVec.smod 64).toNat = _
    rw [la_sL n hn]
  rw [e2]
  refine e.trans ?_
  unfold la_l
  cases x.toBitVec.getLsbD n <;> rfl
theorem la_b_1 (x : Int32) (n : Nat) (hn : n < 32) : ((x >>> (nI n &&& 31)) &&& 1) = 1 ↔ la_b x n = true := by
  rw [la_bv x n hn]
  cases la_b x n
  · exact ⟨fun h => absurd h (by decide), fun h => absurd h (by decide)⟩
  · exact ⟨fun _ => rfl, fun _ => rfl⟩
theorem la_b_0 (x : Int32) (n : Nat) (hn : n < 32) : ((x >>> (nI n &&& 31)) &&& 1) = 0 ↔ la_b x n = false := by
  rw [la_bv x n hn]
  cases la_b x n
  · exact ⟨fun _ => rfl, fun _ => rfl⟩
  · exact ⟨fun h => absurd h (by decide), fun h => absurd h (by decide)⟩
theorem la_l_0 (x : Int64) (n : Nat) (hn : n < 64) : ((x >>> ((nI n).toInt64 &&& 63)) &&& 1) = 0 ↔ la_l x n = false := by
  rw [la_lv x n hn]
  cases la_l x n
  · exact ⟨fun _ => rfl, fun _ => rfl⟩
  · exact ⟨fun h => absurd h (by decide), fun h => absurd h (by decide)⟩
theorem la_lI (x : Int64) (n : Nat) (hn : n < 64) : ((x >>> ((nI n).toInt64 &&& 63)).toInt32 &&& 1) = nI (if la_l x n = true then 1 else 0) := by
  have e : ∀ y : Int64, (y.toInt32 &&& 1) = (y &&& 1).toInt32 := by
    intro y
    apply Int32.toBitVec_inj.mp
    rw [Int32.toBitVec_and, Int64.toBitVec_toInt32, Int64.toBitVec_toInt32, Int64.toBitVec_and]
    apply BitVec.eq_of_getLsbD_eq
    intro i hi
    rw [BitVec.getLsbD_and, BitVec.getLsbD_signExtend, BitVec.getLsbD_signExtend, BitVec.getLsbD_and]
    have h1 : ∀ i, i < 32 → (1 : Int32).toBitVec.getLsbD i = (1 : Int64).toBitVec.getLsbD i := by decide
    rw [h1 i hi, if_pos (show i < 64 by omega), if_pos (show i < 64 by omega)]
    simp [hi]
  rw [e, la_lv x n hn]
  cases la_l x n <;> decide
theorem la_b_or (x y : Int32) (i : Nat) : la_b (x ||| y) i = (la_b x i || la_b y i) := by unfold la_b; rw [Int32.toBitVec_or, BitVec.getLsbD_or]
theorem la_l_or (x y : Int64) (i : Nat) : la_l (x ||| y) i = (la_l x i || la_l y i) := by unfold la_l; rw [Int64.toBitVec_or, BitVec.getLsbD_or]
theorem la_l_and (x y : Int64) (i : Nat) : la_l (x &&& y) i = (la_l x i && la_l y i) := by unfold la_l; rw [Int64.toBitVec_and, BitVec.getLsbD_and]
theorem la_l_not (x : Int64) (i : Nat) (hi : i < 64) : la_l (x ^^^ (-1)) i = !la_l x i := by
  unfold la_l
  have ha : (-1 : Int64).toBitVec = BitVec.allOnes 64 := by decide
  rw [Int64.toBitVec_xor, BitVec.getLsbD_xor, ha, BitVec.getLsbD_allOnes]
  simp [hi]
theorem la_bb : ∀ n, n < 32 → ∀ i, i < 32 → la_b ((1 : Int32) <<< (nI n &&& 31)) i = decide (i = n) := by decide +kernel
theorem la_ll : ∀ n, n < 64 → ∀ i, i < 64 → la_l ((1 : Int64) <<< ((nI n).toInt64 &&& 63)) i = decide (i = n) := by decide +kernel
theorem la_low : ∀ n, n < 61 → ∀ i, i < 64 → la_l (((1 : Int64) <<< ((nI n).toInt64 &&& 63)) - 1) i = decide (i < n) := by decide +kernel
theorem la_rng : ∀ b, b < 10 → ∀ a, a < 10 → a ≤ b → ∀ i, i < 32 → la_b (((1 : Int32) <<< ((nI b + 1) &&& 31)) - ((1 : Int32) <<< (nI a &&& 31))) i = (decide (a ≤ i) && decide (i ≤ b)) := by decide +kernel
theorem la_set (x : Int32) (n i : Nat) (hn : n < 32) (hi : i < 32) : la_b (x ||| ((1 : Int32) <<< (nI n &&& 31))) i = (la_b x i || decide (i = n)) := by rw [la_b_or, la_bb n hn i hi]
theorem la_setL (x : Int64) (n i : Nat) (hn : n < 64) (hi : i < 64) : la_l (x ||| ((1 : Int64) <<< ((nI n).toInt64 &&& 63))) i = (la_l x i || decide (i = n)) := by rw [la_l_or, la_ll n hn i hi]
theorem la_b0 (i : Nat) : la_b 0 i = false := BitVec.getLsbD_zero
theorem la_l0 (i : Nat) : la_l 0 i = false := BitVec.getLsbD_zero
theorem la_b1' : ∀ i, i < 32 → la_b 1 i = decide (i = 0) := by decide +kernel
theorem la_l_z (x : Int64) : x = 0 ↔ ∀ i, i < 64 → la_l x i = false := by
  constructor
  · intro h i _
    rw [h, la_l0]
  · intro h
    apply Int64.toBitVec_inj.mp
    apply BitVec.eq_of_getLsbD_eq
    intro i hi
    exact (h i hi).trans (la_l0 i).symm
/-! matching: parts against items -/
def la_row (g : Bool) (p t : Nat → Bool) : Nat → Bool
  | 0 => g && p 0
  | i + 1 => if g then la_row g p t i || p (i + 1) else p i && t i
def la_M (g : Nat → Bool) (t : Nat → Nat → Bool) : Nat → Nat → Bool
  | 0 => fun i => decide (i = 0)
  | k + 1 => la_row (g k) (la_M g t k) (t k)
theorem la_M_s0 (g : Nat → Bool) (t : Nat → Nat → Bool) (k : Nat) : la_M g t (k + 1) 0 = (g k && la_M g t k 0) := rfl
theorem la_M_ss (g : Nat → Bool) (t : Nat → Nat → Bool) (k i : Nat) : la_M g t (k + 1) (i + 1) = if g k then la_M g t (k + 1) i || la_M g t k (i + 1) else la_M g t k i && t k i := rfl
theorem la_M_mono {g : Nat → Bool} {t t' : Nat → Nat → Bool} {K N : Nat} (h : ∀ k i, k < K → i < N → g k = false → t k i = true → t' k i = true) : ∀ k, k ≤ K → ∀ i, i ≤ N → la_M g t k i = true → la_M g t' k i = true := by
  intro k
  induction k with
  | zero => intro _ i _ e; exact e
  | succ k ih =>
    intro hk i
    induction i with
    | zero =>
      intro hi e
      rw [la_M_s0] at e ⊢
      cases hg : g k
      · rw [hg, Bool.false_and] at e; exact absurd e (by decide)
      · rw [hg] at e
        rw [ih (by omega) 0 (by omega) (by simpa using e)]
        rfl
    | succ i ihi =>
      intro hi e
      rw [la_M_ss] at e ⊢
      cases hg : g k
      · rw [hg] at e
        simp only [Bool.false_eq_true, if_false, Bool.and_eq_true] at e ⊢
        exact ⟨ih (by omega) i (by omega) e.1, h k i (by omega) (by omega) hg e.2⟩
      · rw [hg] at e
        simp only [if_true, Bool.or_eq_true] at e ⊢
        rcases e with e | e
        · exact Or.inl (ihi (by omega) e)
        · exact Or.inr (ih (by omega) (i + 1) hi e)
theorem la_M_congr {g : Nat → Bool} {t t' : Nat → Nat → Bool} {K N : Nat} (h : ∀ k i, k < K → i < N → g k = false → t k i = t' k i) : la_M g t K N = la_M g t' K N := by
  cases h1 : la_M g t' K N
  · cases h2 : la_M g t K N
    · rfl
    · rw [la_M_mono (fun k i hk hi hg e => (h k i hk hi hg) ▸ e) K (Nat.le_refl _) N (Nat.le_refl _) h2] at h1
      exact absurd h1 (by decide)
  · exact la_M_mono (fun k i hk hi hg e => (h k i hk hi hg).symm ▸ e) K (Nat.le_refl _) N (Nat.le_refl _) h1
/-- the class's set of places: a place with a gap stands for 'the gap has taken some' -/
def la_D (m : Nat) (g : Nat → Bool) (t : Nat → Nat → Bool) (k i : Nat) : Bool := if k < m ∧ g k = true then la_M g t (k + 1) i else la_M g t k i
def la_ov (g s : Nat → Bool) : Nat → Bool
  | 0 => s 0
  | k + 1 => s (k + 1) || (la_ov g s k && g k)
def la_th (j : Nat) (g s t : Nat → Bool) (i : Nat) : Bool := (decide (i < j) && (g i && s i)) || (decide (0 < i) && (decide (i ≤ j) && (!g (i - 1) && (s (i - 1) && t (i - 1)))))
theorem la_D_M (m : Nat) (g : Nat → Bool) (t : Nat → Nat → Bool) (i : Nat) : la_D m g t m i = la_M g t m i := by
  unfold la_D
  rw [if_neg (fun h => absurd h.1 (by omega))]
theorem la_D_g {m : Nat} {g : Nat → Bool} {t : Nat → Nat → Bool} {k i : Nat} (hk : k < m) (h : g k = true) : la_D m g t k i = la_M g t (k + 1) i := if_pos ⟨hk, h⟩
theorem la_D_n {m : Nat} {g : Nat → Bool} {t : Nat → Nat → Bool} {k i : Nat} (h : g k = false) : la_D m g t k i = la_M g t k i := if_neg (fun z => by rw [h] at z; exact absurd z.2 (by decide))
theorem la_ov_congr {m : Nat} {g s s' : Nat → Bool} (h : ∀ k, k ≤ m → s k = s' k) : ∀ k, k ≤ m → la_ov g s k = la_ov g s' k := by
  intro k
  induction k with
  | zero => intro hk; exact h 0 hk
  | succ k ih =>
    intro hk
    show (s (k + 1) || (la_ov g s k && g k)) = (s' (k + 1) || (la_ov g s' k && g k))
    rw [h (k + 1) hk, ih (by omega)]
theorem la_ov_0 (m : Nat) (g : Nat → Bool) (t : Nat → Nat → Bool) : ∀ k, k ≤ m → la_ov g (fun i => decide (i = 0)) k = la_D m g t k 0 := by
  intro k
  induction k with
  | zero =>
    intro hk
    show true = la_D m g t 0 0
    cases hg : g 0
    · rw [la_D_n hg]; rfl
    · rcases Nat.eq_or_lt_of_le hk with e | e
      · subst e; rw [la_D_M]; rfl
      · rw [la_D_g e hg, la_M_s0, hg]; rfl
  | succ k ih =>
    intro hk
    show (decide (k + 1 = 0) || (la_ov g (fun i => decide (i = 0)) k && g k)) = _
    rw [ih (by omega)]
    have e1 : la_D m g t (k + 1) 0 = la_M g t (k + 1) 0 := by
      cases hg : g (k + 1)
      · exact la_D_n hg
      · rcases Nat.eq_or_lt_of_le hk with e | e
        · subst e; exact la_D_M _ _ _ _
        · rw [la_D_g e hg, la_M_s0, hg]; rfl
    rw [e1, la_M_s0]
    cases hg : g k
    · simp
    · rw [la_D_g (by omega) hg, la_M_s0, hg]
      simp
theorem la_ov_s (m : Nat) (g : Nat → Bool) (t : Nat → Nat → Bool) (i : Nat) (s : Nat → Bool) (hs : ∀ k, k ≤ m → s k = la_D m g t k i) : ∀ k, k ≤ m → la_ov g (la_th m g s (fun k => t k i)) k = la_D m g t k (i + 1) := by
  intro k
  induction k with
  | zero =>
    intro hk
    show la_th m g s (fun k => t k i) 0 = _
    unfold la_th
    rw [hs 0 hk]
    rcases Nat.eq_or_lt_of_le hk with e | e
    · subst e; rw [la_D_M]; simp [la_M, la_D]
    · cases hg : g 0
      · simp [la_M, la_D, hg]
      · rw [la_D_g e hg, la_D_g e hg, la_M_ss, hg]; simp [la_M, e]
  | succ k ih =>
    intro hk
    show (la_th m g s (fun k => t k i) (k + 1) || (la_ov g (la_th m g s (fun k => t k i)) k && g k)) = _
    rw [ih (by omega)]
    unfold la_th
    rw [hs (k + 1) hk, show k + 1 - 1 = k from rfl, hs k (by omega)]
    have e1 : (((decide (0 < k + 1) && (decide (k + 1 ≤ m) && (!g k && (la_D m g t k i && t k i))))) || (la_D m g t k (i + 1) && g k)) = la_M g t (k + 1) (i + 1) := by
      rw [la_M_ss]
      cases hg : g k
      · rw [la_D_n hg]
        simp [hk]
      · rw [la_D_g (i := i + 1) (by omega) hg, la_M_ss, hg]
        simp
    rw [Bool.or_assoc, e1]
    rcases Nat.eq_or_lt_of_le hk with e | e
    · subst e; rw [la_D_M (k + 1) g t (i + 1)]; simp
    · cases hg : g (k + 1)
      · rw [la_D_n (i := i + 1) hg]; simp
      · rw [la_D_g (i := i) e hg, la_D_g (i := i + 1) e hg, la_M_ss g t (k + 1) i, hg]; simp [e]
theorem la_th_0 (g s t : Nat → Bool) (i : Nat) : la_th 0 g s t i = false := by
  unfold la_th
  cases i <;> simp
theorem la_th_s (j : Nat) (g s t : Nat → Bool) (i : Nat) : la_th (j + 1) g s t i = (la_th j g s t i || (s j && ((g j && decide (i = j)) || (!g j && (t j && decide (i = j + 1)))))) := by
  unfold la_th
  by_cases e1 : i = j
  · subst e1
    cases h1 : g i <;> cases h2 : s i <;> simp
    all_goals (try (intros; omega))
  · by_cases e2 : i = j + 1
    · subst e2
      simp only [show ¬ j + 1 ≤ j by omega, show ¬ j + 1 < j by omega, show ¬ j + 1 < j + 1 by omega, decide_false, Bool.false_and, Bool.and_false, Bool.false_or, Nat.add_sub_cancel, Nat.le_refl, decide_true, Bool.true_and, show 0 < j + 1 by omega, show ¬ j + 1 = j by omega, Bool.and_true]
      cases h1 : g j <;> cases h2 : s j <;> simp
    · rw [show decide (i < j + 1) = decide (i < j) by rw [decide_eq_decide]; omega, show decide (i ≤ j + 1) = decide (i ≤ j) by rw [decide_eq_decide]; omega, decide_eq_false e1, decide_eq_false e2]
      simp
/-- a gap in the law: bits from a place on -/
def la_gr (p : Nat → Bool) : Nat → Nat → Bool
  | 0 => fun _ => false
  | i + 1 => fun j => la_gr p i j || (p i && decide (i ≤ j))
theorem la_gr_iff (p : Nat → Bool) (i j : Nat) : la_gr p i j = true ↔ ∃ a, a < i ∧ a ≤ j ∧ p a = true := by
  induction i with
  | zero => exact ⟨fun h => Bool.noConfusion h, fun ⟨a, h, _⟩ => absurd h (by omega)⟩
  | succ i ih =>
    show (la_gr p i j || (p i && decide (i ≤ j))) = true ↔ _
    rw [Bool.or_eq_true, Bool.and_eq_true, decide_eq_true_iff, ih]
    constructor
    · rintro (⟨a, h1, h2, h3⟩ | ⟨h1, h2⟩)
      · exact ⟨a, by omega, h2, h3⟩
      · exact ⟨i, by omega, h2, h1⟩
    · rintro ⟨a, h1, h2, h3⟩
      rcases Nat.lt_or_ge a i with z | z
      · exact Or.inl ⟨a, z, h2, h3⟩
      · have e : a = i := by omega
        subst e
        exact Or.inr ⟨h3, h2⟩
theorem la_row_iff (p t : Nat → Bool) (j : Nat) : la_row true p t j = true ↔ ∃ a, a ≤ j ∧ p a = true := by
  induction j with
  | zero =>
    show (true && p 0) = true ↔ _
    rw [Bool.true_and]
    exact ⟨fun h => ⟨0, by omega, h⟩, fun ⟨a, h1, h2⟩ => by rw [show a = 0 by omega] at h2; exact h2⟩
  | succ j ih =>
    show (if true = true then la_row true p t j || p (j + 1) else _) = true ↔ _
    rw [if_pos rfl, Bool.or_eq_true, ih]
    constructor
    · rintro (⟨a, h1, h2⟩ | h)
      · exact ⟨a, by omega, h2⟩
      · exact ⟨j + 1, by omega, h⟩
    · rintro ⟨a, h1, h2⟩
      rcases Nat.lt_or_ge a (j + 1) with z | z
      · exact Or.inl ⟨a, by omega, h2⟩
      · rw [show a = j + 1 by omega] at h2
        exact Or.inr h2
theorem la_gr_row (p t : Nat → Bool) {n j : Nat} (h : j < n) : la_gr p n j = la_row true p t j := by
  rw [Bool.eq_iff_iff, la_gr_iff, la_row_iff]
  exact ⟨fun ⟨a, _, h2, h3⟩ => ⟨a, h2, h3⟩, fun ⟨a, h2, h3⟩ => ⟨a, by omega, h2, h3⟩⟩
theorem la_row_congr {g : Bool} {p p' t t' : Nat → Bool} {n : Nat} (hp : ∀ i, i ≤ n → p i = p' i) (ht : ∀ i, i < n → t i = t' i) : ∀ i, i ≤ n → la_row g p t i = la_row g p' t' i := by
  intro i
  induction i with
  | zero =>
    intro h
    show (g && p 0) = (g && p' 0)
    rw [hp 0 h]
  | succ i ih =>
    intro h
    show (if g = true then la_row g p t i || p (i + 1) else p i && t i) = (if g = true then la_row g p' t' i || p' (i + 1) else p' i && t' i)
    rw [ih (by omega), hp (i + 1) h, hp i (by omega), ht i (by omega)]
/-! counts, least, next, any -/
def la_ct (p : Nat → Bool) : Nat → Nat
  | 0 => 0
  | n + 1 => la_ct p n + (if p n = true then 1 else 0)
def la_an (p : Nat → Bool) : Nat → Bool
  | 0 => false
  | n + 1 => la_an p n || p n
def la_lw (p : Nat → Bool) : Nat → Nat → Nat
  | 0 => fun b => b
  | c + 1 => fun b => if p b = true then b else la_lw p c (b + 1)
def la_nx (p : Nat → Bool) : Nat → Nat → Int32
  | 0 => fun _ => -2
  | c + 1 => fun b => if p b = true then nI b else la_nx p c (b + 1)
theorem la_ct_le (p : Nat → Bool) (n : Nat) : la_ct p n ≤ n := by
  induction n with
  | zero => exact Nat.le_refl 0
  | succ n ih =>
    show la_ct p n + (if p n = true then 1 else 0) ≤ n + 1
    split <;> omega
theorem la_ct_congr {p q : Nat → Bool} {n : Nat} (h : ∀ k, k < n → p k = q k) : la_ct p n = la_ct q n := by
  induction n with
  | zero => rfl
  | succ n ih =>
    show la_ct p n + (if p n = true then 1 else 0) = la_ct q n + (if q n = true then 1 else 0)
    rw [ih (fun k hk => h k (by omega)), h n (by omega)]
theorem la_ct_mono (p : Nat → Bool) {a b : Nat} (h : a ≤ b) : la_ct p a ≤ la_ct p b := by
  induction b with
  | zero => rw [show a = 0 by omega]; exact Nat.le_refl _
  | succ b ih =>
    rcases Nat.eq_or_lt_of_le h with e | e
    · rw [e]; exact Nat.le_refl _
    · have := ih (by omega)
      show la_ct p a ≤ la_ct p b + (if p b = true then 1 else 0)
      omega
/-- the places of p between a and b, out of n -/
theorem la_ct_span (p : Nat → Bool) (a b : Nat) : ∀ n, la_ct (fun k => p k && (decide (k < b) && !decide (k < a))) n + la_ct p (min a (min b n)) = la_ct p (min b n) := by
  intro n
  induction n with
  | zero => simp [la_ct]
  | succ n ih =>
    show la_ct _ n + (if (p n && (decide (n < b) && !decide (n < a))) = true then 1 else 0) + _ = _
    by_cases h1 : n < b
    · rw [show min b (n + 1) = n + 1 by omega]
      rw [show min b n = n by omega] at ih
      by_cases h2 : n < a
      · rw [show min a (n + 1) = n + 1 by omega]
        rw [show min a n = n by omega] at ih
        simp only [h1, h2, decide_true, Bool.not_true, Bool.and_false, Bool.false_eq_true, if_false]
        omega
      · rw [show min a (n + 1) = a by omega]
        rw [show min a n = a by omega] at ih
        simp only [h1, h2, decide_true, decide_false, Bool.not_false, Bool.and_true]
        show _ = la_ct p n + (if p n = true then 1 else 0)
        omega
    · rw [show min b (n + 1) = b by omega]
      rw [show min b n = b by omega] at ih
      simp only [h1, decide_false, Bool.false_and, Bool.and_false, Bool.false_eq_true, if_false]
      omega
theorem la_an_iff (p : Nat → Bool) (n : Nat) : la_an p n = true ↔ ∃ k, k < n ∧ p k = true := by
  induction n with
  | zero => exact ⟨fun h => Bool.noConfusion h, fun ⟨a, h, _⟩ => absurd h (by omega)⟩
  | succ n ih =>
    show (la_an p n || p n) = true ↔ _
    rw [Bool.or_eq_true, ih]
    constructor
    · rintro (⟨a, h1, h2⟩ | h)
      · exact ⟨a, by omega, h2⟩
      · exact ⟨n, by omega, h⟩
    · rintro ⟨a, h1, h2⟩
      rcases Nat.lt_or_ge a n with z | z
      · exact Or.inl ⟨a, z, h2⟩
      · rw [show a = n by omega] at h2
        exact Or.inr h2
theorem la_lw_spec (p : Nat → Bool) : ∀ c b, b ≤ la_lw p c b ∧ la_lw p c b ≤ b + c ∧ (∀ j, b ≤ j → j < la_lw p c b → p j = false) ∧ (la_lw p c b < b + c → p (la_lw p c b) = true) := by
  intro c
  induction c with
  | zero => intro b; exact ⟨Nat.le_refl _, Nat.le_refl _, fun j h1 h2 => absurd h2 (by show ¬ j < b; omega), fun h => absurd h (by show ¬ b < b + 0; omega)⟩
  | succ c ih =>
    intro b
    show b ≤ (if p b = true then b else la_lw p c (b + 1)) ∧ (if p b = true then b else la_lw p c (b + 1)) ≤ b + (c + 1) ∧ (∀ j, b ≤ j → j < (if p b = true then b else la_lw p c (b + 1)) → p j = false) ∧ ((if p b = true then b else la_lw p c (b + 1)) < b + (c + 1) → p (if p b = true then b else la_lw p c (b + 1)) = true)
    cases hb : p b
    · obtain ⟨h1, h2, h3, h4⟩ := ih (b + 1)
      rw [if_neg (by decide)]
      refine ⟨by omega, by omega, fun j g1 g2 => ?_, fun g => h4 (by omega)⟩
      rcases Nat.eq_or_lt_of_le g1 with e | e
      · rw [← e]; exact hb
      · exact h3 j (by omega) g2
    · rw [if_pos rfl]
      exact ⟨Nat.le_refl _, by omega, fun j g1 g2 => absurd g2 (by omega), fun _ => hb⟩
theorem la_lw_uniq {p : Nat → Bool} {c b k : Nat} (h1 : b ≤ k) (h2 : k < b + c) (h3 : ∀ j, b ≤ j → j < k → p j = false) (h4 : p k = true) : la_lw p c b = k := by
  obtain ⟨g1, g2, g3, g4⟩ := la_lw_spec p c b
  rcases Nat.lt_trichotomy (la_lw p c b) k with z | z | z
  · have := g4 (by omega)
    rw [h3 _ g1 z] at this
    exact absurd this (by decide)
  · exact z
  · have := g3 k h1 z
    rw [h4] at this
    exact absurd this (by decide)
theorem la_nx_s (p : Nat → Bool) (c b : Nat) : la_nx p (c + 1) b = if p b = true then nI b else la_nx p c (b + 1) := rfl
/-- next by least: of a set q that holds what p holds from b on, below n -/
theorem la_nx_lw {p q : Nat → Bool} {n N : Nat} (hN : n ≤ N) : ∀ c b, b + c = n → ∀ k, (∀ j, j < k → q j = false) → k ≤ N → (∀ j, j < N → b ≤ j → q j = (decide (j < n) && p j)) → (k < N → q k = true) → b ≤ k → (if n ≤ k then (-2 : Int32) else nI k) = la_nx p c b := by
  intro c
  induction c with
  | zero =>
    intro b hb k h1 h2 h3 h4 h5
    rw [if_pos (by omega)]
    rfl
  | succ c ih =>
    intro b hb k h1 h2 h3 h4 h5
    rw [la_nx_s]
    have hq := h3 b (by omega) (Nat.le_refl _)
    rw [decide_eq_true (show b < n by omega), Bool.true_and] at hq
    rcases Nat.eq_or_lt_of_le h5 with e | e
    · subst e
      have := h4 (by omega)
      rw [hq] at this
      rw [if_neg (by omega), if_pos this]
    · have := h1 b e
      rw [hq] at this
      rw [this, if_neg (Bool.false_ne_true)]
      exact ih (b + 1) (by omega) k h1 h2 (fun j hj hb => h3 j hj (by omega)) h4 (by omega)
theorem la_ct_rm {q : Nat → Bool} {n l : Nat} (hl : l < n) (h : q l = true) : la_ct q n = la_ct (fun k => q k && !decide (k = l)) n + 1 := by
  induction n with
  | zero => omega
  | succ n ih =>
    show la_ct q n + (if q n = true then 1 else 0) = la_ct _ n + (if (q n && !decide (n = l)) = true then 1 else 0) + 1
    rcases Nat.eq_or_lt_of_le (show l ≤ n by omega) with e | e
    · subst e
      rw [if_pos h, if_neg (by simp)]
      rw [la_ct_congr (p := fun k => q k && !decide (k = l)) (q := q) (fun k hk => by simp [show ¬ k = l by omega])]
    · rw [ih e]
      have : decide (n = l) = false := decide_eq_false (by omega)
      rw [this]
      simp only [Bool.not_false, Bool.and_true]
      omega
theorem la_ct_0 {q : Nat → Bool} {n : Nat} (h : ∀ k, k < n → q k = false) : la_ct q n = 0 := by
  induction n with
  | zero => rfl
  | succ n ih =>
    show la_ct q n + (if q n = true then 1 else 0) = 0
    rw [ih (fun k hk => h k (by omega)), h n (by omega)]
    rfl
/-- two counts by a map so: each place of p below s has exactly one place of q above it -/
theorem la_ct_map {so : Nat → Nat} {p : Nat → Bool} {n : Nat} : ∀ (s : Nat) (q : Nat → Bool), (∀ x, x < s → p x = true → ∃ l, l < n ∧ q l = true ∧ so l = x) → (∀ l, l < n → q l = true → so l < s ∧ p (so l) = true) → (∀ l m, l < n → m < n → q l = true → q m = true → so l = so m → l = m) → la_ct p s = la_ct q n := by
  intro s
  induction s with
  | zero =>
    intro q _ h2 _
    rw [la_ct_0 (q := q)]
    · rfl
    · intro k hk
      cases e : q k
      · rfl
      · exact absurd (h2 k hk e).1 (by omega)
  | succ s ih =>
    intro q h1 h2 h3
    show la_ct p s + (if p s = true then 1 else 0) = _
    cases hp : p s
    · rw [if_neg (by decide)]
      refine ih q (fun x hx => h1 x (by omega)) (fun l hl hq => ⟨?_, (h2 l hl hq).2⟩) h3
      have a := h2 l hl hq
      rcases Nat.eq_or_lt_of_le (show so l ≤ s by omega) with e | e
      · rw [e, hp] at a; exact absurd a.2 (by decide)
      · exact e
    · rw [if_pos rfl]
      obtain ⟨l, g1, g2, g3⟩ := h1 s (by omega) hp
      rw [la_ct_rm g1 g2]
      congr 1
      refine ih _ (fun x hx hpx => ?_) (fun m hm hq => ?_) (fun a b ha hb qa qb e => ?_)
      · obtain ⟨m, k1, k2, k3⟩ := h1 x (by omega) hpx
        refine ⟨m, k1, ?_, k3⟩
        have : ¬ m = l := fun z => by rw [z, g3] at k3; omega
        simp [k2, this]
      · simp only [Bool.and_eq_true, Bool.not_eq_true', decide_eq_false_iff_not] at hq
        have a := h2 m hm hq.1
        refine ⟨?_, a.2⟩
        rcases Nat.eq_or_lt_of_le (show so m ≤ s by omega) with e | e
        · exact absurd (h3 m l hm g1 hq.1 g2 (by omega)) hq.2
        · exact e
      · simp only [Bool.and_eq_true, Bool.not_eq_true', decide_eq_false_iff_not] at qa qb
        exact h3 a b ha hb qa.1 qb.1 e
end
section
/-! items, parts, codes: pictures -/
def la_ok (v : Nat) : Prop := v < 24 ∨ (1000 ≤ v ∧ v < 2000)
def la_pok (p : Nat) : Prop := p < 24 ∨ (1000 ≤ p ∧ p < 2000) ∨ (2000 ≤ p ∧ p ≤ 2002) ∨ (3000 ≤ p ∧ p < 4000)
def la_bl (v : Nat) : Nat := if 1000 ≤ v ∧ v < 2000 then 1000 else v
def la_tk (p v : Nat) : Bool := if p = 2000 then true else if p = 2001 then decide (1000 ≤ v) else if p < 2000 then decide (p = v) else decide (p < v + 2000)
def la_ts (p v : Nat) : Bool := if v = 1000 then decide (1000 ≤ p) else la_tk p v
def la_code (a b : Nat) : Nat := if b ≤ a then 2 * (a - b) else 2 * (b - a) - 1
def la_wd (v b : Nat) : Nat := if v < 1000 then 0 else if la_code (v - 1000) b < 128 then 1 else 2
def la_by (a : Nat → Int32) (p c : Nat) : Prop := (c < 128 → a p = (nI c).toInt8.toInt32) ∧ (128 ≤ c → a p = ((nI c &&& 127) ||| 128).toInt8.toInt32 ∧ a (p + 1) = (nI c >>> ((7 : Int32) &&& 31)).toInt8.toInt32)
def la_ls (so : Nat → Nat) (it : Nat → Nat → Nat) (s i : Nat) : Nat → Nat
  | 0 => 0
  | l + 1 => if so l = s then it l i - 1000 else la_ls so it s i l
def la_ps (p : Nat) (w : Nat → Nat) : Nat → Nat
  | 0 => p
  | i + 1 => la_ps p w i + w i
def la_pre (f : Nat → Nat) : Nat → List Nat
  | 0 => []
  | n + 1 => la_pre f n ++ [f n]
theorem la_bl_1 {v : Nat} (h : la_ok v) : la_bl v = 1000 ↔ 1000 ≤ v := by
  unfold la_bl
  unfold la_ok at h
  split <;> omega
theorem la_bl_ok {v : Nat} (h : la_ok v) : la_bl v < 24 ∨ la_bl v = 1000 := by
  unfold la_bl
  unfold la_ok at h
  split <;> omega
theorem la_bl_w {v : Nat} (h : la_bl v ≠ 1000) : la_bl v = v := by
  unfold la_bl at h ⊢
  split
  · rename_i z; rw [if_pos z] at h; exact absurd rfl h
  · rfl
theorem la_tk_mono {p v : Nat} (hp : la_pok p) (hv : la_ok v) (h : la_tk p v = true) : la_ts p (la_bl v) = true := by
  unfold la_ts
  split
  · rename_i z
    rw [la_bl_1 hv] at z
    rw [decide_eq_true_iff]
    unfold la_tk at h
    split at h
    · omega
    · split at h
      · omega
      · split at h
        · rw [decide_eq_true_iff] at h; omega
        · omega
  · rename_i z
    rw [la_bl_w z]
    exact h
theorem la_tk_ex {p v : Nat} (hp : la_pok p) (hg : p ≠ 2002) (hv : la_ok v) (h1 : ¬ (1000 ≤ p ∧ p < 2000)) (h2 : p < 3000) : la_tk p v = la_ts p (la_bl v) := by
  unfold la_ts
  split
  · rename_i z
    rw [la_bl_1 hv] at z
    unfold la_pok at hp
    unfold la_tk
    split
    · rw [decide_eq_true]; omega
    · split
      · rw [decide_eq_decide]; omega
      · split
        · rw [decide_eq_decide]; omega
        · omega
  · rename_i z
    rw [la_bl_w z]
theorem la_code_lt {a b : Nat} (ha : a < 1000) (hb : b < 1000) : la_code a b < 2000 := by
  unfold la_code
  split <;> omega
theorem la_d2 : ∀ c, c < 2000 → 128 ≤ c → ((nI c &&& 127) ||| 128).toInt8.toInt32 &&& 255 = nI (c % 128 + 128) := by decide +kernel
theorem la_d3 : ∀ c, c < 2000 → 128 ≤ c → (nI (c % 128 + 128) &&& 127) ||| (((nI c >>> ((7 : Int32) &&& 31)).toInt8.toInt32 &&& 255) <<< ((7 : Int32) &&& 31)) = nI c := by decide +kernel
theorem la_ls_lt {so : Nat → Nat} {it : Nat → Nat → Nat} (h : ∀ l i, la_ok (it l i)) (s i l : Nat) : la_ls so it s i l < 1000 := by
  induction l with
  | zero => show 0 < 1000; omega
  | succ l ih =>
    show (if so l = s then it l i - 1000 else la_ls so it s i l) < 1000
    split
    · have := h l i
      unfold la_ok at this
      omega
    · exact ih
theorem la_ls_congr {so so' : Nat → Nat} {it : Nat → Nat → Nat} {s i n : Nat} (h : ∀ l, l < n → so' l = so l) : ∀ l, l ≤ n → la_ls so' it s i l = la_ls so it s i l := by
  intro l
  induction l with
  | zero => intro _; rfl
  | succ l ih =>
    intro hl
    show (if so' l = s then it l i - 1000 else la_ls so' it s i l) = (if so l = s then it l i - 1000 else la_ls so it s i l)
    rw [h l hl, ih (by omega)]
theorem la_ls_none {so : Nat → Nat} {it : Nat → Nat → Nat} {s i : Nat} : ∀ l, (∀ k, k < l → so k ≠ s) → la_ls so it s i l = 0 := by
  intro l
  induction l with
  | zero => intro _; rfl
  | succ l ih =>
    intro h
    show (if so l = s then it l i - 1000 else la_ls so it s i l) = 0
    rw [if_neg (h l (by omega)), ih (fun k hk => h k (by omega))]
theorem la_ps_congr {p : Nat} {w w' : Nat → Nat} {n : Nat} (h : ∀ j, j < n → w j = w' j) : ∀ i, i ≤ n → la_ps p w i = la_ps p w' i := by
  intro i
  induction i with
  | zero => intro _; rfl
  | succ i ih =>
    intro hi
    show la_ps p w i + w i = la_ps p w' i + w' i
    rw [ih (by omega), h i hi]
theorem la_ps_mono (p : Nat) (w : Nat → Nat) {i j : Nat} (h : i ≤ j) : la_ps p w i ≤ la_ps p w j := by
  induction j with
  | zero => rw [show i = 0 by omega]; exact Nat.le_refl _
  | succ j ih =>
    rcases Nat.eq_or_lt_of_le h with e | e
    · rw [e]; exact Nat.le_refl _
    · exact Nat.le_trans (ih (by omega)) (Nat.le_add_right _ _)
theorem la_ps_le (p : Nat) (w : Nat → Nat) (hw : ∀ j, w j ≤ 2) (i : Nat) : la_ps p w i ≤ p + 2 * i := by
  induction i with
  | zero => show p ≤ p + 2 * 0; omega
  | succ i ih =>
    have := hw i
    show la_ps p w i + w i ≤ p + 2 * (i + 1)
    omega
theorem la_wd_le (v b : Nat) : la_wd v b ≤ 2 := by
  unfold la_wd
  split
  · omega
  · split <;> omega
theorem la_pre_len (f : Nat → Nat) (n : Nat) : (la_pre f n).length = n := by
  induction n with
  | zero => rfl
  | succ n ih =>
    show (la_pre f n ++ [f n]).length = n + 1
    rw [List.length_append, ih]
    rfl
theorem la_pre_eq {f g : Nat → Nat} {n m : Nat} (h : la_pre f n = la_pre g m) : n = m ∧ ∀ i, i < n → f i = g i := by
  have e : n = m := by rw [← la_pre_len f n, ← la_pre_len g m, h]
  subst e
  refine ⟨rfl, ?_⟩
  induction n with
  | zero => intro i hi; omega
  | succ n ih =>
    have h' : la_pre f n ++ [f n] = la_pre g n ++ [g n] := h
    obtain ⟨h1, h2⟩ := List.append_inj h' (by rw [la_pre_len, la_pre_len])
    intro i hi
    rcases Nat.eq_or_lt_of_le (show i ≤ n by omega) with z | z
    · rw [z]; exact (List.cons.inj h2).1
    · exact ih h1 i z
theorem la_pre_congr {f g : Nat → Nat} {n : Nat} (h : ∀ i, i < n → f i = g i) : la_pre f n = la_pre g n := by
  induction n with
  | zero => rfl
  | succ n ih =>
    show la_pre f n ++ [f n] = la_pre g n ++ [g n]
    rw [ih (fun i hi => h i (by omega)), h n (by omega)]
/-! the methods over nothing -/
def la_cell (L : Nat) (xs : Nat → Int32) (k : Nat) : Int32 := if L ≤ k then 41 * nI k + 9 else xs k
theorem la_cellW {post : Int32 → Prop} {L : Nat} {xs : Nat → Int32} {x : Int32} (k : Nat) (hx : x = nI k) (hL : L ≤ 260) (hk : k < 1000) (H : post (la_cell L xs k)) : wpL_cell post L xs () x := by
  subst hx
  refine pk_le L k (fun z => ?_) (fun z => ⟨pk_in k L z, ?_⟩)
  · have e : la_cell L xs k = 41 * nI k + 9 := if_pos z
    rw [e] at H
    exact H
  · have e : la_cell L xs k = xs k := if_neg (by omega)
    rw [e] at H
    rw [nI_clamp (by omega)]
    exact H
theorem la_isNumber {post : Int32 → Prop} {x : Int32} (v : Nat) (hx : x = nI v) (hv : v < 4000) (H1 : 1000 ≤ v ∧ v < 2000 → post 1) (H0 : ¬ (1000 ≤ v ∧ v < 2000) → post 0) : wpX_isNumber post () x := by
  subst hx
  exact pk_lt v 1000 (fun z => H0 (by omega)) (fun z => pk_le 2000 v (fun y => H0 (by omega)) (fun y => H1 (by omega)))
theorem la_blanked {post : Int32 → Prop} {x : Int32} (v : Nat) (hx : x = nI v) (hv : v < 4000) (H : post (nI (la_bl v))) : wpX_blanked post () x := by
  unfold la_bl at H
  refine la_isNumber v hx hv (fun z => br_f (by decide) ?_) (fun z => br_t rfl ?_)
  · rw [if_pos z] at H; exact H
  · rw [if_neg z] at H; rw [hx]; exact H
theorem la_isItem {post : Int32 → Prop} {x : Int32} (v : Nat) (hx : x = nI v) (hv : v < 4000) (H1 : la_ok v → post 1) (H0 : ¬ la_ok v → post 0) : wpX_isItem post () x := by
  unfold la_ok at H1 H0
  have a : wX_isItem_10 post x → (x < 0 → wX_isItem_10 post x) ∧ (¬ x < 0 → True) := fun h => ⟨fun _ => h, fun _ => trivial⟩
  subst hx
  refine br_f (nI_pos (by omega)) (pk_lt v 24 (fun z => H1 (by omega)) (fun z => ?_))
  exact la_isNumber v rfl hv (fun y => br_f (by decide) (H1 (by omega))) (fun y => br_t rfl (H0 (by omega)))
theorem la_isPart {post : Int32 → Prop} {x : Int32} (p : Nat) (hx : x = nI p) (hp : la_pok p) (H : post 1) : wpX_isPart post () x := by
  subst hx
  have hv : p < 4000 := by unfold la_pok at hp; omega
  refine la_isItem p rfl hv (fun _ => br_f (by decide) H) (fun z => br_t rfl ?_)
  unfold la_ok at z
  unfold la_pok at hp
  refine pk_lt p 2000 (fun y => absurd y (by omega)) (fun y => pk_le p 2002 (fun _ => H) (fun y2 => ?_))
  exact pk_lt p 3000 (fun y => absurd y (by omega)) (fun y => pk_le 4000 p (fun y2 => absurd y2 (by omega)) (fun _ => H))
def la_io (x : Int32) : Nat := if 9 ≤ x.toBitVec.toNat % 2 ^ 4 then (if x.toBitVec.toNat % 2 ^ 4 = 15 then 1000 + (x >>> ((4 : Int32) &&& 31)).toBitVec.toNat % 2 ^ 3 * 130 else 1000 + (x >>> ((4 : Int32) &&& 31)).toBitVec.toNat % 2 ^ 3 * 1) else x.toBitVec.toNat % 2 ^ 4 % 4
theorem la_io_ok (x : Int32) : la_ok (la_io x) := by
  unfold la_io la_ok
  have := Nat.mod_lt (x >>> ((4 : Int32) &&& 31)).toBitVec.toNat (show 2 ^ 3 > 0 by decide)
  split
  · split <;> omega
  · omega
theorem la_itemOf {post : Int32 → Prop} {x : Int32} (H : post (nI (la_io x))) : wpL_itemOf post () x := by
  unfold la_io at H
  have hk := Nat.mod_lt x.toBitVec.toNat (show 2 ^ 4 > 0 by decide)
  refine nm_r (pk_and x 4 rfl) (pk_le 9 (x.toBitVec.toNat % 2 ^ 4) (fun z => ?_) (fun z => ?_))
  · rw [if_pos z] at H
    refine pk_eq (x.toBitVec.toNat % 2 ^ 4) 15 (fun y => ?_) (fun y => ?_)
    · rw [if_pos y, ← nI_add, ← pk_mul, ← pk_and (m := 7) _ 3 rfl] at H
      exact H
    · rw [if_neg y, ← nI_add, ← pk_mul, ← pk_and (m := 7) _ 3 rfl] at H
      exact H
  · rw [if_neg (by omega), ← pk_rem (by omega) (by decide) (by decide)] at H
    exact ⟨by decide, H⟩
def la_pt (x : Int32) : Nat := if 6 ≤ (x >>> ((8 : Int32) &&& 31)).toBitVec.toNat % 2 ^ 4 then (if 8 ≤ (x >>> ((8 : Int32) &&& 31)).toBitVec.toNat % 2 ^ 4 then (if (x >>> ((8 : Int32) &&& 31)).toBitVec.toNat % 2 ^ 4 = 8 then 2001 else if 13 ≤ (x >>> ((8 : Int32) &&& 31)).toBitVec.toNat % 2 ^ 4 then 3000 + x.toBitVec.toNat % 2 ^ 3 else 2002) else 2000) else la_io x
theorem la_pt_ok (x : Int32) : la_pok (la_pt x) := by
  have h1 := la_io_ok x
  unfold la_pt la_pok
  unfold la_ok at h1
  have := Nat.mod_lt x.toBitVec.toNat (show 2 ^ 3 > 0 by decide)
  split
  · split
    · split
      · omega
      · split <;> omega
    · omega
  · omega
theorem la_partOf {post : Int32 → Prop} {x : Int32} (H : post (nI (la_pt x))) : wpL_partOf post () x := by
  unfold la_pt at H
  have hk := Nat.mod_lt (x >>> ((8 : Int32) &&& 31)).toBitVec.toNat (show 2 ^ 4 > 0 by decide)
  refine nm_r (pk_and _ 4 rfl) (pk_le 6 ((x >>> ((8 : Int32) &&& 31)).toBitVec.toNat % 2 ^ 4) (fun z => ?_) (fun z => ?_))
  · rw [if_pos z] at H
    refine pk_le 8 ((x >>> ((8 : Int32) &&& 31)).toBitVec.toNat % 2 ^ 4) (fun y => ?_) (fun y => ?_)
    · rw [if_pos y] at H
      refine pk_eq ((x >>> ((8 : Int32) &&& 31)).toBitVec.toNat % 2 ^ 4) 8 (fun w => ?_) (fun w => ?_)
      · rw [if_pos w] at H; exact H
      · rw [if_neg w] at H
        refine pk_le 13 ((x >>> ((8 : Int32) &&& 31)).toBitVec.toNat % 2 ^ 4) (fun q => ?_) (fun q => ?_)
        · rw [if_pos q, ← nI_add, ← pk_and (m := 7) _ 3 rfl] at H; exact H
        · rw [if_neg (by omega)] at H; exact H
    · rw [if_neg (by omega)] at H; exact H
  · rw [if_neg (by omega)] at H
    exact la_itemOf H
theorem la_p1 {post : Int32 → Prop} {b : Bool} (h : b = true) (H : post (if b = true then 1 else 0)) : post 1 := by rw [if_pos h] at H; exact H
theorem la_p0 {post : Int32 → Prop} {b : Bool} (h : b = false) (H : post (if b = true then 1 else 0)) : post 0 := by subst h; exact H
theorem la_tk_0 {p v : Nat} (h : p = 2000) : la_tk p v = true := if_pos h
theorem la_tk_1 {p v : Nat} (h : p = 2001) : la_tk p v = decide (1000 ≤ v) := by
  unfold la_tk
  rw [if_neg (show ¬ p = 2000 by omega), if_pos h]
theorem la_tk_2 {p v : Nat} (h : p < 2000) : la_tk p v = decide (p = v) := by
  unfold la_tk
  rw [if_neg (show ¬ p = 2000 by omega), if_neg (show ¬ p = 2001 by omega), if_pos h]
theorem la_tk_3 {p v : Nat} (h : 2001 < p) : la_tk p v = decide (p < v + 2000) := by
  unfold la_tk
  rw [if_neg (show ¬ p = 2000 by omega), if_neg (show ¬ p = 2001 by omega), if_neg (show ¬ p < 2000 by omega)]
theorem la_cmp {p v : Nat} (hp : p < 4000) (hv : v < 4000) : (nI v - 1000) ≤ (nI p - 3000) ↔ v + 2000 ≤ p := by
  rw [Int32.le_iff_toInt_le, show (nI v - 1000).toInt = (v : Int) - (1000 : Nat) from pk_sub_toInt (b := 1000) (by omega) (by omega), show (nI p - 3000).toInt = (p : Int) - (3000 : Nat) from pk_sub_toInt (b := 3000) (by omega) (by omega)]
  omega
theorem la_takes {post : Int32 → Prop} (p v : Nat) (hp : la_pok p) (hg : p ≠ 2002) (hv : la_ok v) (H : post (if la_tk p v = true then 1 else 0)) : wpX_takes post () (nI p) (nI v) 0 := by
  unfold la_pok at hp
  unfold la_ok at hv
  refine pk_eq p 2000 (fun z => la_p1 (la_tk_0 z) H) (fun z => br_t rfl (pk_le 2000 p (fun y => ?_) (fun y => ?_)))
  · refine la_isNumber v rfl (by omega) (fun n => br_f (by decide) (pk_eq p 2001 (fun w => la_p1 ((la_tk_1 w).trans (decide_eq_true n.1)) H) (fun w => ?_))) (fun n => br_t rfl (la_p0 ?_ H))
    · exact ek_if (la_cmp (by omega) (by omega)) (fun q => la_p0 ((la_tk_3 (by omega)).trans (decide_eq_false (by omega))) H) (fun q => la_p1 ((la_tk_3 (by omega)).trans (decide_eq_true (by omega))) H)
    · by_cases w : p = 2001
      · exact (la_tk_1 w).trans (decide_eq_false (by omega))
      · exact (la_tk_3 (by omega)).trans (decide_eq_false (by omega))
  · exact pk_eq p v (fun w => la_p1 ((la_tk_2 y).trans (decide_eq_true w)) H) (fun w => la_p0 ((la_tk_2 y).trans (decide_eq_false w)) H)
theorem la_takesB {post : Int32 → Prop} {x : Int32} (p : Nat) (hp : la_pok p) (H : post (if decide (1000 ≤ p) = true then 1 else 0)) : wpX_takes post () (nI p) x 1 := by
  unfold la_pok at hp
  exact pk_eq p 2000 (fun z => la_p1 (decide_eq_true (by omega)) H) (fun z => br_f (by decide) (pk_lt p 1000 (fun y => la_p0 (decide_eq_false (by omega)) H) (fun y => la_p1 (decide_eq_true (by omega)) H)))
theorem la_meets {post : Int32 → Prop} (p v : Nat) (hp : la_pok p) (hg : p ≠ 2002) (hv : la_ok v) (H : post (if la_tk p v = true then 1 else 0)) : wpL_meets post () (nI v) (nI p) := by
  unfold la_pok at hp
  unfold la_ok at hv
  refine pk_eq p 2000 (fun z => la_p1 (la_tk_0 z) H) (fun z => pk_eq p 2001 (fun y => ?_) (fun y => ?_))
  · exact pk_lt v 1000 (fun w => la_p0 ((la_tk_1 y).trans (decide_eq_false (by omega))) H) (fun w => la_p1 ((la_tk_1 y).trans (decide_eq_true (by omega))) H)
  · refine pk_lt p 3000 (fun w => ?_) (fun w => ?_)
    · exact pk_eq v p (fun q => la_p1 ((la_tk_2 (by omega)).trans (decide_eq_true q.symm)) H) (fun q => la_p0 ((la_tk_2 (by omega)).trans (decide_eq_false (fun e => q e.symm))) H)
    · exact ek_if (la_cmp (by omega) (by omega)) (fun q => la_p0 ((la_tk_3 (by omega)).trans (decide_eq_false (by omega))) H) (fun q => la_p1 ((la_tk_3 (by omega)).trans (decide_eq_true (by omega))) H)
theorem la_lowest {post : Int32 → Prop} {x : Int64} (H : post (nI (la_lw (la_l x) 60 0))) : wpX_lowest post () x := by
  have main : ∀ c b, b + c = 60 → post (nI (la_lw (la_l x) c b)) → wX_lowest_2 post x (c + 1) (nI b) := by
    intro c
    induction c with
    | zero => intro b hb h; exact pk_le 60 b (fun _ => h) (fun z => absurd z (by omega))
    | succ c ih =>
      intro b hb h
      have h' : post (nI (if la_l x b = true then b else la_lw (la_l x) c (b + 1))) := h
      refine pk_le 60 b (fun z => absurd z (by omega)) (fun _ => ek_if (la_l_0 x b (by omega)) (fun z => nm_r (nI_1 b) (ih (b + 1) (by omega) ?_)) (fun z => ?_))
      · rw [z, if_neg (by decide)] at h'; exact h'
      · rw [Bool.not_eq_false] at z
        rw [if_pos z] at h'; exact h'
  exact ⟨61, main 60 0 rfl H⟩
theorem la_ones {post : Int32 → Prop} {x : Int64} (H : post (nI (la_ct (la_l x) 60))) : wpX_ones post () x := by
  have main : ∀ c i, i + c = 60 → wX_ones_4 post x (c + 1) (nI (la_ct (la_l x) i)) (nI i) := by
    intro c
    induction c with
    | zero => intro i hi; rw [show i = 60 by omega]; exact pk_le 60 60 (fun _ => H) (fun z => absurd z (by omega))
    | succ c ih =>
      intro i hi
      refine pk_le 60 i (fun z => absurd z (by omega)) (fun _ => nm_r ?_ (nm_r (nI_1 i) (ih (i + 1) (by omega))))
      rw [la_lI x i (by omega), nI_add]
      rfl
  exact ⟨61, main 60 0 rfl⟩
end
section
/-! the archive's picture -/
def la_IT (it : Nat → Nat → Nat) (len tm : Nat → Nat) : Prop := (∀ l i, la_ok (it l i)) ∧ (∀ l, 1 ≤ len l ∧ len l ≤ 4) ∧ (∀ l, tm l ≤ tm (l + 1)) ∧ (∀ l, l < 14 → tm l ≤ 42)
def la_SP (sn : Nat) (sl : Nat → Nat) (si : Nat → Nat → Nat) (a7 a8 : Nat → Int32) : Prop := ∀ s, s < sn → sl s ≤ 4 ∧ a7 s = nI (sl s) ∧ ∀ i, i < sl s → a8 (8 * s + i) = nI (si s i) ∧ (si s i < 24 ∨ si s i = 1000)
def la_LI (n sn : Nat) (so sl len : Nat → Nat) (si it : Nat → Nat → Nat) (a4 : Nat → Int32) : Prop := ∀ l, l < n → so l < sn ∧ a4 l = nI (so l) ∧ sl (so l) = len l ∧ ∀ i, i < len l → si (so l) i = la_bl (it l i)
def la_ww (so : Nat → Nat) (it : Nat → Nat → Nat) (l s i : Nat) : Nat := la_wd (it l i) (la_ls so it s i l)
def la_BY (n : Nat) (so len bg : Nat → Nat) (it : Nat → Nat → Nat) (a5 a6 : Nat → Int32) : Prop := (∀ l, l ≤ n → a5 l = nI (bg l) ∧ bg l ≤ 8 * l) ∧ ∀ l, l < n → bg (l + 1) = la_ps (bg l) (la_ww so it l (so l)) (len l) ∧ ∀ i, i < len l → 1000 ≤ it l i → la_by a6 (la_ps (bg l) (la_ww so it l (so l)) i) (la_code (it l i - 1000) (la_ls so it (so l) i l))
def la_SL (n sn : Nat) (so : Nat → Nat) (a9 : Nat → Int64) : Prop := ∀ s, s < sn → ∀ k, k < 64 → la_l (a9 s) k = (decide (k < n) && decide (so k = s))
def la_TM (n : Nat) (tm : Nat → Nat) (a3 : Nat → Int32) : Prop := ∀ l, l < n → a3 l = nI (tm l)
def la_AR (n sn : Nat) (so sl len bg tm : Nat → Nat) (si it : Nat → Nat → Nat) (a3 a4 a5 a6 a7 a8 : Nat → Int32) (a9 : Nat → Int64) : Prop := n ≤ 14 ∧ sn ≤ 15 ∧ la_SP sn sl si a7 a8 ∧ la_LI n sn so sl len si it a4 ∧ la_BY n so len bg it a5 a6 ∧ la_SL n sn so a9 ∧ la_TM n tm a3
/-- the numbers hold what the lines of shape s before line l have left -/
def la_N (sl so : Nat → Nat) (si it : Nat → Nat → Nat) (s l : Nat) (b : Nat → Int32) : Prop := ∀ j, j < sl s → si s j = 1000 → b j = nI (la_ls so it s j l)
theorem la_ix (s i : Nat) : (8 * nI s) + nI i = nI (8 * s + i) := by
  rw [show (8 : Int32) = nI 8 from rfl, pk_mul, nI_add]
theorem la_ixc {s i : Nat} (h : 8 * s + i < 1000) : ((8 * nI s) + nI i).toNatClampNeg = 8 * s + i := by rw [la_ix, nI_clamp (by omega)]
section
variable {dc pc ln sh nd isf : Int32} {ft : Int64} {fr : Int32} {a1 a2 a3 a4 a5 a6 a7 a8 : Nat → Int32} {a9 : Nat → Int64} {a10 : Nat → Int32} {a11 : Nat → Int64} {a12 a13 a14 a15 a16 a17 a18 a19 a20 : Nat → Int32}
variable {n sn : Nat} {so sl len bg tm : Nat → Nat} {si it : Nat → Nat → Nat}
theorem la_isLine {post : Int32 → Prop} {l : Nat} (hn : n ≤ 14) (hl : l < n) (H : post 1) : wpX_isLine post (dc, pc, nI n, nI sn, nd, isf, ft, fr, a1, a2, a3, a4, a5, a6, a7, a8, a9, a10, a11, a12, a13, a14, a15, a16, a17, a18, a19, a20) (nI l) :=
  br_f (nI_pos (by omega)) (pk_le n l (fun z => absurd z (by omega)) (fun _ => H))
theorem la_time {post : Int32 → Prop} {l : Nat} (A : la_AR n sn so sl len bg tm si it a3 a4 a5 a6 a7 a8 a9) (hl : l < n) (H : post (nI (tm l))) : wpX_time post (dc, pc, nI n, nI sn, nd, isf, ft, fr, a1, a2, a3, a4, a5, a6, a7, a8, a9, a10, a11, a12, a13, a14, a15, a16, a17, a18, a19, a20) (nI l) := by
  have hn := A.1
  unfold wpX_time
  refine la_isLine hn hl (br_f (by decide) ⟨pk_in l 60 (by omega), ?_⟩)
  rw [nI_clamp (by omega), A.2.2.2.2.2.2 l hl]
  exact H
theorem la_length {post : Int32 → Prop} {l : Nat} (A : la_AR n sn so sl len bg tm si it a3 a4 a5 a6 a7 a8 a9) (hl : l < n) (H : post (nI (len l))) : wpX_length post (dc, pc, nI n, nI sn, nd, isf, ft, fr, a1, a2, a3, a4, a5, a6, a7, a8, a9, a10, a11, a12, a13, a14, a15, a16, a17, a18, a19, a20) (nI l) := by
  have hn := A.1
  have hs := A.2.1
  obtain ⟨h1, h2, h3, _⟩ := A.2.2.2.1 l hl
  have h4 := (A.2.2.1 (so l) h1).2.1
  unfold wpX_length
  refine la_isLine hn hl (br_f (by decide) ⟨pk_in l 60 (by omega), ?_⟩)
  rw [nI_clamp (by omega), h2]
  refine ⟨pk_in (so l) 60 (by omega), ?_⟩
  rw [nI_clamp (by omega), h4, h3]
  exact H
theorem la_take63 {post : Int32 → St1 → Prop} {a b : Nat} (ha : a < 1000) (hb : b < 1000) (H : ∀ r, nI b + r = nI a → post r (dc, pc, ln, sh, nd, isf, ft, fr, a1, a2, a3, a4, a5, a6, a7, a8, a9, a10, a11, a12, a13, a14, a15, a16, a17, a18, a19, a20)) : wX_takeNumber_63 post (nI (la_code a b)) dc pc ln sh nd isf ft fr a1 a2 a3 a4 a5 a6 a7 a8 a9 a10 a11 a12 a13 a14 a15 a16 a17 a18 a19 a20 := by
  have hc := la_code_lt ha hb
  refine ek_if (d := b ≤ a) ?_ (fun z => H _ ?_) (fun z => H _ ?_)
  · rw [pk_andN (m := 1) (by omega) 1 rfl, ← nI_0, nI_eq (by omega) (by omega)]
    unfold la_code
    split <;> omega
  · rw [pk_shrN (by omega) _ 1 (by decide), nI_add]
    congr 1
    unfold la_code
    rw [if_pos z]
    omega
  · rw [nI_1, pk_shrN (by omega) _ 1 (by decide), ← Int32.sub_eq_add_neg]
    have e : (la_code a b + 1) / 2 ^ 1 = b - a := by
      unfold la_code
      rw [if_neg z]
      omega
    rw [e, pk_sub (by omega)]
    congr 1
    omega
theorem la_takeNumber {post : Int32 → St1 → Prop} {p a b : Nat} (w : Nat) (hw : w = if la_code a b < 128 then 1 else 2) (hp : p + 2 ≤ 960) (ha : a < 1000) (hb : b < 1000) (h : la_by a6 p (la_code a b)) (H : ∀ r, nI b + r = nI a → post r (dc, pc, ln, sh, nd, isf, ft, nI (p + w), a1, a2, a3, a4, a5, a6, a7, a8, a9, a10, a11, a12, a13, a14, a15, a16, a17, a18, a19, a20)) : wpX_takeNumber post (dc, pc, ln, sh, nd, isf, ft, nI p, a1, a2, a3, a4, a5, a6, a7, a8, a9, a10, a11, a12, a13, a14, a15, a16, a17, a18, a19, a20) := by
  have hc := la_code_lt ha hb
  rcases Nat.lt_or_ge (la_code a b) 128 with z | z
  · rw [if_pos z] at hw
    subst hw
    refine ⟨pk_in p 960 (by omega), nm_r (e' := nI (la_code a b)) ?_ (nm_r (nI_1 p) (pk_lt (la_code a b) 128 (fun _ => la_take63 ha hb H) (fun y => absurd y (by omega))))⟩
    rw [nI_clamp (by omega), h.1 z]
    exact sc_k8 _ (by omega)
  · rw [if_neg (by omega)] at hw
    subst hw
    refine ⟨pk_in p 960 (by omega), nm_r (e' := nI (la_code a b % 128 + 128)) ?_ (nm_r (nI_1 p) (pk_lt (la_code a b % 128 + 128) 128 (fun y => absurd y (by omega)) (fun _ => ⟨pk_in (p + 1) 960 (by omega), nm_r (e' := nI (la_code a b)) ?_ (nm_r (nI_1 (p + 1)) (la_take63 ha hb H))⟩)))⟩
    · rw [nI_clamp (by omega), (h.2 z).1]
      exact la_d2 _ hc z
    · rw [nI_clamp (by omega), (h.2 z).2]
      exact la_d3 _ hc z
theorem la_addLine {post : St1 → Prop} {l s : Nat} (A : la_AR n sn so sl len bg tm si it a3 a4 a5 a6 a7 a8 a9) (IT : la_IT it len tm) (hl : l < n) (hs : so l = s) (h : la_N sl so si it s l a17) (H : ∀ fr' b17, la_N sl so si it s (l + 1) b17 → post (dc, pc, ln, sh, nd, isf, ft, fr', a1, a2, a3, a4, a5, a6, a7, a8, a9, a10, a11, a12, a13, a14, a15, a16, b17, a18, a19, a20)) : wpX_addLine post (dc, pc, ln, sh, nd, isf, ft, fr, a1, a2, a3, a4, a5, a6, a7, a8, a9, a10, a11, a12, a13, a14, a15, a16, a17, a18, a19, a20) (nI l) (nI s) := by
  subst hs
  obtain ⟨hn, hsn, A1, A2, A3, A4, A5⟩ := A
  obtain ⟨h1, h2, h3, h4⟩ := A2 l hl
  obtain ⟨h5, h6, h7⟩ := A1 (so l) h1
  obtain ⟨h8, h9⟩ := A3.2 l hl
  obtain ⟨h10, h11⟩ := A3.1 l (by omega)
  have hlen := IT.2.1 l
  have hw : ∀ i, la_ps (bg l) (la_ww so it l (so l)) i ≤ bg l + 2 * i := fun i => la_ps_le _ _ (fun j => la_wd_le _ _) i
  have main : ∀ c i b17, i + c = len l → (∀ j, j < len l → 1000 ≤ it l j → b17 j = if j < i then nI (it l j - 1000) else nI (la_ls so it (so l) j l)) → wX_addLine_12 post (nI (so l)) (c + 1) (nI i) dc pc ln sh nd isf ft (nI (la_ps (bg l) (la_ww so it l (so l)) i)) a1 a2 a3 a4 a5 a6 a7 a8 a9 a10 a11 a12 a13 a14 a15 a16 b17 a18 a19 a20 := by
    intro c
    induction c with
    | zero =>
      intro i b17 hi hb
      refine ⟨pk_in (so l) 60 (by omega), pk_le (len l) i (fun _ => H _ _ ?_) (fun z => absurd z (by omega)) (by rw [nI_clamp (by omega), h6, h3])⟩
      intro j hj hj2
      rw [h3] at hj
      rw [h4 j hj, la_bl_1 (IT.1 l j)] at hj2
      rw [hb j hj hj2, if_pos (by omega)]
      show _ = nI (if so l = so l then it l j - 1000 else _)
      rw [if_pos rfl]
    | succ c ih =>
      intro i b17 hi hb
      have g8 := (h7 i (by omega)).1
      rw [h4 i (by omega)] at g8
      have hwi := hw i
      refine ⟨pk_in (so l) 60 (by omega), pk_le (len l) i (fun z => absurd z (by omega)) (fun _ => ⟨pk_in (8 * so l + i) 480 (by omega) (la_ix _ _), ?_⟩) (by rw [nI_clamp (by omega), h6, h3])⟩
      rw [la_ixc (by omega), g8]
      by_cases hv : 1000 ≤ it l i
      · have hok := IT.1 l i
        unfold la_ok at hok
        have hlast := la_ls_lt (so := so) IT.1 (so l) i l
        refine br_t (by rw [(la_bl_1 (IT.1 l i)).mpr hv]; rfl) ⟨pk_in i 8 (by omega), la_takeNumber (la_ww so it l (so l) i) (if_neg (by omega)) (by omega) (by omega) hlast (h9 i (by omega) hv) (fun r hr => ⟨pk_in i 8 (by omega), nm_r (e' := upd b17 i (nI (it l i - 1000))) ?_ (nm_r (nI_1 i) (ih (i + 1) _ (by omega) ?_))⟩)⟩
        · rw [nI_clamp (by omega), hb i (by omega) hv, if_neg (by omega), hr]
        · intro j hj hj2
          by_cases e : j = i
          · subst e
            rw [pk_us, if_pos (by omega)]
          · rw [pk_un e, hb j hj hj2]
            by_cases e2 : j < i
            · rw [if_pos e2, if_pos (by omega)]
            · rw [if_neg e2, if_neg (by omega)]
      · refine br_f ?_ (nm_r (nI_1 i) ?_)
        · intro e
          have e2 : nI (la_bl (it l i)) = nI 1000 := e
          have hok := la_bl_ok (IT.1 l i)
          rw [nI_eq (by omega) (by omega), la_bl_1 (IT.1 l i)] at e2
          exact hv e2
        · have t := ih (i + 1) b17 (by omega) (fun j hj hj2 => by
            rw [hb j hj hj2]
            have : j ≠ i := fun e => by rw [e] at hj2; exact hv hj2
            by_cases e2 : j < i
            · rw [if_pos e2, if_pos (by omega)]
            · rw [if_neg e2, if_neg (by omega)])
          have e : la_ps (bg l) (la_ww so it l (so l)) (i + 1) = la_ps (bg l) (la_ww so it l (so l)) i := by
            show la_ps (bg l) (la_ww so it l (so l)) i + la_wd (it l i) _ = _
            unfold la_wd
            rw [if_pos (by omega)]
            rfl
          rw [e] at t
          exact t
  refine ⟨pk_in l 61 (by omega), nm_r (e' := nI (bg l)) (by rw [nI_clamp (by omega), h10]) ⟨_, main (len l) 0 a17 (by omega) (fun j hj hj2 => ?_)⟩⟩
  rw [if_neg (by omega)]
  exact h j (by omega) (by rw [h4 j hj, la_bl_1 (IT.1 l j)]; exact hj2)
theorem la_readLine {post : St1 → Prop} {l : Nat} (A : la_AR n sn so sl len bg tm si it a3 a4 a5 a6 a7 a8 a9) (IT : la_IT it len tm) (hl : l < n) (H : ∀ fr' b16 b17, (∀ j, j < len l → b16 j = nI (it l j)) → post (dc, pc, ln, sh, nd, isf, ft, fr', a1, a2, a3, a4, a5, a6, a7, a8, a9, a10, a11, a12, a13, a14, a15, b16, b17, a18, a19, a20)) : wpX_readLine post (dc, pc, ln, sh, nd, isf, ft, fr, a1, a2, a3, a4, a5, a6, a7, a8, a9, a10, a11, a12, a13, a14, a15, a16, a17, a18, a19, a20) (nI l) := by
  obtain ⟨hn, hsn, A1, A2, A3, A4, A5⟩ := id A
  obtain ⟨h1, h2, h3, h4⟩ := A2 l hl
  obtain ⟨h5, h6, h7⟩ := A1 (so l) h1
  have hlen := IT.2.1 l
  -- the last loop
  have L59 : ∀ fr b17, la_N sl so si it (so l) (l + 1) b17 → ∀ c i b16, i + c = len l → (∀ j, j < i → b16 j = nI (it l j)) → wX_readLine_59 post (nI (so l)) dc pc ln sh nd isf ft fr (c + 1) (nI i) a1 a2 a3 a4 a5 a6 a7 a8 a9 a10 a11 a12 a13 a14 a15 b16 b17 a18 a19 a20 := by
    intro fr b17 hN c
    induction c with
    | zero =>
      intro i b16 hi hb
      exact ⟨pk_in (so l) 60 (by omega), pk_le (len l) i (fun _ => H _ _ _ (fun j hj => hb j (by omega))) (fun z => absurd z (by omega)) (by rw [nI_clamp (by omega), h6, h3])⟩
    | succ c ih =>
      intro i b16 hi hb
      have g8 := (h7 i (by omega)).1
      have g4 := h4 i (by omega)
      refine ⟨pk_in (so l) 60 (by omega), pk_le (len l) i (fun z => absurd z (by omega)) (fun _ => ⟨pk_in (8 * so l + i) 480 (by omega) (la_ix _ _), nm_r (e' := nI (la_bl (it l i))) (by rw [la_ixc (by omega), g8, g4]) ?_⟩) (by rw [nI_clamp (by omega), h6, h3])⟩
      have fin : ∀ x, x = nI (it l i) → ∀ j, j < i + 1 → upd b16 i x j = nI (it l j) := by
        intro x hx j hj
        by_cases e : j = i
        · rw [e, pk_us, hx]
        · rw [pk_un e]; exact hb j (by omega)
      by_cases hv : 1000 ≤ it l i
      · refine br_t (by rw [(la_bl_1 (IT.1 l i)).mpr hv]; rfl) ⟨pk_in i 8 (by omega), pk_in i 8 (by omega), nm_r (e' := upd b16 i (1000 + b17 i)) (by rw [nI_clamp (by omega)]) (nm_r (nI_1 i) (ih (i + 1) _ (by omega) (fin _ ?_)))⟩
        have e := hN i (by omega) (by rw [g4, la_bl_1 (IT.1 l i)]; exact hv)
        have e2 : la_ls so it (so l) i (l + 1) = it l i - 1000 := if_pos rfl
        rw [e, e2, show (1000 : Int32) = nI 1000 from rfl, nI_add]
        congr 1
        omega
      · refine br_f ?_ ⟨pk_in i 8 (by omega), nm_r (e' := upd b16 i (nI (la_bl (it l i)))) (by rw [nI_clamp (by omega)]) (nm_r (nI_1 i) (ih (i + 1) _ (by omega) (fin _ ?_)))⟩
        · intro e
          have e2 : nI (la_bl (it l i)) = nI 1000 := e
          have hok := la_bl_ok (IT.1 l i)
          rw [nI_eq (by omega) (by omega), la_bl_1 (IT.1 l i)] at e2
          exact hv e2
        · rw [la_bl_w (fun e => hv ((la_bl_1 (IT.1 l i)).mp e))]
  have L30 : ∀ c k fr b17, k + c = l + 1 → la_N sl so si it (so l) k b17 → wX_readLine_30 post (nI l) (nI (so l)) (c + 1) (nI k) dc pc ln sh nd isf ft fr a1 a2 a3 a4 a5 a6 a7 a8 a9 a10 a11 a12 a13 a14 a15 a16 b17 a18 a19 a20 := by
    intro c
    induction c with
    | zero =>
      intro k fr b17 hk hN
      refine pk_lt l k (fun _ => ⟨_, L59 fr b17 ?_ (len l) 0 a16 (by omega) (fun j hj => absurd hj (by omega))⟩) (fun z => absurd z (by omega))
      rw [show l + 1 = k by omega]
      exact hN
    | succ c ih =>
      intro k fr b17 hk hN
      obtain ⟨k1, k2, k3, k4⟩ := A2 k (by omega)
      refine pk_lt l k (fun z => absurd z (by omega)) (fun _ => ⟨pk_in k 60 (by omega), ?_⟩)
      rw [nI_clamp (by omega), k2]
      refine pk_eq (so k) (so l) (fun z => la_addLine A IT (by omega) z hN (fun fr' b' hN' => nm_r (nI_1 k) (ih (k + 1) fr' b' (by omega) hN'))) (fun z => nm_r (nI_1 k) (ih (k + 1) fr b17 (by omega) ?_))
      intro j hj hj2
      rw [hN j hj hj2]
      show _ = nI (if so k = so l then _ else _)
      rw [if_neg z]
  have L9 : ∃ fu, wX_readLine_9 post (nI l) (nI (so l)) dc pc ln sh nd isf ft fr fu 0 a1 a2 a3 a4 a5 a6 a7 a8 a9 a10 a11 a12 a13 a14 a15 a16 a17 a18 a19 a20 := by
    refine pk_loop (fun n i b => wX_readLine_9 post (nI l) (nI (so l)) dc pc ln sh nd isf ft fr n (nI i) a1 a2 a3 a4 a5 a6 a7 a8 a9 a10 a11 a12 a13 a14 a15 a16 b a18 a19 a20) (fun i b => ∀ j, j < i → b j = 0) 8 0 a17 (by omega) (fun j hj => absurd hj (by omega)) (fun n b hb => pk_le 8 8 (fun _ => ⟨_, L30 (l + 1) 0 fr b (by omega) (fun j hj _ => ?_)⟩) (fun z => absurd z (by omega))) (fun n i b hi hb hw => pk_le 8 i (fun z => absurd z (by omega)) (fun _ => ⟨pk_in i 8 (by omega), nm_r (e' := upd b i 0) (by rw [nI_clamp (by omega)]) (nm_r (nI_1 i) (hw _ ?_))⟩))
    · exact hb j (by omega)
    · intro j hj
      by_cases e : j = i
      · rw [e, pk_us]
      · rw [pk_un e]; exact hb j (by omega)
  exact ⟨pk_in l 60 (by omega), nm_r (e' := nI (so l)) (by rw [nI_clamp (by omega), h2]) L9⟩
theorem la_at {post : Int32 → St1 → Prop} {l i : Nat} (A : la_AR n sn so sl len bg tm si it a3 a4 a5 a6 a7 a8 a9) (IT : la_IT it len tm) (hl : l < n) (hi : i < len l) (H : ∀ fr' b16 b17, post (nI (it l i)) (dc, pc, nI n, nI sn, nd, isf, ft, fr', a1, a2, a3, a4, a5, a6, a7, a8, a9, a10, a11, a12, a13, a14, a15, b16, b17, a18, a19, a20)) : wpX_at post (dc, pc, nI n, nI sn, nd, isf, ft, fr, a1, a2, a3, a4, a5, a6, a7, a8, a9, a10, a11, a12, a13, a14, a15, a16, a17, a18, a19, a20) (nI l) (nI i) := by
  obtain ⟨hn, hsn, A1, A2, A3, A4, A5⟩ := id A
  obtain ⟨h1, h2, h3, h4⟩ := A2 l hl
  obtain ⟨h5, h6, h7⟩ := A1 (so l) h1
  have hlen := IT.2.1 l
  unfold wpX_at
  refine la_isLine hn hl (br_f (by decide) (br_f (nI_pos (by omega)) ⟨pk_in l 60 (by omega), ?_⟩))
  rw [nI_clamp (by omega), h2]
  refine ⟨pk_in (so l) 60 (by omega), ?_⟩
  rw [nI_clamp (by omega), h6, h3]
  refine pk_lt i (len l) (fun _ => la_readLine A IT hl (fun fr' b16 b17 hb => ⟨pk_in i 8 (by omega), ?_⟩)) (fun z => absurd z (by omega))
  rw [nI_clamp (by omega), hb i hi]
  exact H _ _ _
end
end
section
/-! the pattern's picture -/
def la_PA (m : Nat) (pt : Nat → Nat) (a2 : Nat → Int32) : Prop := m ≤ 8 ∧ ∀ k, k < m → a2 k = nI (pt k) ∧ la_pok (pt k)
def la_g (pt : Nat → Nat) (k : Nat) : Bool := decide (pt k = 2002)
/-- line l fits the pattern -/
def la_F (pt len : Nat → Nat) (it : Nat → Nat → Nat) (m l : Nat) : Bool := la_M (la_g pt) (fun k i => la_tk (pt k) (it l i)) m (len l)
def la_FS (n : Nat) (F : Nat → Bool) (ft : Int64) : Prop := ∀ k, k < 64 → la_l ft k = (decide (k < n) && F k)
theorem la_pok_lt {p : Nat} (h : la_pok p) : p < 4000 := by unfold la_pok at h; omega
theorem la_g_t {pt : Nat → Nat} {k : Nat} (h : pt k = 2002) : la_g pt k = true := decide_eq_true h
theorem la_g_f {pt : Nat → Nat} {k : Nat} (h : pt k ≠ 2002) : la_g pt k = false := decide_eq_false h
section
variable {dc pc ln sh nd isf : Int32} {ft : Int64} {fr : Int32} {a1 a2 a3 a4 a5 a6 a7 a8 : Nat → Int32} {a9 : Nat → Int64} {a10 : Nat → Int32} {a11 : Nat → Int64} {a12 a13 a14 a15 a16 a17 a18 a19 a20 : Nat → Int32}
variable {n sn m : Nat} {so sl len bg tm pt : Nat → Nat} {si it : Nat → Nat → Nat}
theorem la_overGaps {post : Int32 → Prop} {x : Int32} (P : la_PA m pt a2) (H : ∀ r, (∀ i, i ≤ m → la_b r i = la_ov (la_g pt) (la_b x) i) → post r) : wpX_overGaps post (dc, nI m, ln, sh, nd, isf, ft, fr, a1, a2, a3, a4, a5, a6, a7, a8, a9, a10, a11, a12, a13, a14, a15, a16, a17, a18, a19, a20) x := by
  have hm := P.1
  have main : ∀ c j x2, j + c = m → (∀ i, i ≤ m → la_b x2 i = if i ≤ j then la_ov (la_g pt) (la_b x) i else la_b x i) → wX_overGaps_4 post dc (nI m) ln sh nd isf ft fr a1 a2 a3 a4 a5 a6 a7 a8 a9 a10 a11 a12 a13 a14 a15 a16 a17 a18 a19 a20 (c + 1) x2 (nI j) := by
    intro c
    induction c with
    | zero =>
      intro j x2 hj h
      exact pk_le m j (fun _ => H _ (fun i hi => by rw [h i hi, if_pos (by omega)])) (fun z => absurd z (by omega))
    | succ c ih =>
      intro j x2 hj h
      obtain ⟨p1, p2⟩ := P.2 j (by omega)
      have p3 := la_pok_lt p2
      have hjj := h j (by omega)
      rw [if_pos (Nat.le_refl _)] at hjj
      have st : ∀ x2', (∀ i, i ≤ m → la_b x2' i = (la_b x2 i || (decide (i = j + 1) && (la_b x2 j && la_g pt j)))) → wX_overGaps_4 post dc (nI m) ln sh nd isf ft fr a1 a2 a3 a4 a5 a6 a7 a8 a9 a10 a11 a12 a13 a14 a15 a16 a17 a18 a19 a20 (c + 1) x2' (nI (j + 1)) := by
        intro x2' hx
        refine ih (j + 1) x2' (by omega) (fun i hi => ?_)
        rw [hx i hi, h i hi, hjj]
        by_cases e : i = j + 1
        · subst e
          rw [if_neg (by omega), if_pos (Nat.le_refl _), decide_eq_true rfl, Bool.true_and]
          rfl
        · rw [decide_eq_false e, Bool.false_and, Bool.or_false]
          by_cases e2 : i ≤ j
          · rw [if_pos e2, if_pos (by omega)]
          · rw [if_neg e2, if_neg (by omega)]
      refine pk_le m j (fun z => absurd z (by omega)) (fun _ => ek_if (la_b_1 x2 j (by omega)) (fun z => ⟨pk_in j 8 (by omega), pk_eq (pt j) 2002 (fun y => nm_e (nm_r (nI_1 j) (st _ (fun i hi => ?_)))) (fun y => nm_e (nm_r (nI_1 j) (st _ (fun i hi => ?_)))) (by rw [nI_clamp (by omega), p1])⟩) (fun z => nm_e (nm_r (nI_1 j) (st _ (fun i hi => ?_)))))
      · rw [nI_1, la_set _ _ _ (by omega) (by omega), z, la_g_t y]
        simp
      · rw [la_b_or, la_b0, la_g_f y]
        simp
      · rw [Bool.not_eq_true] at z
        rw [la_b_or, la_b0, z]
        simp
  refine ⟨_, main m 0 x (by omega) (fun i hi => ?_)⟩
  by_cases e : i ≤ 0
  · rw [if_pos e, show i = 0 by omega]
    rfl
  · rw [if_neg e]
theorem la_after {post : Int32 → Prop} {set item bk : Int32} {t : Nat → Bool} (P : la_PA m pt a2) (T : ∀ k, k < m → pt k ≠ 2002 → ∀ q : Int32 → Prop, q (if t k = true then 1 else 0) → wpX_takes q () (nI (pt k)) item bk) (H : ∀ r, (∀ i, i ≤ m → la_b r i = la_ov (la_g pt) (la_th m (la_g pt) (la_b set) t) i) → post r) : wpX_after post (dc, nI m, ln, sh, nd, isf, ft, fr, a1, a2, a3, a4, a5, a6, a7, a8, a9, a10, a11, a12, a13, a14, a15, a16, a17, a18, a19, a20) set item bk := by
  have hm := P.1
  have main : ∀ c j x4, j + c = m → (∀ i, i ≤ m → la_b x4 i = la_th j (la_g pt) (la_b set) t i) → wX_after_6 post set item bk dc (nI m) ln sh nd isf ft fr a1 a2 a3 a4 a5 a6 a7 a8 a9 a10 a11 a12 a13 a14 a15 a16 a17 a18 a19 a20 (c + 1) x4 (nI j) := by
    intro c
    induction c with
    | zero =>
      intro j x4 hj h
      have e : j = m := by omega
      subst e
      exact pk_le j j (fun _ => la_overGaps P (fun r hr => H r (fun i hi => by rw [hr i hi]; exact la_ov_congr h i hi))) (fun z => absurd z (by omega))
    | succ c ih =>
      intro j x4 hj h
      obtain ⟨p1, p2⟩ := P.2 j (by omega)
      have p3 := la_pok_lt p2
      have st : ∀ x4', (∀ i, i ≤ m → la_b x4' i = (la_b x4 i || (la_b set j && ((la_g pt j && decide (i = j)) || (!la_g pt j && (t j && decide (i = j + 1))))))) → wX_after_6 post set item bk dc (nI m) ln sh nd isf ft fr a1 a2 a3 a4 a5 a6 a7 a8 a9 a10 a11 a12 a13 a14 a15 a16 a17 a18 a19 a20 (c + 1) x4' (nI (j + 1)) := by
        intro x4' hx
        refine ih (j + 1) x4' (by omega) (fun i hi => ?_)
        rw [hx i hi, h i hi, la_th_s]
      refine pk_le m j (fun z => absurd z (by omega)) (fun _ => ek_if (la_b_1 set j (by omega)) (fun z => ⟨pk_in j 8 (by omega), pk_eq (pt j) 2002 (fun y => nm_e (nm_r (nI_1 j) (st _ (fun i hi => ?_)))) (fun y => ⟨pk_in j 8 (by omega), ?_⟩) (by rw [nI_clamp (by omega), p1])⟩) (fun z => nm_r (nI_1 j) (st _ (fun i hi => ?_))))
      · rw [la_set _ _ _ (by omega) (by omega), z, la_g_t y]
        simp
      · rw [nI_clamp (by omega), p1]
        refine T j (by omega) y _ ?_
        cases ht : t j
        · refine br_t rfl (nm_e (nm_r (nI_1 j) (st _ (fun i hi => ?_))))
          rw [la_b_or, la_b0, la_g_f y, ht]
          simp
        · refine br_f (by decide) (nm_e (nm_r (nI_1 j) (st _ (fun i hi => ?_))))
          rw [nI_1, la_set _ _ _ (by omega) (by omega), z, la_g_f y, ht]
          simp
      · rw [Bool.not_eq_true] at z
        rw [z]
        simp
  exact ⟨_, main m 0 0 (by omega) (fun i hi => by rw [la_b0, la_th_0])⟩
theorem la_mayFit {post : Int32 → Prop} {s : Nat} (A : la_AR n sn so sl len bg tm si it a3 a4 a5 a6 a7 a8 a9) (P : la_PA m pt a2) (hs : s < sn) (H : post (if la_M (la_g pt) (fun k i => la_ts (pt k) (si s i)) m (sl s) = true then 1 else 0)) : wpX_shapeMayFit post (dc, nI m, nI n, nI sn, nd, isf, ft, fr, a1, a2, a3, a4, a5, a6, a7, a8, a9, a10, a11, a12, a13, a14, a15, a16, a17, a18, a19, a20) (nI s) := by
  have hm := P.1
  obtain ⟨hn, hsn, A1, A2, A3, A4, A5⟩ := id A
  obtain ⟨h5, h6, h7⟩ := A1 s hs
  have main : ∀ c i x2, i + c = sl s → (∀ k, k ≤ m → la_b x2 k = la_D m (la_g pt) (fun k i => la_ts (pt k) (si s i)) k i) → wX_shapeMayFit_8 post (nI s) dc (nI m) (nI n) (nI sn) nd isf ft fr a1 a2 a3 a4 a5 a6 a7 a8 a9 a10 a11 a12 a13 a14 a15 a16 a17 a18 a19 a20 (c + 1) x2 (nI i) := by
    intro c
    induction c with
    | zero =>
      intro i x2 hi h
      have e : i = sl s := by omega
      subst e
      have hb := h m (Nat.le_refl _)
      rw [la_D_M] at hb
      refine ⟨pk_in s 60 (by omega), pk_le (sl s) (sl s) (fun _ => ek_if (la_b_1 x2 m (by omega)) (fun z => la_p1 (hb.symm.trans z) H) (fun z => la_p0 ?_ H)) (fun z => absurd z (by omega)) (by rw [nI_clamp (by omega), h6])⟩
      rw [Bool.not_eq_true] at z
      exact hb.symm.trans z
    | succ c ih =>
      intro i x2 hi h
      obtain ⟨g1, g2⟩ := h7 i (by omega)
      have st : ∀ bk, (∀ k, k < m → pt k ≠ 2002 → ∀ q : Int32 → Prop, q (if la_ts (pt k) (si s i) = true then 1 else 0) → wpX_takes q () (nI (pt k)) (nI (si s i)) bk) → wX_shapeMayFit_48 post (wX_shapeMayFit_8 post (nI s) dc (nI m) (nI n) (nI sn) nd isf ft fr a1 a2 a3 a4 a5 a6 a7 a8 a9 a10 a11 a12 a13 a14 a15 a16 a17 a18 a19 a20 (c + 1)) (nI s) (nI i) bk (nI (si s i)) x2 dc (nI m) (nI n) (nI sn) nd isf ft fr a1 a2 a3 a4 a5 a6 a7 a8 a9 a10 a11 a12 a13 a14 a15 a16 a17 a18 a19 a20 := by
        intro bk T
        unfold wX_shapeMayFit_48
        refine la_after P T (fun r hr => nm_r (nI_1 i) (ih (i + 1) r (by omega) (fun k hk => ?_)))
        rw [hr k hk]
        exact la_ov_s m (la_g pt) (fun k i => la_ts (pt k) (si s i)) i (la_b x2) h k hk
      refine ⟨pk_in s 60 (by omega), pk_le (sl s) i (fun z => absurd z (by omega)) (fun _ => ⟨pk_in (8 * s + i) 480 (by omega) (la_ix _ _), nm_r (e' := nI (si s i)) (by rw [la_ixc (by omega), g1]) (pk_eq (si s i) 1000 (fun z => st 1 (fun k hk hg q hq => ?_)) (fun z => st 0 (fun k hk hg q hq => ?_)))⟩) (by rw [nI_clamp (by omega), h6])⟩
      · refine la_takesB (pt k) (P.2 k hk).2 ?_
        have e : la_ts (pt k) (si s i) = decide (1000 ≤ pt k) := if_pos z
        rw [e] at hq
        exact hq
      · refine la_takes (pt k) (si s i) (P.2 k hk).2 hg (by unfold la_ok; omega) ?_
        have e : la_ts (pt k) (si s i) = la_tk (pt k) (si s i) := if_neg z
        rw [e] at hq
        exact hq
  unfold wpX_shapeMayFit
  refine la_overGaps P (fun r hr => ⟨_, main (sl s) 0 r (by omega) (fun k hk => ?_)⟩)
  rw [hr k hk, ← la_ov_0 m (la_g pt) (fun k i => la_ts (pt k) (si s i)) k hk]
  exact la_ov_congr (fun i hi => la_b1' i (by omega)) k hk
theorem la_lineFits {post : Int32 → Prop} {l : Nat} (A : la_AR n sn so sl len bg tm si it a3 a4 a5 a6 a7 a8 a9) (IT : la_IT it len tm) (P : la_PA m pt a2) (hl : l < n) (hN : la_N sl so si it (so l) (l + 1) a17) (H : post (if la_F pt len it m l = true then 1 else 0)) : wpX_lineFits post (dc, nI m, nI n, nI sn, nd, isf, ft, fr, a1, a2, a3, a4, a5, a6, a7, a8, a9, a10, a11, a12, a13, a14, a15, a16, a17, a18, a19, a20) (nI (so l)) := by
  have hm := P.1
  obtain ⟨hn, hsn, A1, A2, A3, A4, A5⟩ := id A
  obtain ⟨h1, h2, h3, h4⟩ := A2 l hl
  obtain ⟨h5, h6, h7⟩ := A1 (so l) h1
  have main : ∀ c i x2, i + c = len l → (∀ k, k ≤ m → la_b x2 k = la_D m (la_g pt) (fun k i => la_tk (pt k) (it l i)) k i) → wX_lineFits_8 post (nI (so l)) dc (nI m) (nI n) (nI sn) nd isf ft fr a1 a2 a3 a4 a5 a6 a7 a8 a9 a10 a11 a12 a13 a14 a15 a16 a17 a18 a19 a20 (c + 1) x2 (nI i) := by
    intro c
    induction c with
    | zero =>
      intro i x2 hi h
      have e : i = len l := by omega
      subst e
      have hb := h m (Nat.le_refl _)
      rw [la_D_M] at hb
      refine ⟨pk_in (so l) 60 (by omega), pk_le (len l) (len l) (fun _ => ek_if (la_b_1 x2 m (by omega)) (fun z => la_p1 (hb.symm.trans z) H) (fun z => la_p0 ?_ H)) (fun z => absurd z (by omega)) (by rw [nI_clamp (by omega), h6, h3])⟩
      rw [Bool.not_eq_true] at z
      exact hb.symm.trans z
    | succ c ih =>
      intro i x2 hi h
      obtain ⟨g1, g2⟩ := h7 i (by omega)
      have g4 := h4 i (by omega)
      have st : ∀ x, x = nI (it l i) → wX_lineFits_56 post (wX_lineFits_8 post (nI (so l)) dc (nI m) (nI n) (nI sn) nd isf ft fr a1 a2 a3 a4 a5 a6 a7 a8 a9 a10 a11 a12 a13 a14 a15 a16 a17 a18 a19 a20 (c + 1)) (nI (so l)) (nI i) x x2 dc (nI m) (nI n) (nI sn) nd isf ft fr a1 a2 a3 a4 a5 a6 a7 a8 a9 a10 a11 a12 a13 a14 a15 a16 a17 a18 a19 a20 := by
        intro x hx
        subst hx
        unfold wX_lineFits_56
        refine la_after P (t := fun k => la_tk (pt k) (it l i)) (fun k hk hg q hq => la_takes (pt k) (it l i) (P.2 k hk).2 hg (IT.1 l i) hq) (fun r hr => nm_r (nI_1 i) (ih (i + 1) r (by omega) (fun k hk => ?_)))
        rw [hr k hk]
        exact la_ov_s m (la_g pt) (fun k i => la_tk (pt k) (it l i)) i (la_b x2) h k hk
      refine ⟨pk_in (so l) 60 (by omega), pk_le (len l) i (fun z => absurd z (by omega)) (fun _ => ⟨pk_in (8 * so l + i) 480 (by omega) (la_ix _ _), nm_r (e' := nI (si (so l) i)) (by rw [la_ixc (by omega), g1]) (pk_eq (si (so l) i) 1000 (fun z => ⟨pk_in i 8 (by omega), st _ ?_⟩) (fun z => st _ ?_))⟩) (by rw [nI_clamp (by omega), h6, h3])⟩
      · have hv : 1000 ≤ it l i := by rw [g4, la_bl_1 (IT.1 l i)] at z; exact z
        have e := hN i (by omega) z
        have e2 : la_ls so it (so l) i (l + 1) = it l i - 1000 := if_pos rfl
        rw [nI_clamp (by omega), e, e2, show (1000 : Int32) = nI 1000 from rfl, nI_add]
        congr 1
        omega
      · rw [g4] at z ⊢
        rw [la_bl_w z]
  unfold wpX_lineFits
  refine la_overGaps P (fun r hr => ⟨_, main (len l) 0 r (by omega) (fun k hk => ?_)⟩)
  rw [hr k hk, ← la_ov_0 m (la_g pt) (fun k i => la_tk (pt k) (it l i)) k hk]
  exact la_ov_congr (fun i hi => la_b1' i (by omega)) k hk
theorem la_clear {post : St1 → Prop} (H : ∀ b17, (∀ j, j < 8 → b17 j = 0) → post (dc, pc, ln, sh, nd, isf, ft, fr, a1, a2, a3, a4, a5, a6, a7, a8, a9, a10, a11, a12, a13, a14, a15, a16, b17, a18, a19, a20)) : wpX_clearNumbers post (dc, pc, ln, sh, nd, isf, ft, fr, a1, a2, a3, a4, a5, a6, a7, a8, a9, a10, a11, a12, a13, a14, a15, a16, a17, a18, a19, a20) := by
  refine pk_loop (fun n i b => wX_clearNumbers_2 post dc pc ln sh nd isf ft fr n (nI i) a1 a2 a3 a4 a5 a6 a7 a8 a9 a10 a11 a12 a13 a14 a15 a16 b a18 a19 a20) (fun i b => ∀ j, j < i → b j = 0) 8 0 a17 (by omega) (fun j hj => absurd hj (by omega)) (fun n b hb => pk_le 8 8 (fun _ => H b hb) (fun z => absurd z (by omega))) (fun n i b hi hb hw => pk_le 8 i (fun z => absurd z (by omega)) (fun _ => ⟨pk_in i 8 (by omega), nm_r (e' := upd b i 0) (by rw [nI_clamp (by omega)]) (nm_r (nI_1 i) (hw _ ?_))⟩))
  intro j hj
  by_cases e : j = i
  · rw [e, pk_us]
  · rw [pk_un e]; exact hb j (by omega)
theorem la_linesThatFit {post : Int64 → St1 → Prop} {s : Nat} (A : la_AR n sn so sl len bg tm si it a3 a4 a5 a6 a7 a8 a9) (IT : la_IT it len tm) (P : la_PA m pt a2) (hs : s < sn) (H : ∀ r fr' b17, (∀ k, k < 64 → la_l r k = (decide (k < n) && (decide (so k = s) && la_F pt len it m k))) → post r (dc, nI m, nI n, nI sn, nd, isf, ft, fr', a1, a2, a3, a4, a5, a6, a7, a8, a9, a10, a11, a12, a13, a14, a15, a16, b17, a18, a19, a20)) : wpX_linesThatFit post (dc, nI m, nI n, nI sn, nd, isf, ft, fr, a1, a2, a3, a4, a5, a6, a7, a8, a9, a10, a11, a12, a13, a14, a15, a16, a17, a18, a19, a20) (nI s) := by
  obtain ⟨hn, hsn, A1, A2, A3, A4, A5⟩ := id A
  obtain ⟨h5, h6, h7⟩ := A1 s hs
  have main : ∀ c l x2 fr b17, l + c = n → la_N sl so si it s l b17 → (∀ k, k < 64 → la_l x2 k = (decide (k < l) && (decide (so k = s) && la_F pt len it m k))) → wX_linesThatFit_9 post (nI s) (c + 1) x2 (nI l) dc (nI m) (nI n) (nI sn) nd isf ft fr a1 a2 a3 a4 a5 a6 a7 a8 a9 a10 a11 a12 a13 a14 a15 a16 b17 a18 a19 a20 := by
    intro c
    induction c with
    | zero =>
      intro l x2 fr b17 hl hN h
      have e : l = n := by omega
      subst e
      exact pk_le l l (fun _ => H _ _ _ h) (fun z => absurd z (by omega))
    | succ c ih =>
      intro l x2 fr b17 hl hN h
      obtain ⟨k1, k2, k3, k4⟩ := A2 l (by omega)
      have st : ∀ x2' fr' b', la_N sl so si it s (l + 1) b' → (∀ k, k < 64 → la_l x2' k = (la_l x2 k || (decide (k = l) && (decide (so l = s) && la_F pt len it m l)))) → wX_linesThatFit_9 post (nI s) (c + 1) x2' (nI (l + 1)) dc (nI m) (nI n) (nI sn) nd isf ft fr' a1 a2 a3 a4 a5 a6 a7 a8 a9 a10 a11 a12 a13 a14 a15 a16 b' a18 a19 a20 := by
        intro x2' fr' b' hN' hx
        refine ih (l + 1) x2' fr' b' (by omega) hN' (fun k hk => ?_)
        rw [hx k hk, h k hk]
        by_cases e : k = l
        · subst e
          simp
        · rw [decide_eq_false e, show decide (k < l + 1) = decide (k < l) by rw [decide_eq_decide]; omega]
          simp
      refine pk_le n l (fun z => absurd z (by omega)) (fun _ => ⟨pk_in l 60 (by omega), ?_⟩)
      rw [nI_clamp (by omega), k2]
      refine pk_eq (so l) s (fun z => ?_) (fun z => nm_r (nI_1 l) (st x2 fr b17 ?_ (fun k hk => ?_)))
      · subst z
        refine la_addLine A IT (by omega) rfl hN (fun fr' b' hN' => la_lineFits A IT P (by omega) hN' ?_)
        cases hF : la_F pt len it m l
        · refine br_t rfl (nm_e (nm_r (nI_1 l) (st _ fr' b' hN' (fun k hk => ?_))))
          rw [la_l_or, la_l0, hF]
          simp
        · refine br_f (by decide) (nm_e (nm_r (nI_1 l) (st _ fr' b' hN' (fun k hk => ?_))))
          rw [la_setL _ _ _ (by omega) hk, hF]
          simp
      · intro j hj hj2
        rw [hN j hj hj2]
        show _ = nI (if so l = s then _ else _)
        rw [if_neg z]
      · rw [decide_eq_false z]
        simp
  unfold wpX_linesThatFit
  exact la_clear (fun b17 hb => ⟨_, main n 0 0 fr b17 (by omega) (fun j hj _ => hb j (by omega)) (fun k hk => by rw [la_l0]; simp)⟩)
theorem la_names {post : Int32 → Prop} (P : la_PA m pt a2) (H1 : post 1) (H0 : (∀ k, k < m → ¬ (1000 ≤ pt k ∧ pt k < 2000) ∧ pt k < 3000) → post 0) : wpX_namesNumbers post (dc, nI m, ln, sh, nd, isf, ft, fr, a1, a2, a3, a4, a5, a6, a7, a8, a9, a10, a11, a12, a13, a14, a15, a16, a17, a18, a19, a20) := by
  have hm := P.1
  have main : ∀ c j, j + c = m → (∀ k, k < j → ¬ (1000 ≤ pt k ∧ pt k < 2000) ∧ pt k < 3000) → wX_namesNumbers_2 post dc (nI m) ln sh nd isf ft fr a1 a2 a3 a4 a5 a6 a7 a8 a9 a10 a11 a12 a13 a14 a15 a16 a17 a18 a19 a20 (c + 1) (nI j) := by
    intro c
    induction c with
    | zero =>
      intro j hj h
      exact pk_le m j (fun _ => H0 (fun k hk => h k (by omega))) (fun z => absurd z (by omega))
    | succ c ih =>
      intro j hj h
      obtain ⟨p1, p2⟩ := P.2 j (by omega)
      have p3 := la_pok_lt p2
      refine pk_le m j (fun z => absurd z (by omega)) (fun _ => ⟨pk_in j 8 (by omega), ?_⟩)
      rw [nI_clamp (by omega), p1]
      refine la_isNumber (pt j) rfl p3 (fun z => br_f (by decide) H1) (fun z => br_t rfl ⟨pk_in j 8 (by omega), pk_lt (pt j) 3000 (fun y => nm_r (nI_1 j) (ih (j + 1) (by omega) (fun k hk => ?_))) (fun y => H1)⟩)
      by_cases e : k = j
      · subst e
        exact ⟨z, y⟩
      · exact h k (by omega)
  exact ⟨_, main m 0 (by omega) (fun k hk => absurd hk (by omega))⟩
theorem la_F_may {s l : Nat} (A : la_AR n sn so sl len bg tm si it a3 a4 a5 a6 a7 a8 a9) (IT : la_IT it len tm) (P : la_PA m pt a2) (hl : l < n) (hs : so l = s) (h : la_M (la_g pt) (fun k i => la_ts (pt k) (si s i)) m (sl s) = false) : la_F pt len it m l = false := by
  subst hs
  obtain ⟨h1, h2, h3, h4⟩ := A.2.2.2.1 l hl
  cases hF : la_F pt len it m l
  · rfl
  · unfold la_F at hF
    rw [h3] at h
    rw [la_M_mono (t' := fun k i => la_ts (pt k) (si (so l) i)) (K := m) (N := len l) (fun k i hk hi hg e => by rw [h4 i hi]; exact la_tk_mono (P.2 k hk).2 (IT.1 l i) e) m (Nat.le_refl _) (len l) (Nat.le_refl _) hF] at h
    exact absurd h (by decide)
theorem la_F_ex {s l : Nat} (A : la_AR n sn so sl len bg tm si it a3 a4 a5 a6 a7 a8 a9) (IT : la_IT it len tm) (P : la_PA m pt a2) (hl : l < n) (hs : so l = s) (hx : ∀ k, k < m → ¬ (1000 ≤ pt k ∧ pt k < 2000) ∧ pt k < 3000) : la_F pt len it m l = la_M (la_g pt) (fun k i => la_ts (pt k) (si s i)) m (sl s) := by
  subst hs
  obtain ⟨h1, h2, h3, h4⟩ := A.2.2.2.1 l hl
  unfold la_F
  rw [h3]
  exact la_M_congr (fun k i hk hi hg => by rw [h4 i hi]; exact la_tk_ex (P.2 k hk).2 (fun e => by rw [la_g_t e] at hg; exact absurd hg (by decide)) (IT.1 l i) (hx k hk).1 (hx k hk).2)
theorem la_fit33 {post : St1 → Prop} {x1 : Int32} (A : la_AR n sn so sl len bg tm si it a3 a4 a5 a6 a7 a8 a9) (IT : la_IT it len tm) (P : la_PA m pt a2) (hm0 : 0 < m) (hx : x1 = 0 ∨ (¬ x1 = 0 ∧ ∀ k, k < m → ¬ (1000 ≤ pt k ∧ pt k < 2000) ∧ pt k < 3000)) (H : ∀ ft' fr' b17, la_FS n (la_F pt len it m) ft' → post (dc, nI m, nI n, nI sn, nd, isf, ft', fr', a1, a2, a3, a4, a5, a6, a7, a8, a9, a10, a11, a12, a13, a14, a15, a16, b17, a18, a19, a20)) : ∀ c s ft fr a17, s + c = sn → (∀ k, k < 64 → la_l ft k = (decide (k < n) && (decide (so k < s) && la_F pt len it m k))) → wX_fit_33 post x1 (c + 1) (nI s) dc (nI m) (nI n) (nI sn) nd isf ft fr a1 a2 a3 a4 a5 a6 a7 a8 a9 a10 a11 a12 a13 a14 a15 a16 a17 a18 a19 a20 := by
  have hm := P.1
  obtain ⟨hn, hsn, A1, A2, A3, A4, A5⟩ := id A
  intro c
  induction c with
  | zero =>
    intro s ft fr a17 hs h
    have e : s = sn := by omega
    subst e
    refine pk_le s s (fun _ => H _ _ _ (fun k hk => ?_)) (fun z => absurd z (by omega))
    rw [h k hk]
    by_cases e : k < n
    · rw [decide_eq_true (A2 k e).1, Bool.true_and]
    · rw [decide_eq_false e, Bool.false_and, Bool.false_and]
  | succ c ih =>
    intro s ft fr a17 hs h
    have st : ∀ ft' fr' b', (∀ k, k < 64 → la_l ft' k = (la_l ft k || (decide (k < n) && (decide (so k = s) && la_F pt len it m k)))) → wX_fit_33 post x1 (c + 1) (nI (s + 1)) dc (nI m) (nI n) (nI sn) nd isf ft' fr' a1 a2 a3 a4 a5 a6 a7 a8 a9 a10 a11 a12 a13 a14 a15 a16 b' a18 a19 a20 := by
      intro ft' fr' b' hx
      refine ih (s + 1) ft' fr' b' (by omega) (fun k hk => ?_)
      rw [hx k hk, h k hk]
      by_cases e : so k = s
      · rw [e]
        simp
      · rw [decide_eq_false e, show decide (so k < s + 1) = decide (so k < s) by rw [decide_eq_decide]; omega]
        simp
    refine pk_le sn s (fun z => absurd z (by omega)) (fun _ => pk_le m 0 (fun z => absurd z (by omega)) (fun _ => la_mayFit A P (by omega) ?_))
    cases hM : la_M (la_g pt) (fun k i => la_ts (pt k) (si s i)) m (sl s)
    · refine br_t rfl (nm_r (nI_1 s) (st ft fr a17 (fun k hk => ?_)))
      by_cases e1 : k < n
      · by_cases e2 : so k = s
        · rw [la_F_may A IT P e1 e2 hM]
          simp
        · rw [decide_eq_false e2]
          simp
      · rw [decide_eq_false e1]
        simp
    · refine br_f (by decide) ?_
      rcases hx with hx | ⟨hx, hx2⟩
      · refine br_t hx (la_linesThatFit A IT P (by omega) (fun r fr' b17 hr => nm_e (nm_r (nI_1 s) (st _ fr' b17 (fun k hk => ?_)))))
        rw [la_l_or, hr k hk]
      · refine br_f hx ⟨pk_in s 60 (by omega), nm_e (nm_r (nI_1 s) (st _ fr a17 (fun k hk => ?_)))⟩
        rw [nI_clamp (by omega), la_l_or, A4 s (by omega) k hk]
        by_cases e1 : k < n
        · by_cases e2 : so k = s
          · rw [la_F_ex A IT P e1 e2 hx2, hM]
            simp
          · rw [decide_eq_false e2]
            simp
        · rw [decide_eq_false e1]
          simp
theorem la_fit {post : St1 → Prop} (A : la_AR n sn so sl len bg tm si it a3 a4 a5 a6 a7 a8 a9) (IT : la_IT it len tm) (P : la_PA m pt a2) (hm0 : 0 < m) (hf : isf = 0 ∨ (isf = 1 ∧ la_FS n (la_F pt len it m) ft)) (H : ∀ ft' fr' b17, la_FS n (la_F pt len it m) ft' → post (dc, nI m, nI n, nI sn, nd, 1, ft', fr', a1, a2, a3, a4, a5, a6, a7, a8, a9, a10, a11, a12, a13, a14, a15, a16, b17, a18, a19, a20)) : wpX_fit post (dc, nI m, nI n, nI sn, nd, isf, ft, fr, a1, a2, a3, a4, a5, a6, a7, a8, a9, a10, a11, a12, a13, a14, a15, a16, a17, a18, a19, a20) := by
  rcases hf with hf | ⟨hf, hF⟩
  · refine br_t hf (la_names P ?_ (fun hx => ?_))
    · exact br_f (by decide) ⟨_, la_fit33 A IT P hm0 (Or.inl rfl) H sn 0 0 fr a17 (by omega) (fun k hk => by rw [la_l0]; simp)⟩
    · exact br_t rfl ⟨_, la_fit33 A IT P hm0 (Or.inr ⟨by decide, hx⟩) H sn 0 0 fr a17 (by omega) (fun k hk => by rw [la_l0]; simp)⟩
  · subst hf
    exact br_f (by decide) (H ft fr a17 hF)
end
end
section
/-- the first line of the shape of line l -/
def la_fs (so : Nat → Nat) (l : Nat) : Nat := la_lw (fun k => decide (so k = so l)) 60 0
theorem la_fs_spec (so : Nat → Nat) {l : Nat} (hl : l < 60) : la_fs so l ≤ l ∧ so (la_fs so l) = so l ∧ ∀ j, j < la_fs so l → so j ≠ so l := by
  obtain ⟨h1, h2, h3, h4⟩ := la_lw_spec (fun k => decide (so k = so l)) 60 0
  have a : la_fs so l ≤ l := by
    rcases Nat.lt_or_ge l (la_fs so l) with z | z
    · have := h3 l (by omega) z
      rw [decide_eq_false_iff_not] at this
      exact absurd rfl this
    · exact z
  refine ⟨a, ?_, fun j hj => ?_⟩
  · have := h4 (by unfold la_fs at a; omega)
    rw [decide_eq_true_iff] at this
    exact this
  · have := h3 j (by omega) hj
    rw [decide_eq_false_iff_not] at this
    exact this
def la_ng (i : Nat) (s t : Nat → Bool) (j : Nat) : Bool := decide (0 < j) && (decide (j ≤ i) && (s (j - 1) && t (j - 1)))
theorem la_ng_s (i : Nat) (s t : Nat → Bool) (j : Nat) : la_ng (i + 1) s t j = (la_ng i s t j || (decide (j = i + 1) && (s i && t i))) := by
  unfold la_ng
  by_cases e : j = i + 1
  · subst e
    simp
  · rw [decide_eq_false e, show decide (j ≤ i + 1) = decide (j ≤ i) by rw [decide_eq_decide]; omega]
    simp
theorem la_ng_row (s t : Nat → Bool) {i j : Nat} (h : j ≤ i) : la_ng i s t j = la_row false s t j := by
  cases j with
  | zero => unfold la_ng; simp [la_row]
  | succ j => unfold la_ng; simp [la_row, h]
section
variable {dc pc ln sh nd isf : Int32} {ft : Int64} {fr : Int32} {a1 a2 a3 a4 a5 a6 a7 a8 : Nat → Int32} {a9 : Nat → Int64} {a10 : Nat → Int32} {a11 : Nat → Int64} {a12 a13 a14 a15 a16 a17 a18 a19 a20 : Nat → Int32}
variable {n sn m : Nat} {so sl len bg tm pt : Nat → Nat} {si it : Nat → Nat → Nat}
theorem la_passed {post : Int32 → St1 → Prop} {l p : Nat} {set : Int32} (A : la_AR n sn so sl len bg tm si it a3 a4 a5 a6 a7 a8 a9) (IT : la_IT it len tm) (hl : l < n) (hp : la_pok p) (H : ∀ r fr' b16 b17, (∀ i, i ≤ len l → la_b r i = la_row (decide (p = 2002)) (la_b set) (fun i => la_tk p (it l i)) i) → post r (dc, pc, nI n, nI sn, nd, isf, ft, fr', a1, a2, a3, a4, a5, a6, a7, a8, a9, a10, a11, a12, a13, a14, a15, b16, b17, a18, a19, a20)) : wpL_passed post (dc, pc, nI n, nI sn, nd, isf, ft, fr, a1, a2, a3, a4, a5, a6, a7, a8, a9, a10, a11, a12, a13, a14, a15, a16, a17, a18, a19, a20) (nI l) set (nI p) := by
  have hn := A.1
  have hlen := IT.2.1 l
  have p3 := la_pok_lt hp
  unfold wpL_passed
  refine la_length A hl ?_
  by_cases hg : p = 2002
  · have main : ∀ c i x5, i + c = len l + 1 → (∀ j, j ≤ len l → la_b x5 j = la_gr (la_b set) i j) → wL_passed_13 post (nI l) set (nI p) (nI (len l)) (c + 1) x5 (nI i) dc pc (nI n) (nI sn) nd isf ft fr a1 a2 a3 a4 a5 a6 a7 a8 a9 a10 a11 a12 a13 a14 a15 a16 a17 a18 a19 a20 := by
      intro c
      induction c with
      | zero =>
        intro i x5 hi h
        refine pk_lt (len l) i (fun _ => H _ _ _ _ (fun j hj => ?_)) (fun z => absurd z (by omega))
        rw [h j hj, decide_eq_true hg]
        exact la_gr_row _ _ (by omega)
      | succ c ih =>
        intro i x5 hi h
        refine pk_lt (len l) i (fun z => absurd z (by omega)) (fun _ => ek_if (la_b_0 set i (by omega)) (fun z => nm_r (nI_1 i) (ih (i + 1) x5 (by omega) (fun j hj => ?_))) (fun z => br_t (by rw [hg]; rfl) (nm_e (nm_r (nI_1 i) (ih (i + 1) _ (by omega) (fun j hj => ?_))))))
        · show _ = (la_gr (la_b set) i j || (la_b set i && decide (i ≤ j)))
          rw [h j hj, z]
          simp
        · show _ = (la_gr (la_b set) i j || (la_b set i && decide (i ≤ j)))
          rw [Bool.not_eq_false] at z
          rw [la_b_or, la_rng (len l) (by omega) i (by omega) (by omega) j (by omega), h j hj, z]
          simp [hj]
    exact ⟨_, main (len l + 1) 0 0 (by omega) (fun j hj => by rw [la_b0]; rfl)⟩
  · have hg' : ¬ nI p = 2002 := fun e => hg ((nI_eq (by omega) (by omega)).mp (show nI p = nI 2002 from e))
    have main : ∀ c i x5 fr b16 b17, i + c = len l + 1 → (∀ j, j ≤ len l → la_b x5 j = la_ng i (la_b set) (fun i => la_tk p (it l i)) j) → wL_passed_13 post (nI l) set (nI p) (nI (len l)) (c + 1) x5 (nI i) dc pc (nI n) (nI sn) nd isf ft fr a1 a2 a3 a4 a5 a6 a7 a8 a9 a10 a11 a12 a13 a14 a15 b16 b17 a18 a19 a20 := by
      intro c
      induction c with
      | zero =>
        intro i x5 fr b16 b17 hi h
        refine pk_lt (len l) i (fun _ => H _ _ _ _ (fun j hj => ?_)) (fun z => absurd z (by omega))
        rw [h j hj, decide_eq_false hg]
        exact la_ng_row _ _ (by omega)
      | succ c ih =>
        intro i x5 fr b16 b17 hi h
        refine pk_lt (len l) i (fun z => absurd z (by omega)) (fun _ => ek_if (la_b_0 set i (by omega)) (fun z => nm_r (nI_1 i) (ih (i + 1) x5 fr b16 b17 (by omega) (fun j hj => ?_))) (fun z => br_f hg' (pk_le (len l) i (fun y => nm_r (nI_1 i) (ih (i + 1) x5 fr b16 b17 (by omega) (fun j hj => ?_))) (fun y => la_at A IT hl y (fun fr' b16' b17' => la_meets p (it l i) hp hg (IT.1 l i) ?_)))))
        · rw [la_ng_s, h j hj, z]
          simp
        · rw [la_ng_s, h j hj, decide_eq_false (show ¬ j = i + 1 by omega)]
          simp
        · rw [Bool.not_eq_false] at z
          cases ht : la_tk p (it l i)
          · refine br_t rfl (nm_r (nI_1 i) (ih (i + 1) x5 fr' b16' b17' (by omega) (fun j hj => ?_)))
            rw [la_ng_s, h j hj, ht]
            simp
          · refine br_f (by decide) (nm_e (nm_r (nI_1 i) (ih (i + 1) _ fr' b16' b17' (by omega) (fun j hj => ?_))))
            rw [la_ng_s, nI_1, la_set _ _ _ (by omega) (by omega), h j hj, ht, z]
            simp
    exact ⟨_, main (len l + 1) 0 0 fr a16 a17 (by omega) (fun j hj => by rw [la_b0]; unfold la_ng; cases j <;> simp)⟩
theorem la_group {post : Int32 → Prop} {l : Nat} (A : la_AR n sn so sl len bg tm si it a3 a4 a5 a6 a7 a8 a9) (hl : l < n) (H : post (nI (la_fs so l))) : wpX_group post (dc, pc, nI n, nI sn, nd, isf, ft, fr, a1, a2, a3, a4, a5, a6, a7, a8, a9, a10, a11, a12, a13, a14, a15, a16, a17, a18, a19, a20) (nI l) := by
  obtain ⟨hn, hsn, A1, A2, A3, A4, A5⟩ := id A
  obtain ⟨h1, h2, h3, h4⟩ := A2 l hl
  obtain ⟨g1, g2, g3⟩ := la_fs_spec so (show l < 60 by omega)
  unfold wpX_group
  refine la_isLine hn hl (br_f (by decide) ⟨pk_in l 60 (by omega), ?_⟩)
  rw [nI_clamp (by omega), h2]
  unfold wpX_firstOf
  refine ⟨pk_in (so l) 60 (by omega), ?_⟩
  rw [nI_clamp (by omega)]
  refine la_lowest ?_
  have e : la_lw (la_l (a9 (so l))) 60 0 = la_fs so l := by
    refine la_lw_uniq (by omega) (by omega) (fun j _ hj => ?_) ?_
    · rw [A4 (so l) h1 j (by omega), decide_eq_false (g3 j hj), Bool.and_false]
    · rw [A4 (so l) h1 _ (by omega), decide_eq_true (show la_fs so l < n by omega), decide_eq_true g2]
      rfl
  rw [e]
  exact H
/-- next from a place b -/
theorem la_next26 {post : Int32 → St1 → Prop} {b : Nat} {z : Int32} (hz : z = nI b) (hn : n ≤ 14) (hb : b ≤ n) (hF : la_FS n (la_F pt len it m) ft) (H : post (la_nx (la_F pt len it m) (n - b) b) (dc, pc, nI n, nI sn, nd, isf, ft, fr, a1, a2, a3, a4, a5, a6, a7, a8, a9, a10, a11, a12, a13, a14, a15, a16, a17, a18, a19, a20)) : wX_next_26 post z dc pc (nI n) (nI sn) nd isf ft fr a1 a2 a3 a4 a5 a6 a7 a8 a9 a10 a11 a12 a13 a14 a15 a16 a17 a18 a19 a20 := by
  subst hz
  unfold wX_next_26
  show wpX_lowest _ () _
  refine la_lowest ?_
  obtain ⟨h1, h2, h3, h4⟩ := la_lw_spec (la_l (ft &&& ((((1 : Int64) <<< ((nI b).toInt64 &&& 63)) - 1) ^^^ (-1)))) 60 0
  generalize hk : la_lw (la_l (ft &&& ((((1 : Int64) <<< ((nI b).toInt64 &&& 63)) - 1) ^^^ (-1)))) 60 0 = k at h1 h2 h3 h4 ⊢
  have bits : ∀ j, j < 60 → la_l (ft &&& ((((1 : Int64) <<< ((nI b).toInt64 &&& 63)) - 1) ^^^ (-1))) j = ((decide (j < n) && la_F pt len it m j) && !decide (j < b)) := by
    intro j hj
    rw [la_l_and, la_l_not _ _ (by omega), la_low b (by omega) j (by omega), hF j (by omega)]
  have hbk : b ≤ k := by
    rcases Nat.lt_or_ge k b with q | q
    · have := h4 (by omega)
      rw [bits k (by omega), decide_eq_true q] at this
      simp at this
    · exact q
  have e := la_nx_lw (p := la_F pt len it m) (n := n) (N := 60) (by omega) (n - b) b (by omega) k (fun j hj => h3 j (by omega) hj) (by omega) (fun j hj hbj => by rw [bits j hj, decide_eq_false (show ¬ j < b by omega)]; simp) (fun hk => h4 (by omega)) hbk
  rw [← e] at H
  refine pk_le n k (fun q => ?_) (fun q => ?_)
  · rw [if_pos q] at H
    exact H
  · rw [if_neg (by omega)] at H
    exact H
theorem la_next {post : Int32 → St1 → Prop} {x : Int32} (b : Nat) (A : la_AR n sn so sl len bg tm si it a3 a4 a5 a6 a7 a8 a9) (IT : la_IT it len tm) (P : la_PA m pt a2) (hm0 : 0 < m) (hf : isf = 0 ∨ (isf = 1 ∧ la_FS n (la_F pt len it m) ft)) (hb : b ≤ n) (hx : (x = -1 ∧ b = 0) ∨ (x + 1 = nI b ∧ 0 < b)) (H : ∀ ft' fr' b17, la_FS n (la_F pt len it m) ft' → post (la_nx (la_F pt len it m) (n - b) b) (dc, nI m, nI n, nI sn, nd, 1, ft', fr', a1, a2, a3, a4, a5, a6, a7, a8, a9, a10, a11, a12, a13, a14, a15, a16, b17, a18, a19, a20)) : wpX_next post (dc, nI m, nI n, nI sn, nd, isf, ft, fr, a1, a2, a3, a4, a5, a6, a7, a8, a9, a10, a11, a12, a13, a14, a15, a16, a17, a18, a19, a20) x := by
  have hn := A.1
  unfold wpX_next
  refine la_fit A IT P hm0 hf (fun ft' fr' b17 hF => ?_)
  rcases hx with ⟨hx, hb0⟩ | ⟨hx, hb0⟩
  · subst hx hb0
    exact br_f (by decide) (la_next26 (b := 0) rfl hn hb hF (H ft' fr' b17 hF))
  · have e : x = nI (b - 1) := by
      have : nI b = nI (b - 1) + 1 := by rw [nI_1]; congr 1; omega
      rw [this] at hx
      exact (Int32.add_left_inj 1).mp hx
    refine br_t (by rw [e]; exact nI_pos' (by omega)) (br_t (by rw [e]; exact nI_lt (b := 60) (by omega) (by omega)) ?_)
    exact la_next26 hx hn hb hF (H ft' fr' b17 hF)
theorem la_countBelow {post : Int32 → Prop} {x : Int32} (A : la_AR n sn so sl len bg tm si it a3 a4 a5 a6 a7 a8 a9) (IT : la_IT it len tm) (H : ∀ r, r ≤ n → (∀ k, k < r → ¬ x ≤ nI (tm k)) → (∀ k, r ≤ k → k < n → x ≤ nI (tm k)) → post (nI r)) : wpX_countBelow post (dc, pc, nI n, nI sn, nd, isf, ft, fr, a1, a2, a3, a4, a5, a6, a7, a8, a9, a10, a11, a12, a13, a14, a15, a16, a17, a18, a19, a20) x := by
  obtain ⟨hn, hsn, A1, A2, A3, A4, A5⟩ := id A
  have mono : ∀ a b, a ≤ b → tm a ≤ tm b := by
    intro a b hab
    induction b with
    | zero => rw [show a = 0 by omega]; exact Nat.le_refl _
    | succ b ih =>
      rcases Nat.eq_or_lt_of_le hab with e | e
      · rw [e]; exact Nat.le_refl _
      · exact Nat.le_trans (ih (by omega)) (IT.2.2.1 b)
  have main : ∀ f lo hi, hi - lo < f → lo ≤ hi → hi ≤ n → (∀ k, k < lo → ¬ x ≤ nI (tm k)) → (∀ k, hi ≤ k → k < n → x ≤ nI (tm k)) → wX_countBelow_7 post x dc pc (nI n) (nI sn) nd isf ft fr a1 a2 a3 a4 a5 a6 a7 a8 a9 a10 a11 a12 a13 a14 a15 a16 a17 a18 a19 a20 f (nI lo) (nI hi) := by
    intro f
    induction f with
    | zero => intro lo hi h; omega
    | succ f ih =>
      intro lo hi h1 h2 h3 h4 h5
      refine pk_le hi lo (fun z => H lo (by omega) h4 (fun k hk => h5 k (by omega))) (fun z => nm_r (e' := nI ((lo + hi) / 2)) (by rw [nI_add, pk_shrN (by omega) _ 1 (by decide)]) ⟨pk_in ((lo + hi) / 2) 60 (by omega), ?_⟩)
      rw [nI_clamp (by omega), A5 _ (by omega)]
      have tmle : ∀ k, k < 14 → tm k ≤ 42 := IT.2.2.2
      refine br_c (fun y => ih lo ((lo + hi) / 2) (by omega) (by omega) (by omega) h4 (fun k hk hkn => ?_)) (fun y => nm_r (nI_1 _) (ih ((lo + hi) / 2 + 1) hi (by omega) (by omega) h3 (fun k hk => ?_) h5))
      · have a := mono ((lo + hi) / 2) k hk
        have b := tmle k (by omega)
        exact Int32.le_trans y (nI_le a (by omega))
      · have a := mono k ((lo + hi) / 2) (by omega)
        have b := tmle ((lo + hi) / 2) (by omega)
        exact fun q => y (Int32.le_trans q (nI_le a (by omega)))
  exact ⟨n + 1, main (n + 1) 0 n (by omega) (by omega) (Nat.le_refl _) (fun k hk => absurd hk (by omega)) (fun k hk hkn => absurd hkn (by omega))⟩
theorem la_fitting {post : Int32 → St1 → Prop} {x y : Int32} (A : la_AR n sn so sl len bg tm si it a3 a4 a5 a6 a7 a8 a9) (IT : la_IT it len tm) (P : la_PA m pt a2) (hm0 : 0 < m) (hf : isf = 0 ∨ (isf = 1 ∧ la_FS n (la_F pt len it m) ft)) (H : ∀ ft' fr' b17 b e, la_FS n (la_F pt len it m) ft' → b ≤ n → e ≤ n → (∀ k, k < b → ¬ x ≤ nI (tm k)) → (∀ k, b ≤ k → k < n → x ≤ nI (tm k)) → ((y < 1000 ∧ (∀ k, k < e → ¬ y + 1 ≤ nI (tm k)) ∧ (∀ k, e ≤ k → k < n → y + 1 ≤ nI (tm k))) ∨ (¬ y < 1000 ∧ e = n)) → post (nI (la_ct (la_F pt len it m) e - la_ct (la_F pt len it m) b)) (dc, nI m, nI n, nI sn, nd, 1, ft', fr', a1, a2, a3, a4, a5, a6, a7, a8, a9, a10, a11, a12, a13, a14, a15, a16, b17, a18, a19, a20)) : wpX_fitting post (dc, nI m, nI n, nI sn, nd, isf, ft, fr, a1, a2, a3, a4, a5, a6, a7, a8, a9, a10, a11, a12, a13, a14, a15, a16, a17, a18, a19, a20) x y := by
  have hn := A.1
  unfold wpX_fitting
  refine la_fit A IT P hm0 hf (fun ft' fr' b17 hF => la_countBelow A IT (fun b hb b1 b2 => ?_))
  have fin : ∀ e, e ≤ n → ((y < 1000 ∧ (∀ k, k < e → ¬ y + 1 ≤ nI (tm k)) ∧ (∀ k, e ≤ k → k < n → y + 1 ≤ nI (tm k))) ∨ (¬ y < 1000 ∧ e = n)) → (nI e ≤ nI b → post 0 (dc, nI m, nI n, nI sn, nd, 1, ft', fr', a1, a2, a3, a4, a5, a6, a7, a8, a9, a10, a11, a12, a13, a14, a15, a16, b17, a18, a19, a20)) ∧ (¬ nI e ≤ nI b → wpX_below (fun r_73 => wpX_below (fun r_74 => wpX_ones (fun r_75 => post r_75 (dc, nI m, nI n, nI sn, nd, 1, ft', fr', a1, a2, a3, a4, a5, a6, a7, a8, a9, a10, a11, a12, a13, a14, a15, a16, b17, a18, a19, a20)) () ((ft' &&& r_73) &&& (r_74 ^^^ (-1)))) () (nI b)) () (nI e)) := by
    intro e he hy
    have h := H ft' fr' b17 b e hF hb he b1 b2 hy
    refine pk_le e b (fun z => ?_) (fun z => ?_)
    · have := la_ct_mono (la_F pt len it m) z
      rw [show la_ct (la_F pt len it m) e - la_ct (la_F pt len it m) b = 0 by omega] at h
      exact h
    · show wpX_ones _ () _
      refine la_ones ?_
      have s := la_ct_span (la_F pt len it m) b e 60
      rw [show min e 60 = e by omega, show min b e = b by omega] at s
      have c : la_ct (la_l ((ft' &&& (((1 : Int64) <<< ((nI e).toInt64 &&& 63)) - 1)) &&& ((((1 : Int64) <<< ((nI b).toInt64 &&& 63)) - 1) ^^^ (-1)))) 60 = la_ct (fun k => la_F pt len it m k && (decide (k < e) && !decide (k < b))) 60 := by
        refine la_ct_congr (fun k hk => ?_)
        rw [la_l_and, la_l_and, la_l_not _ _ (by omega), la_low b (by omega) k (by omega), la_low e (by omega) k (by omega), hF k (by omega)]
        by_cases q : k < e
        · rw [decide_eq_true (show k < n by omega), decide_eq_true q]
          simp
        · rw [decide_eq_false q]
          simp
      rw [c, show la_ct (fun k => la_F pt len it m k && (decide (k < e) && !decide (k < b))) 60 = la_ct (la_F pt len it m) e - la_ct (la_F pt len it m) b by omega]
      exact h
  unfold wpX_countUpTo
  refine br_c (fun z => la_countBelow A IT (fun e he e1 e2 => fin e he (Or.inl ⟨z, e1, e2⟩))) (fun z => fin n (Nat.le_refl _) (Or.inr ⟨z, rfl⟩))
theorem la_groups {post : Int32 → St1 → Prop} (A : la_AR n sn so sl len bg tm si it a3 a4 a5 a6 a7 a8 a9) (IT : la_IT it len tm) (P : la_PA m pt a2) (hm0 : 0 < m) (hf : isf = 0 ∨ (isf = 1 ∧ la_FS n (la_F pt len it m) ft)) (H : ∀ ft' fr' b17, la_FS n (la_F pt len it m) ft' → post (nI (la_ct (fun s => la_an (fun k => la_F pt len it m k && decide (so k = s)) n) sn)) (dc, nI m, nI n, nI sn, nd, 1, ft', fr', a1, a2, a3, a4, a5, a6, a7, a8, a9, a10, a11, a12, a13, a14, a15, a16, b17, a18, a19, a20)) : wpX_fittingGroups post (dc, nI m, nI n, nI sn, nd, isf, ft, fr, a1, a2, a3, a4, a5, a6, a7, a8, a9, a10, a11, a12, a13, a14, a15, a16, a17, a18, a19, a20) := by
  obtain ⟨hn, hsn, A1, A2, A3, A4, A5⟩ := id A
  unfold wpX_fittingGroups
  refine la_fit A IT P hm0 hf (fun ft' fr' b17 hF => ?_)
  have main : ∀ c s, s + c = sn → wX_fittingGroups_8 post dc (nI m) (nI n) (nI sn) nd 1 ft' fr' a1 a2 a3 a4 a5 a6 a7 a8 a9 a10 a11 a12 a13 a14 a15 a16 b17 a18 a19 a20 (c + 1) (nI (la_ct (fun s => la_an (fun k => la_F pt len it m k && decide (so k = s)) n) s)) (nI s) := by
    intro c
    induction c with
    | zero =>
      intro s hs
      have e : s = sn := by omega
      subst e
      exact pk_le s s (fun _ => H ft' fr' b17 hF) (fun z => absurd z (by omega))
    | succ c ih =>
      intro s hs
      have t := ih (s + 1) (by omega)
      have e0 : la_ct (fun s => la_an (fun k => la_F pt len it m k && decide (so k = s)) n) (s + 1) = la_ct (fun s => la_an (fun k => la_F pt len it m k && decide (so k = s)) n) s + (if la_an (fun k => la_F pt len it m k && decide (so k = s)) n = true then 1 else 0) := rfl
      rw [e0] at t
      refine pk_le sn s (fun z => absurd z (by omega)) (fun _ => ⟨pk_in s 60 (by omega), ?_⟩)
      rw [nI_clamp (by omega)]
      refine ek_if (d := la_an (fun k => la_F pt len it m k && decide (so k = s)) n = false) ?_ (fun z => nm_r (nI_add _ 0) (nm_r (nI_1 s) ?_)) (fun z => nm_r (nI_1 _) (nm_r (nI_1 s) ?_))
      · rw [la_l_z]
        constructor
        · intro h
          cases q : la_an (fun k => la_F pt len it m k && decide (so k = s)) n
          · rfl
          · obtain ⟨k, k1, k2⟩ := (la_an_iff _ _).mp q
            have := h k (by omega)
            rw [Bool.and_eq_true, decide_eq_true_iff] at k2
            rw [la_l_and, hF k (by omega), A4 s (by omega) k (by omega), decide_eq_true k1, k2.1, decide_eq_true k2.2] at this
            exact absurd this (by decide)
        · intro h k hk
          rw [la_l_and, hF k hk, A4 s (by omega) k hk]
          by_cases k1 : k < n
          · have : ¬ (la_F pt len it m k = true ∧ so k = s) := by
              intro q
              have := (la_an_iff (fun k => la_F pt len it m k && decide (so k = s)) n).mpr ⟨k, k1, by rw [q.1, decide_eq_true q.2]; rfl⟩
              rw [h] at this
              exact absurd this (by decide)
            cases q : la_F pt len it m k
            · simp
            · rw [decide_eq_false (fun e => this ⟨q, e⟩)]
              simp
          · rw [decide_eq_false k1]
            simp
      · rw [z] at t
        exact t
      · rw [Bool.not_eq_false] at z
        rw [if_pos z] at t
        exact t
  exact ⟨_, main sn 0 (by omega)⟩
end
end
section
/-! the law's loops over a filled archive -/
def la_W (F : Nat → Bool) (tm : Nat → Nat) (sp k : Nat) : Bool := F k && decide (tm k ≤ sp)
def la_Q (F : Nat → Bool) (so : Nat → Nat) (n l : Nat) : Bool := decide (la_fs so l = l) && la_an (fun k => F k && decide (la_fs so k = l)) n
theorem la_within {F : Nat → Bool} {tm : Nat → Nat} {sp r n : Nat} (hr : r ≤ n) (h1 : ∀ k, k < r → tm k ≤ sp) (h2 : ∀ k, r ≤ k → k < n → sp < tm k) : la_ct (la_W F tm sp) n = la_ct F r := by
  have s := la_ct_span F 0 r n
  rw [Nat.zero_min, show min r n = r by omega] at s
  have e : la_ct (la_W F tm sp) n = la_ct (fun k => F k && (decide (k < r) && !decide (k < 0))) n := by
    refine la_ct_congr (fun k hk => ?_)
    unfold la_W
    by_cases q : k < r
    · rw [decide_eq_true (h1 k q), decide_eq_true q]
      simp
    · have := h2 k (by omega) hk
      rw [decide_eq_false (show ¬ tm k ≤ sp by omega), decide_eq_false q]
      simp
  rw [e]
  exact s
theorem la_grp_eq {F : Nat → Bool} {so : Nat → Nat} {n sn : Nat} (hn : n ≤ 14) (hso : ∀ l, l < n → so l < sn) : la_ct (fun s => la_an (fun k => F k && decide (so k = s)) n) sn = la_ct (la_Q F so n) n := by
  have same : ∀ k l, k < n → l < n → so k = so l → la_fs so k = la_fs so l := by
    intro k l hk hl e
    obtain ⟨k1, k2, k3⟩ := la_fs_spec so (show k < 60 by omega)
    obtain ⟨l1, l2, l3⟩ := la_fs_spec so (show l < 60 by omega)
    rcases Nat.lt_trichotomy (la_fs so k) (la_fs so l) with z | z | z
    · exact absurd (k2.trans e) (l3 _ z)
    · exact z
    · exact absurd (l2.trans e.symm) (k3 _ z)
  refine la_ct_map (so := so) sn (la_Q F so n) (fun s hs hp => ?_) (fun l hl hq => ?_) (fun l m hl hm ql qm e => ?_)
  · obtain ⟨k, k1, k2⟩ := (la_an_iff _ _).mp hp
    rw [Bool.and_eq_true, decide_eq_true_iff] at k2
    obtain ⟨g1, g2, g3⟩ := la_fs_spec so (show k < 60 by omega)
    refine ⟨la_fs so k, by omega, ?_, g2.trans k2.2⟩
    unfold la_Q
    rw [Bool.and_eq_true, decide_eq_true_iff]
    refine ⟨same _ _ (by omega) k1 g2, (la_an_iff _ _).mpr ⟨k, k1, ?_⟩⟩
    rw [k2.1, decide_eq_true rfl]
    rfl
  · unfold la_Q at hq
    rw [Bool.and_eq_true, decide_eq_true_iff] at hq
    refine ⟨hso l hl, ?_⟩
    obtain ⟨k, k1, k2⟩ := (la_an_iff _ _).mp hq.2
    rw [Bool.and_eq_true, decide_eq_true_iff] at k2
    obtain ⟨g1, g2, g3⟩ := la_fs_spec so (show k < 60 by omega)
    refine (la_an_iff _ _).mpr ⟨k, k1, ?_⟩
    rw [k2.1, decide_eq_true (show so k = so l by rw [← k2.2]; exact g2.symm)]
    rfl
  · unfold la_Q at ql qm
    rw [Bool.and_eq_true, decide_eq_true_iff] at ql qm
    rw [← ql.1, ← qm.1]
    exact same l m hl hm e
section
variable {dc pc ln sh nd isf : Int32} {ft : Int64} {fr : Int32} {a1 a2 a3 a4 a5 a6 a7 a8 : Nat → Int32} {a9 : Nat → Int64} {a10 : Nat → Int32} {a11 : Nat → Int64} {a12 a13 a14 a15 a16 a17 a18 a19 a20 : Nat → Int32}
variable {n sn m : Nat} {so sl len bg tm pt : Nat → Nat} {si it : Nat → Nat → Nat}
variable {post : Int32 → Prop} {L : Nat} {xs : Nat → Int32} {kc ks : Nat}
variable {J23 : Int32 → Int32 → Int32 → Int32 → Int32 → Int32 → Int32 → Int64 → Int32 → (Nat → Int32) → (Nat → Int32) → (Nat → Int32) → (Nat → Int32) → (Nat → Int32) → (Nat → Int32) → (Nat → Int32) → (Nat → Int32) → (Nat → Int64) → (Nat → Int32) → (Nat → Int64) → (Nat → Int32) → (Nat → Int32) → (Nat → Int32) → (Nat → Int32) → (Nat → Int32) → (Nat → Int32) → (Nat → Int32) → (Nat → Int32) → (Nat → Int32) → Prop}
variable {J278 : Int32 → Int32 → Int32 → Int32 → Int32 → Int32 → Int32 → Int32 → Int64 → Int32 → (Nat → Int32) → (Nat → Int32) → (Nat → Int32) → (Nat → Int32) → (Nat → Int32) → (Nat → Int32) → (Nat → Int32) → (Nat → Int32) → (Nat → Int64) → (Nat → Int32) → (Nat → Int64) → (Nat → Int32) → (Nat → Int32) → (Nat → Int32) → (Nat → Int32) → (Nat → Int32) → (Nat → Int32) → (Nat → Int32) → (Nat → Int32) → (Nat → Int32) → Prop}
variable {J127 : Int32 → Int32 → Int32 → Int32 → Int32 → Int32 → Int32 → Int32 → Int32 → Int32 → Int64 → Int32 → (Nat → Int32) → (Nat → Int32) → (Nat → Int32) → (Nat → Int32) → (Nat → Int32) → (Nat → Int32) → (Nat → Int32) → (Nat → Int32) → (Nat → Int64) → (Nat → Int32) → (Nat → Int64) → (Nat → Int32) → (Nat → Int32) → (Nat → Int32) → (Nat → Int32) → (Nat → Int32) → (Nat → Int32) → (Nat → Int32) → (Nat → Int32) → (Nat → Int32) → Prop}
theorem la_138 {l ro : Nat} {x2 x5 x6 x7 x8 x9 : Int32} (A : la_AR n sn so sl len bg tm si it a3 a4 a5 a6 a7 a8 a9) (IT : la_IT it len tm) (P : la_PA m pt a2) (hl : l < n) (hL : L ≤ 260) (hr : ro < 4) (hpt : ∀ k, k < m → pt k = la_pt (la_cell L xs (20 + 9 * ro + k))) (H : ∀ fr' b16 b17, wL_law_197 post L xs J23 J127 x2 (nI ro) (nI m) x5 x6 x7 x8 x9 (nI l) (if la_F pt len it m l = true then 1 else 0) kc ks dc (nI m) (nI n) (nI sn) nd isf ft fr' a1 a2 a3 a4 a5 a6 a7 a8 a9 a10 a11 a12 a13 a14 a15 b16 b17 a18 a19 a20) : ∃ fu, wL_law_138 post L xs J23 J127 x2 (nI ro) (nI m) x5 x6 x7 x8 x9 (nI l) kc ks fu 1 0 dc (nI m) (nI n) (nI sn) nd isf ft fr a1 a2 a3 a4 a5 a6 a7 a8 a9 a10 a11 a12 a13 a14 a15 a16 a17 a18 a19 a20 := by
  have hm := P.1
  have hn := A.1
  have hlen := IT.2.1 l
  have main : ∀ c k x11 fr b16 b17, k + c = m → (∀ i, i ≤ len l → la_b x11 i = la_M (la_g pt) (fun k i => la_tk (pt k) (it l i)) k i) → wL_law_138 post L xs J23 J127 x2 (nI ro) (nI m) x5 x6 x7 x8 x9 (nI l) kc ks (c + 1) x11 (nI k) dc (nI m) (nI n) (nI sn) nd isf ft fr a1 a2 a3 a4 a5 a6 a7 a8 a9 a10 a11 a12 a13 a14 a15 b16 b17 a18 a19 a20 := by
    intro c
    induction c with
    | zero =>
      intro k x11 fr b16 b17 hk h
      have e : k = m := by omega
      subst e
      have hb : la_b x11 (len l) = la_F pt len it k l := h (len l) (Nat.le_refl _)
      have hH := H fr b16 b17
      refine pk_le k k (fun _ => la_length A hl (ek_if (la_b_0 x11 (len l) (by omega)) (fun z => ?_) (fun z => ?_))) (fun z => absurd z (by omega))
      · rw [← hb, z] at hH
        exact hH
      · rw [Bool.not_eq_false] at z
        rw [← hb, z] at hH
        exact hH
    | succ c ih =>
      intro k x11 fr b16 b17 hk h
      refine pk_le m k (fun z => absurd z (by omega)) (fun _ => la_cellW (20 + 9 * ro + k) ?_ hL (by omega) (la_partOf (la_passed A IT hl (la_pt_ok _) (fun r fr' b16' b17' hr => nm_r (nI_1 k) (ih (k + 1) r fr' b16' b17' (by omega) (fun i hi => ?_))))))
      · rw [show (9 : Int32) = nI 9 from rfl, show (20 : Int32) = nI 20 from rfl, pk_mul, nI_add, nI_add]
      · rw [hr i hi]
        show _ = la_row (la_g pt k) (la_M (la_g pt) (fun k i => la_tk (pt k) (it l i)) k) (fun i => la_tk (pt k) (it l i)) i
        unfold la_g
        rw [hpt k (by omega)]
        exact la_row_congr h (fun i _ => rfl) i hi
  refine ⟨_, main m 0 1 fr a16 a17 (by omega) (fun i hi => ?_)⟩
  exact la_b1' i (by omega)
theorem la_197 {l sp cn wi : Nat} {x2 x3 x9 : Int32} (A : la_AR n sn so sl len bg tm si it a3 a4 a5 a6 a7 a8 a9) (IT : la_IT it len tm) (P : la_PA m pt a2) (hm0 : 0 < m) (hf : isf = 0 ∨ (isf = 1 ∧ la_FS n (la_F pt len it m) ft)) (hl : l < n) (hsp : sp < 32) (H : ∀ ft' fr' b17, la_FS n (la_F pt len it m) ft' → J127 (nI (cn + if la_F pt len it m l = true then 1 else 0)) (la_nx (la_F pt len it m) (n - l) l) (nI (wi + if la_W (la_F pt len it m) tm sp l = true then 1 else 0)) (nI l + (-1)) dc (nI m) (nI n) (nI sn) nd 1 ft' fr' a1 a2 a3 a4 a5 a6 a7 a8 a9 a10 a11 a12 a13 a14 a15 a16 b17 a18 a19 a20) : wL_law_197 post L xs J23 J127 x2 x3 (nI m) (nI cn) (la_nx (la_F pt len it m) (n - (l + 1)) (l + 1)) (nI sp) (nI wi) x9 (nI l) (if la_F pt len it m l = true then 1 else 0) kc ks dc (nI m) (nI n) (nI sn) nd isf ft fr a1 a2 a3 a4 a5 a6 a7 a8 a9 a10 a11 a12 a13 a14 a15 a16 a17 a18 a19 a20 := by
  have hn := A.1
  have htm := IT.2.2.2 l (by omega)
  unfold wL_law_197
  refine la_next (l + 1) A IT P hm0 hf (by omega) (Or.inr ⟨nI_1 l, by omega⟩) (fun ft' fr' b17 hF => br_t rfl ?_)
  have hH := H ft' fr' b17 hF
  rw [show n - l = (n - (l + 1)) + 1 by omega, la_nx_s] at hH
  unfold la_W at hH
  cases hc : la_F pt len it m l
  · rw [hc] at hH
    exact br_t rfl (br_t rfl (br_t rfl (nm_e hH)))
  · rw [hc] at hH
    refine br_f (by decide) (br_f (by decide) (br_f (by decide) (la_time A hl (pk_lt sp (tm l) (fun z => nm_e ?_) (fun z => nm_r (nI_1 wi) (nm_e ?_))))))
    · rw [decide_eq_false (show ¬ tm l ≤ sp by omega)] at hH
      rw [nI_1]
      exact hH
    · rw [decide_eq_true (show tm l ≤ sp by omega)] at hH
      rw [nI_1]
      exact hH
theorem la_127 {ro sp : Nat} (A : la_AR n sn so sl len bg tm si it a3 a4 a5 a6 a7 a8 a9) (IT : la_IT it len tm) (P : la_PA m pt a2) (hm0 : 0 < m) (hL : L ≤ 260) (hr : ro < 4) (hpt : ∀ k, k < m → pt k = la_pt (la_cell L xs (20 + 9 * ro + k))) (hsp : sp < 32) (H : ∀ isf' ft' fr' b16 b17, (isf' = 0 ∨ (isf' = 1 ∧ la_FS n (la_F pt len it m) ft')) → ∃ fu, wL_law_278 post L xs J23 (nI n) (nI ro) (nI (la_ct (la_F pt len it m) n)) (la_nx (la_F pt len it m) n 0) (nI sp) (nI (la_ct (la_W (la_F pt len it m) tm sp) n)) kc ks fu 0 0 dc (nI m) (nI n) (nI sn) nd isf' ft' fr' a1 a2 a3 a4 a5 a6 a7 a8 a9 a10 a11 a12 a13 a14 a15 b16 b17 a18 a19 a20) : ∀ c cn wi isf ft fr a16 a17, c ≤ n → cn + la_ct (la_F pt len it m) c = la_ct (la_F pt len it m) n → wi + la_ct (la_W (la_F pt len it m) tm sp) c = la_ct (la_W (la_F pt len it m) tm sp) n → (isf = 0 ∨ (isf = 1 ∧ la_FS n (la_F pt len it m) ft)) → wL_law_127 post L xs J23 (nI n) (nI ro) (nI m) (nI sp) 0 kc ks (c + 1) (nI cn) (la_nx (la_F pt len it m) (n - c) c) (nI wi) (nI c + (-1)) dc (nI m) (nI n) (nI sn) nd isf ft fr a1 a2 a3 a4 a5 a6 a7 a8 a9 a10 a11 a12 a13 a14 a15 a16 a17 a18 a19 a20 := by
  have hn := A.1
  intro c
  induction c with
  | zero =>
    intro cn wi isf ft fr a16 a17 hc h1 h2 hf
    have e1 : cn = la_ct (la_F pt len it m) n := h1
    have e2 : wi = la_ct (la_W (la_F pt len it m) tm sp) n := h2
    subst e1 e2
    exact br_t (by decide) (H isf ft fr a16 a17 hf)
  | succ c ih =>
    intro cn wi isf ft fr a16 a17 hc h1 h2 hf
    rw [pk_m1]
    refine br_f (nI_pos (by omega)) (la_138 A IT P (by omega) hL hr hpt (fun fr' b16 b17 => la_197 A IT P hm0 hf (by omega) hsp (fun ft' fr'' b17' hF => ih _ _ 1 ft' fr'' b16 b17' (by omega) ?_ ?_ (Or.inr ⟨rfl, hF⟩))))
    · rw [← h1]
      show cn + _ + _ = cn + (la_ct (la_F pt len it m) c + _)
      omega
    · rw [← h2]
      show wi + _ + _ = wi + (la_ct (la_W (la_F pt len it m) tm sp) c + _)
      omega
theorem la_334 {b : Nat} {x2 x3 x5 x6 x7 x8 x9 x10 z0 : Int32} (A : la_AR n sn so sl len bg tm si it a3 a4 a5 a6 a7 a8 a9) (IT : la_IT it len tm) (P : la_PA m pt a2) (hm0 : 0 < m) (hF : la_FS n (la_F pt len it m) ft) (hb : b < n) {J308 : Int32 → Int32 → Int32 → Int32 → Int32 → Int32 → Int32 → Int32 → Int64 → Int32 → (Nat → Int32) → (Nat → Int32) → (Nat → Int32) → (Nat → Int32) → (Nat → Int32) → (Nat → Int32) → (Nat → Int32) → (Nat → Int32) → (Nat → Int64) → (Nat → Int32) → (Nat → Int64) → (Nat → Int32) → (Nat → Int32) → (Nat → Int32) → (Nat → Int32) → (Nat → Int32) → (Nat → Int32) → (Nat → Int32) → (Nat → Int32) → (Nat → Int32) → Prop} (H : ∀ ft' fr' b17, la_FS n (la_F pt len it m) ft' → J308 z0 (la_nx (la_F pt len it m) (n - (b + 1)) (b + 1)) dc (nI m) (nI n) (nI sn) nd 1 ft' fr' a1 a2 a3 a4 a5 a6 a7 a8 a9 a10 a11 a12 a13 a14 a15 a16 b17 a18 a19 a20) : wL_law_334 post L xs J23 J278 J308 x2 x3 x5 x6 x7 x8 x9 x10 (nI b) z0 kc ks dc (nI m) (nI n) (nI sn) nd 1 ft fr a1 a2 a3 a4 a5 a6 a7 a8 a9 a10 a11 a12 a13 a14 a15 a16 a17 a18 a19 a20 := by
  unfold wL_law_334
  exact la_next (b + 1) A IT P hm0 (Or.inr ⟨rfl, hF⟩) (by omega) (Or.inr ⟨nI_1 b, by omega⟩) H
theorem la_308 {l gr : Nat} {x2 x3 x5 x6 x7 x8 : Int32} (A : la_AR n sn so sl len bg tm si it a3 a4 a5 a6 a7 a8 a9) (IT : la_IT it len tm) (P : la_PA m pt a2) (hm0 : 0 < m) (hl : l < n) (hfs : la_fs so l = l) (H : ∀ ft' fr' b17, la_FS n (la_F pt len it m) ft' → J278 (nI (gr + if la_Q (la_F pt len it m) so n l = true then 1 else 0)) (nI (l + 1)) dc (nI m) (nI n) (nI sn) nd 1 ft' fr' a1 a2 a3 a4 a5 a6 a7 a8 a9 a10 a11 a12 a13 a14 a15 a16 b17 a18 a19 a20) : ∀ c b fu ft fr a17, b + c = n → c < fu → la_FS n (la_F pt len it m) ft → wL_law_308 post L xs J23 J278 x2 x3 x5 x6 x7 x8 (nI gr) (nI l) kc ks fu (if la_an (fun k => la_F pt len it m k && decide (la_fs so k = l)) b = true then 1 else 0) (la_nx (la_F pt len it m) c b) dc (nI m) (nI n) (nI sn) nd 1 ft fr a1 a2 a3 a4 a5 a6 a7 a8 a9 a10 a11 a12 a13 a14 a15 a16 a17 a18 a19 a20 := by
  have hn := A.1
  intro c
  induction c with
  | zero =>
    intro b fu ft fr a17 hb hfu hF
    obtain ⟨f, rfl⟩ : ∃ f, fu = f + 1 := ⟨fu - 1, by omega⟩
    have e : b = n := by omega
    subst e
    have hH := H ft fr a17 hF
    unfold la_Q at hH
    rw [decide_eq_true hfs, Bool.true_and] at hH
    refine br_t (show (-2 : Int32) < 0 by decide) ?_
    cases hc : la_an (fun k => la_F pt len it m k && decide (la_fs so k = l)) b
    · rw [hc] at hH
      exact br_t rfl (nm_r (nI_1 l) hH)
    · rw [hc] at hH
      exact br_f (by decide) (nm_r (nI_1 gr) (nm_r (nI_1 l) hH))
  | succ c ih =>
    intro b fu ft fr a17 hb hfu hF
    have es : la_an (fun k => la_F pt len it m k && decide (la_fs so k = l)) (b + 1) = (la_an (fun k => la_F pt len it m k && decide (la_fs so k = l)) b || (la_F pt len it m b && decide (la_fs so b = l))) := rfl
    rw [la_nx_s]
    cases hc : la_F pt len it m b
    · have t := ih (b + 1) fu ft fr a17 (by omega) (by omega) hF
      rw [es, hc, Bool.false_and, Bool.or_false] at t
      rw [if_neg Bool.false_ne_true]
      exact t
    · rw [if_pos rfl]
      rw [hc, Bool.true_and] at es
      obtain ⟨f, rfl⟩ : ∃ f, fu = f + 1 := ⟨fu - 1, by omega⟩
      have t : ∀ (a : Bool), a = la_an (fun k => la_F pt len it m k && decide (la_fs so k = l)) (b + 1) → ∀ ft' fr' b17, la_FS n (la_F pt len it m) ft' → wL_law_308 post L xs J23 J278 x2 x3 x5 x6 x7 x8 (nI gr) (nI l) kc ks f (if a = true then 1 else 0) (la_nx (la_F pt len it m) (n - (b + 1)) (b + 1)) dc (nI m) (nI n) (nI sn) nd 1 ft' fr' a1 a2 a3 a4 a5 a6 a7 a8 a9 a10 a11 a12 a13 a14 a15 a16 b17 a18 a19 a20 := by
        intro a ha ft' fr' b17 hF'
        rw [ha, show n - (b + 1) = c by omega]
        exact ih (b + 1) f ft' fr' b17 (by omega) (by omega) hF'
      refine br_f (nI_pos (by omega)) ?_
      cases hd : la_an (fun k => la_F pt len it m k && decide (la_fs so k = l)) b
      · obtain ⟨g1, g2, g3⟩ := la_fs_spec so (show b < 60 by omega)
        refine br_t rfl (la_group A (by omega) (pk_eq (la_fs so b) l (fun z => ?_) (fun z => ?_)))
        · unfold wL_law_329
          exact la_334 A IT P hm0 hF (by omega) (t true (by rw [es, hd, decide_eq_true z]; rfl))
        · exact la_334 A IT P hm0 hF (by omega) (t false (by rw [es, hd, decide_eq_false z]; rfl))
      · refine br_f (by decide) ?_
        unfold wL_law_329
        exact la_334 A IT P hm0 hF (by omega) (t true (by rw [es, hd, Bool.true_or]))
theorem la_278 {ro sp : Nat} (A : la_AR n sn so sl len bg tm si it a3 a4 a5 a6 a7 a8 a9) (IT : la_IT it len tm) (P : la_PA m pt a2) (hm0 : 0 < m) (hsp : sp < 32) (hr : ro < 4) (H : ∀ ft' fr' b16 b17, J23 (nI (ro + 1)) dc (nI m) (nI n) (nI sn) nd 1 ft' fr' a1 a2 a3 a4 a5 a6 a7 a8 a9 a10 a11 a12 a13 a14 a15 b16 b17 a18 a19 a20) : ∀ c l isf ft fr a16 a17, l + c = n → (isf = 0 ∨ (isf = 1 ∧ la_FS n (la_F pt len it m) ft)) → wL_law_278 post L xs J23 (nI n) (nI ro) (nI (la_ct (la_F pt len it m) n)) (la_nx (la_F pt len it m) n 0) (nI sp) (nI (la_ct (la_W (la_F pt len it m) tm sp) n)) kc ks (c + 1) (nI (la_ct (la_Q (la_F pt len it m) so n) l)) (nI l) dc (nI m) (nI n) (nI sn) nd isf ft fr a1 a2 a3 a4 a5 a6 a7 a8 a9 a10 a11 a12 a13 a14 a15 a16 a17 a18 a19 a20 := by
  have hn := A.1
  have htm := IT.2.2.2
  intro c
  induction c with
  | zero =>
    intro l isf ft fr a16 a17 hl hf
    have e : l = n := by omega
    subst e
    refine pk_le l l (fun _ => la_next 0 A IT P hm0 hf (by omega) (Or.inl ⟨rfl, rfl⟩) (fun ft1 fr1 b1 hF1 => br_t rfl (la_fitting A IT P hm0 (Or.inr ⟨rfl, hF1⟩) (fun ft2 fr2 b2 b e hF2 hb he k1 k2 k3 => br_t ?_ (la_fitting A IT P hm0 (Or.inr ⟨rfl, hF2⟩) (fun ft3 fr3 b3 b' e' hF3 hb' he' k1' k2' k3' => br_t ?_ (la_fitting A IT P hm0 (Or.inr ⟨rfl, hF3⟩) (fun ft4 fr4 b4 b'' e'' hF4 hb'' he'' k1'' k2'' k3'' => br_t ?_ (la_groups A IT P hm0 (Or.inr ⟨rfl, hF4⟩) (fun ft5 fr5 b5 hF5 => br_t ?_ (nm_r (nI_1 ro) (H ft5 fr5 a16 b5)))))))))))) (fun z => absurd z (by omega))
    · have hb0 : b = 0 := by
        rcases Nat.eq_zero_or_pos b with z | z
        · exact z
        · exact absurd (nI_pos' (by have := htm 0 (by omega); omega)) (k1 0 z)
      have he0 : e = l := by
        rcases k3 with z | z
        · exact absurd z.1 (by decide)
        · exact z.2
      rw [hb0, he0]
      rfl
    · have hb0 : b' = 0 := by
        rcases Nat.eq_zero_or_pos b' with z | z
        · exact z
        · refine absurd ?_ (k1' 0 z)
          have h0 := htm 0 (by omega)
          exact Int32.le_trans (show (-3 : Int32) ≤ 0 by decide) (nI_pos' (by omega))
      rcases k3' with z | z
      · have e1 : la_ct (la_W (la_F pt len it m) tm sp) l = la_ct (la_F pt len it m) e' := by
          refine la_within he' (fun k hk => ?_) (fun k hk hkl => ?_)
          · have a := z.2.1 k hk
            have b := htm k (by omega)
            rw [nI_1, nI_leI (by omega) (by omega)] at a
            omega
          · have a := z.2.2 k hk hkl
            have b := htm k (by omega)
            rw [nI_1, nI_leI (by omega) (by omega)] at a
            omega
        rw [hb0, e1]
        rfl
      · exact absurd (show nI sp < nI 1000 from nI_lt (by omega) (by omega)) z.1
    · have he0 : e'' = l := by
        rcases k3'' with z | z
        · exact absurd z.1 (by decide)
        · exact z.2
      have e1 : la_ct (la_W (la_F pt len it m) tm sp) l = la_ct (la_F pt len it m) b'' := by
        refine la_within hb'' (fun k hk => ?_) (fun k hk hkl => ?_)
        · have a := k1'' k hk
          have b := htm k (by omega)
          rw [nI_1, nI_leI (by omega) (by omega)] at a
          omega
        · have a := k2'' k hk hkl
          have b := htm k (by omega)
          rw [nI_1, nI_leI (by omega) (by omega)] at a
          omega
      rw [he0, e1]
      have := la_ct_mono (la_F pt len it m) hb''
      rw [pk_sub this]
    · rw [la_grp_eq hn (fun l hl => (A.2.2.2.1 l hl).1)]
  | succ c ih =>
    intro l isf ft fr a16 a17 hl hf
    obtain ⟨g1, g2, g3⟩ := la_fs_spec so (show l < 60 by omega)
    have es : la_ct (la_Q (la_F pt len it m) so n) (l + 1) = la_ct (la_Q (la_F pt len it m) so n) l + (if la_Q (la_F pt len it m) so n l = true then 1 else 0) := rfl
    refine pk_le n l (fun z => absurd z (by omega)) (fun _ => la_group A (by omega) (pk_eq (la_fs so l) l (fun z => la_next l A IT P hm0 hf (by omega) ?_ (fun ft1 fr1 b1 hF1 => ⟨n + 1, ?_⟩)) (fun z => nm_r (nI_1 l) ?_)))
    · rcases Nat.eq_zero_or_pos l with q | q
      · subst q
        exact Or.inl ⟨by decide, rfl⟩
      · exact Or.inr ⟨Int32.sub_add_cancel _ _, q⟩
    · have t := la_308 (post := post) (L := L) (xs := xs) (kc := kc) (ks := ks) (J23 := J23) (J278 := wL_law_278 post L xs J23 (nI n) (nI ro) (nI (la_ct (la_F pt len it m) n)) (la_nx (la_F pt len it m) n 0) (nI sp) (nI (la_ct (la_W (la_F pt len it m) tm sp) n)) kc ks (c + 1)) (gr := la_ct (la_Q (la_F pt len it m) so n) l) (x2 := nI n) (x3 := nI ro) (x5 := nI (la_ct (la_F pt len it m) n)) (x6 := la_nx (la_F pt len it m) n 0) (x7 := nI sp) (x8 := nI (la_ct (la_W (la_F pt len it m) tm sp) n)) (dc := dc) (nd := nd) (a1 := a1) (a10 := a10) (a11 := a11) (a12 := a12) (a13 := a13) (a14 := a14) (a15 := a15) (a16 := a16) (a18 := a18) (a19 := a19) (a20 := a20) A IT P hm0 (by omega) z (fun ft' fr' b17 hF => by
        rw [← es]
        exact ih (l + 1) 1 ft' fr' a16 b17 (by omega) (Or.inr ⟨rfl, hF⟩)) (n - l) l (n + 1) ft1 fr1 b1 (by omega) (by omega) hF1
      have e0 : la_an (fun k => la_F pt len it m k && decide (la_fs so k = l)) l = false := by
        cases q : la_an (fun k => la_F pt len it m k && decide (la_fs so k = l)) l
        · rfl
        · obtain ⟨k, k1, k2⟩ := (la_an_iff _ _).mp q
          rw [Bool.and_eq_true, decide_eq_true_iff] at k2
          have := (la_fs_spec so (show k < 60 by omega)).1
          omega
      rw [e0] at t
      exact t
    · have t := ih (l + 1) isf ft fr a16 a17 (by omega) hf
      have e0 : la_Q (la_F pt len it m) so n l = false := by
        unfold la_Q
        rw [decide_eq_false z, Bool.false_and]
      rw [es, e0] at t
      exact t
end
end
section
/-! parts and rounds -/
section
variable {dc pc ln sh nd isf : Int32} {ft : Int64} {fr : Int32} {a1 a2 a3 a4 a5 a6 a7 a8 : Nat → Int32} {a9 : Nat → Int64} {a10 : Nat → Int32} {a11 : Nat → Int64} {a12 a13 a14 a15 a16 a17 a18 a19 a20 : Nat → Int32}
variable {n sn : Nat} {so sl len bg tm : Nat → Nat} {si it : Nat → Nat → Nat}
variable {L : Nat} {xs : Nat → Int32} {kc ks : Nat}
theorem la_part {post : Int32 → St1 → Prop} {d p : Nat} (hd : d < 8) (hp : la_pok p) (H : post (nI (d + 1)) (dc, nI (d + 1), ln, sh, nd, 0, ft, fr, a1, upd a2 d (nI p), a3, a4, a5, a6, a7, a8, a9, a10, a11, a12, a13, a14, a15, a16, a17, a18, a19, a20)) : wpX_part post (dc, nI d, ln, sh, nd, isf, ft, fr, a1, a2, a3, a4, a5, a6, a7, a8, a9, a10, a11, a12, a13, a14, a15, a16, a17, a18, a19, a20) (nI p) := by
  unfold wpX_part
  exact la_isPart p rfl hp (br_f (by decide) (pk_lt d 8 (fun _ => ⟨pk_in d 8 hd, nm_r (by rw [nI_clamp (by omega)]) (nm_r (nI_1 d) H)⟩) (fun z => absurd z (by omega))))
theorem la_51 {post : Int32 → Prop} {m ro : Nat} {J23 : Int32 → Int32 → Int32 → Int32 → Int32 → Int32 → Int32 → Int64 → Int32 → (Nat → Int32) → (Nat → Int32) → (Nat → Int32) → (Nat → Int32) → (Nat → Int32) → (Nat → Int32) → (Nat → Int32) → (Nat → Int32) → (Nat → Int64) → (Nat → Int32) → (Nat → Int64) → (Nat → Int32) → (Nat → Int32) → (Nat → Int32) → (Nat → Int32) → (Nat → Int32) → (Nat → Int32) → (Nat → Int32) → (Nat → Int32) → (Nat → Int32) → Prop} (A : la_AR n sn so sl len bg tm si it a3 a4 a5 a6 a7 a8 a9) (IT : la_IT it len tm) (hL : L ≤ 260) (hr : ro < 4) (hm0 : 0 < m) (hm : m ≤ 8) (H : ∀ ft' fr' b2 b16 b17, J23 (nI (ro + 1)) dc (nI m) (nI n) (nI sn) nd 1 ft' fr' a1 b2 a3 a4 a5 a6 a7 a8 a9 a10 a11 a12 a13 a14 a15 b16 b17 a18 a19 a20) : ∀ c d b2, d + c = m → (∀ k, k < d → b2 k = nI (la_pt (la_cell L xs (20 + 9 * ro + k)))) → wL_law_51 post L xs J23 (nI n) (nI ro) (nI m) kc ks (c + 1) (nI d) dc (nI d) (nI n) (nI sn) nd 0 ft fr a1 b2 a3 a4 a5 a6 a7 a8 a9 a10 a11 a12 a13 a14 a15 a16 a17 a18 a19 a20 := by
  have hn := A.1
  intro c
  induction c with
  | zero =>
    intro d b2 hd h
    have e : d = m := by omega
    subst e
    have P : la_PA d (fun k => la_pt (la_cell L xs (20 + 9 * ro + k))) b2 := ⟨hm, fun k hk => ⟨h k hk, la_pt_ok _⟩⟩
    refine pk_le d d (fun _ => la_cellW (15 + ro) (nI_add 15 ro) hL (by omega) (nm_r (pk_and _ 5 rfl) (nm_r (e' := nI n + (-1)) (Int32.sub_eq_add_neg _ _) ⟨n + 1, ?_⟩))) (fun z => absurd z (by omega))
    have hs := Nat.mod_lt (la_cell L xs (15 + ro) >>> ((3 : Int32) &&& 31)).toBitVec.toNat (show 2 ^ 5 > 0 by decide)
    have t := la_127 (post := post) (L := L) (xs := xs) (kc := kc) (ks := ks) (J23 := J23) (ro := ro) (sp := (la_cell L xs (15 + ro) >>> ((3 : Int32) &&& 31)).toBitVec.toNat % 2 ^ 5) (dc := dc) (nd := nd) (a1 := a1) (a10 := a10) (a11 := a11) (a12 := a12) (a13 := a13) (a14 := a14) (a15 := a15) (a18 := a18) (a19 := a19) (a20 := a20) A IT P hm0 hL hr (fun k hk => rfl) (by omega) (fun isf' ft' fr' b16 b17 hf => ⟨n + 1, la_278 A IT P hm0 (by omega) hr (fun ft' fr' b16 b17 => H ft' fr' b2 b16 b17) n 0 isf' ft' fr' b16 b17 (by omega) hf⟩) n 0 0 0 ft fr a16 a17 (Nat.le_refl _) (by omega) (by omega) (Or.inl rfl)
    rw [Nat.sub_self] at t
    exact t
  | succ c ih =>
    intro d b2 hd h
    refine pk_le m d (fun z => absurd z (by omega)) (fun _ => la_cellW (20 + 9 * ro + d) ?_ hL (by omega) (la_partOf (la_part (by omega) (la_pt_ok _) (br_t (nI_1 d).symm (nm_r (nI_1 d) (ih (d + 1) _ (by omega) (fun k hk => ?_)))))))
    · rw [show (9 : Int32) = nI 9 from rfl, show (20 : Int32) = nI 20 from rfl, pk_mul, nI_add, nI_add]
    · by_cases e : k = d
      · subst e
        rw [pk_us]
      · rw [pk_un e]
        exact h k (by omega)
theorem la_23 {post : Int32 → Prop} (A : la_AR n sn so sl len bg tm si it a3 a4 a5 a6 a7 a8 a9) (IT : la_IT it len tm) (hL : L ≤ 260) (H : post 1) : ∀ c ro pc isf ft fr a2 a16 a17, ro + c = 4 → (0 < ro → ∃ d, 0 < d ∧ d ≤ 8 ∧ pc = nI d) → wL_law_23 post L xs (nI n) kc ks (c + 1) (nI ro) dc pc (nI n) (nI sn) nd isf ft fr a1 a2 a3 a4 a5 a6 a7 a8 a9 a10 a11 a12 a13 a14 a15 a16 a17 a18 a19 a20 := by
  intro c
  induction c with
  | zero =>
    intro ro pc isf ft fr a2 a16 a17 hr hp
    obtain ⟨d, d1, d2, d3⟩ := hp (by omega)
    subst d3
    exact pk_le 4 ro (fun _ => pk_le d 0 (fun z => absurd z (by omega)) (fun _ => H)) (fun z => absurd z (by omega))
  | succ c ih =>
    intro ro pc isf ft fr a2 a16 a17 hr hp
    have hs := Nat.mod_lt (la_cell L xs (15 + ro)).toBitVec.toNat (show 2 ^ 3 > 0 by decide)
    refine pk_le 4 ro (fun z => absurd z (by omega)) (fun _ => ?_)
    unfold wpX_blank
    refine la_cellW (15 + ro) (nI_add 15 ro) hL (by omega) (nm_r (e' := nI (1 + (la_cell L xs (15 + ro)).toBitVec.toNat % 2 ^ 3)) ?_ ⟨1 + (la_cell L xs (15 + ro)).toBitVec.toNat % 2 ^ 3 + 1, la_51 A IT hL (by omega) (by omega) (by omega) (fun ft' fr' b2 b16 b17 => ih (ro + 1) _ 1 ft' fr' b2 b16 b17 (by omega) (fun _ => ⟨_, by omega, by omega, rfl⟩)) _ 0 a2 (by omega) (fun k hk => absurd hk (by omega))⟩)
    rw [pk_and _ 3 rfl, ← nI_add]
    rfl
end
end
section
/-! the tree of shapes -/
def la_up {α : Type} (f : Nat → α) (k : Nat) (x : α) : Nat → α := fun j => if j = k then x else f j
theorem la_us {α : Type} {f : Nat → α} {k : Nat} {x : α} : la_up f k x k = x := if_pos rfl
theorem la_un {α : Type} {f : Nat → α} {k j : Nat} {x : α} (h : j ≠ k) : la_up f k x j = f j := if_neg h
def la_TR (nd sn : Nat) (sl : Nat → Nat) (si : Nat → Nat → Nat) (pa pr : Nat → List Nat) (a12 a13 a14 a15 : Nat → Int32) : Prop :=
  pa 0 = [] ∧ (∀ c, 0 < c → c < nd → ∃ v, v < 4000 ∧ a12 c = nI v ∧ pa c = pr c ++ [v]) ∧ (∀ c, c < nd → a13 c = -1 ∨ ∃ b, 0 < b ∧ b < nd ∧ a13 c = nI b ∧ pr b = pa c) ∧ (∀ c, 0 < c → c < nd → a14 c = -1 ∨ ∃ b, 0 < b ∧ b < c ∧ a14 c = nI b ∧ pr b = pr c) ∧ (∀ c, c < nd → a15 c = -1 ∨ ∃ s, s < sn ∧ a15 c = nI s ∧ pa c = la_pre (si s) (sl s))
/-- the last numbers of every shape after n lines -/
def la_LN (n sn : Nat) (so sl : Nat → Nat) (si it : Nat → Nat → Nat) (a10 : Nat → Int32) : Prop := ∀ s, s < sn → ∀ i, i < sl s → si s i = 1000 → a10 (8 * s + i) = nI (la_ls so it s i n)
section
variable {dc pc ln sh nd isf : Int32} {ft : Int64} {fr : Int32} {a1 a2 a3 a4 a5 a6 a7 a8 : Nat → Int32} {a9 : Nat → Int64} {a10 : Nat → Int32} {a11 : Nat → Int64} {a12 a13 a14 a15 a16 a17 a18 a19 a20 : Nat → Int32}
variable {n sn d : Nat} {so sl len bg tm : Nat → Nat} {si it : Nat → Nat → Nat} {pa pr : Nat → List Nat}
theorem la_newNode {post : Int32 → St1 → Prop} {x : Int32} (hd : d < 484) (H : post (nI d) (dc, pc, ln, sh, nI (d + 1), isf, ft, fr, a1, a2, a3, a4, a5, a6, a7, a8, a9, a10, a11, upd a12 d x, upd a13 d (-1), upd a14 d (-1), upd a15 d (-1), a16, a17, a18, a19, a20)) : wpX_newNode post (dc, pc, ln, sh, nI d, isf, ft, fr, a1, a2, a3, a4, a5, a6, a7, a8, a9, a10, a11, a12, a13, a14, a15, a16, a17, a18, a19, a20) x := by
  have e : (nI d).toNatClampNeg = d := nI_clamp (by omega)
  refine ⟨pk_in d 484 hd, nm_r (by rw [e]) ⟨pk_in d 484 hd, nm_r (by rw [e]) ⟨pk_in d 484 hd, nm_r (by rw [e]) ⟨pk_in d 484 hd, nm_r (by rw [e]) (nm_r (nI_1 d) ?_)⟩⟩⟩⟩
  rw [nI_pred]
  exact H
theorem la_TR_new {c v : Nat} (T : la_TR d sn sl si pa pr a12 a13 a14 a15) (hc : c < d) (hv : v < 4000) : la_TR (d + 1) sn sl si (la_up pa d (pa c ++ [v])) (la_up pr d (pa c)) (upd a12 d (nI v)) (upd (upd a13 d (-1)) c (nI d)) (upd (upd a14 d (-1)) d (a13 c)) (upd a15 d (-1)) := by
  obtain ⟨t1, t2, t3, t4, t5⟩ := T
  refine ⟨?_, fun k k0 hk => ?_, fun k hk => ?_, fun k k0 hk => ?_, fun k hk => ?_⟩
  · rw [la_un (by omega)]
    exact t1
  · by_cases e : k = d
    · subst e
      exact ⟨v, hv, pk_us, by rw [la_us, la_us]⟩
    · obtain ⟨v', g1, g2, g3⟩ := t2 k k0 (by omega)
      exact ⟨v', g1, by rw [pk_un e]; exact g2, by rw [la_un e, la_un e]; exact g3⟩
  · by_cases e : k = c
    · subst e
      exact Or.inr ⟨d, by omega, by omega, pk_us, by rw [la_us, la_un (by omega)]⟩
    · rw [pk_un e]
      by_cases e2 : k = d
      · subst e2
        exact Or.inl pk_us
      · rw [pk_un e2, la_un e2]
        rcases t3 k (by omega) with q | ⟨b, b1, b2, b3, b4⟩
        · exact Or.inl q
        · exact Or.inr ⟨b, b1, by omega, b3, by rw [la_un (by omega)]; exact b4⟩
  · by_cases e : k = d
    · subst e
      rw [pk_us, la_us]
      rcases t3 c hc with q | ⟨b, b1, b2, b3, b4⟩
      · exact Or.inl q
      · exact Or.inr ⟨b, b1, b2, b3, by rw [la_un (by omega)]; exact b4⟩
    · rw [pk_un e, pk_un e, la_un e]
      rcases t4 k k0 (by omega) with q | ⟨b, b1, b2, b3, b4⟩
      · exact Or.inl q
      · exact Or.inr ⟨b, b1, b2, b3, by rw [la_un (by omega)]; exact b4⟩
  · by_cases e : k = d
    · subst e
      exact Or.inl pk_us
    · rw [pk_un e, la_un e]
      exact t5 k (by omega)
theorem la_stepTo {post : Int32 → St1 → Prop} {c v : Nat} (T : la_TR d sn sl si pa pr a12 a13 a14 a15) (hc : c < d) (hd : d < 484) (hv : v < 4000) (H : ∀ d' b pa' pr' b12 b13 b14 b15, d ≤ d' → d' ≤ d + 1 → la_TR d' sn sl si pa' pr' b12 b13 b14 b15 → b < d' → pa' b = pa c ++ [v] → post (nI b) (dc, pc, ln, sh, nI d', isf, ft, fr, a1, a2, a3, a4, a5, a6, a7, a8, a9, a10, a11, b12, b13, b14, b15, a16, a17, a18, a19, a20)) : wpX_stepTo post (dc, pc, ln, sh, nI d, isf, ft, fr, a1, a2, a3, a4, a5, a6, a7, a8, a9, a10, a11, a12, a13, a14, a15, a16, a17, a18, a19, a20) (nI c) (nI v) := by
  obtain ⟨t1, t2, t3, t4, t5⟩ := id T
  have ec : (nI c).toNatClampNeg = c := nI_clamp (by omega)
  have ed : (nI d).toNatClampNeg = d := nI_clamp (by omega)
  have new : wX_stepTo_31 post (nI c) (nI v) (-1) dc pc ln sh (nI d) isf ft fr a1 a2 a3 a4 a5 a6 a7 a8 a9 a10 a11 a12 a13 a14 a15 a16 a17 a18 a19 a20 := by
    refine br_f (by decide) (la_newNode hd ⟨pk_in c 484 (by omega), pk_in d 484 (by omega), nm_r (e' := upd (upd a14 d (-1)) d (a13 c)) ?_ ⟨pk_in c 484 (by omega), nm_r (e' := upd (upd a13 d (-1)) c (nI d)) ?_ ?_⟩⟩)
    · rw [ec, ed, pk_un (by omega)]
    · rw [ec]
    · exact H (d + 1) d _ _ _ _ _ _ (by omega) (by omega) (la_TR_new T hc hv) (by omega) la_us
  have loop : ∀ f x3, ((x3 = -1 ∧ 0 < f) ∨ ∃ b, 0 < b ∧ b < d ∧ x3 = nI b ∧ pr b = pa c ∧ b + 2 ≤ f) → wX_stepTo_7 post (nI c) (nI v) dc pc ln sh (nI d) isf ft fr a1 a2 a3 a4 a5 a6 a7 a8 a9 a10 a11 a12 a13 a14 a15 a16 a17 a18 a19 a20 f x3 := by
    intro f
    induction f with
    | zero => intro x3 h; rcases h with h | ⟨b, _, _, _, _, h⟩ <;> omega
    | succ f ih =>
      intro x3 h
      rcases h with ⟨h, _⟩ | ⟨b, b1, b2, b3, b4, b5⟩
      · subst h
        exact br_t (by decide) new
      · subst b3
        have eb : (nI b).toNatClampNeg = b := nI_clamp (by omega)
        obtain ⟨v', g1, g2, g3⟩ := t2 b b1 b2
        refine br_f (nI_pos (by omega)) ⟨pk_in b 484 (by omega), pk_eq v' v (fun z => ?_) (fun z => ⟨pk_in b 484 (by omega), nm_e (ih _ ?_)⟩) (by rw [eb, g2])⟩
        · refine br_t (nI_pos' (by omega)) (H d b pa pr a12 a13 a14 a15 (Nat.le_refl _) (by omega) T b2 ?_)
          rw [g3, b4, z]
        · rw [eb]
          rcases t4 b b1 b2 with q | ⟨k, k1, k2, k3, k4⟩
          · exact Or.inl ⟨q, by omega⟩
          · exact Or.inr ⟨k, k1, by omega, k3, k4.trans b4, by omega⟩
  refine ⟨pk_in c 484 (by omega), nm_e ⟨d + 2, loop _ _ ?_⟩⟩
  rw [ec]
  rcases t3 c hc with q | ⟨b, b1, b2, b3, b4⟩
  · exact Or.inl ⟨q, by omega⟩
  · exact Or.inr ⟨b, b1, b2, b3, b4, by omega⟩
/-- a shape is made: what is said of the archive goes on -/
theorem la_AR_new {q : Nat} {dr : Nat → Nat} {b8 : Nat → Int32} (A : la_AR n sn so sl len bg tm si it a3 a4 a5 a6 a7 a8 a9) (hsn : sn ≤ n) (hq : q ≤ 4) (hdr : ∀ i, i < q → la_ok (dr i)) (h1 : ∀ k, k < 8 * sn → b8 k = a8 k) (h2 : ∀ i, i < q → b8 (8 * sn + i) = nI (la_bl (dr i))) : la_AR n (sn + 1) so (la_up sl sn q) len bg tm (la_up si sn (fun i => la_bl (dr i))) it a3 a4 a5 a6 (upd a7 sn (nI q)) b8 (vp_updL a9 sn 0) := by
  obtain ⟨hn, _, A1, A2, A3, A4, A5⟩ := A
  refine ⟨hn, by omega, fun s hs => ?_, fun l hl => ?_, A3, fun s hs k hk => ?_, A5⟩
  · by_cases e : s = sn
    · subst e
      rw [la_us, la_us]
      exact ⟨hq, pk_us, fun i hi => ⟨h2 i hi, la_bl_ok (hdr i hi)⟩⟩
    · rw [la_un e, la_un e]
      obtain ⟨g1, g2, g3⟩ := A1 s (by omega)
      exact ⟨g1, by rw [pk_un e]; exact g2, fun i hi => ⟨by rw [h1 _ (by omega)]; exact (g3 i hi).1, (g3 i hi).2⟩⟩
  · obtain ⟨g1, g2, g3, g4⟩ := A2 l hl
    rw [la_un (show so l ≠ sn by omega), la_un (show so l ≠ sn by omega)]
    exact ⟨by omega, g2, g3, g4⟩
  · by_cases e : s = sn
    · subst e
      rw [pk_uLs, la_l0]
      by_cases e2 : k < n
      · have := (A2 k e2).1
        rw [decide_eq_false (show ¬ so k = s by omega), Bool.and_false]
      · rw [decide_eq_false e2, Bool.false_and]
    · rw [pk_uLn e]
      exact A4 s (by omega) k hk
theorem la_shapeOfDraft {post : Int32 → St1 → Prop} {q : Nat} {dr : Nat → Nat} (A : la_AR n sn so sl len bg tm si it a3 a4 a5 a6 a7 a8 a9) (N : la_LN n sn so sl si it a10) (T : la_TR d sn sl si pa pr a12 a13 a14 a15) (hsn : sn ≤ n) (hd0 : 0 < d) (hd : d ≤ 60) (hq : q ≤ 4) (hdr : ∀ i, i < q → la_ok (dr i)) (h1 : ∀ i, i < q → a1 i = nI (dr i)) (H : ∀ d' sn' s sl' si' pa' pr' b7 b8 b9 b10 b12 b13 b14 b15, 0 < d' → d' ≤ d + q → sn' ≤ sn + 1 → s < sn' → sl' s = q → (∀ i, i < q → si' s i = la_bl (dr i)) → la_AR n sn' so sl' len bg tm si' it a3 a4 a5 a6 b7 b8 b9 → la_LN n sn' so sl' si' it b10 → la_TR d' sn' sl' si' pa' pr' b12 b13 b14 b15 → post (nI s) (nI q, pc, ln, nI sn', nI d', isf, ft, fr, a1, a2, a3, a4, a5, a6, b7, b8, b9, b10, a11, b12, b13, b14, b15, a16, a17, a18, a19, a20)) : wpX_shapeOfDraft post (nI q, pc, ln, nI sn, nI d, isf, ft, fr, a1, a2, a3, a4, a5, a6, a7, a8, a9, a10, a11, a12, a13, a14, a15, a16, a17, a18, a19, a20) := by
  have hn := A.1
  have main : ∀ c i d' k pa' pr' b12 b13 b14 b15, i + c = q → 0 < d' → d' ≤ d + i → la_TR d' sn sl si pa' pr' b12 b13 b14 b15 → k < d' → pa' k = la_pre (fun j => la_bl (dr j)) i → wX_shapeOfDraft_4 post (c + 1) (nI k) (nI i) (nI q) pc ln (nI sn) (nI d') isf ft fr a1 a2 a3 a4 a5 a6 a7 a8 a9 a10 a11 b12 b13 b14 b15 a16 a17 a18 a19 a20 := by
    intro c
    induction c with
    | zero =>
      intro i d' k pa' pr' b12 b13 b14 b15 hi hd0' hd' T' hk hpa
      have e : i = q := by omega
      subst e
      have ek : (nI k).toNatClampNeg = k := nI_clamp (by omega)
      refine pk_le i i (fun _ => ⟨pk_in k 484 (by omega), ?_⟩) (fun z => absurd z (by omega))
      rw [ek]
      rcases T'.2.2.2.2 k hk with z | ⟨s, s1, s2, s3⟩
      · refine br_f (by rw [z]; decide) ⟨pk_in k 484 (by omega), nm_r (e' := upd b15 k (nI sn)) rfl ⟨pk_in sn 60 (by omega), nm_r (e' := upd a7 sn (nI i)) (by rw [nI_clamp (by omega)]) ⟨pk_in sn 60 (by omega), nm_r (e' := vp_updL a9 sn 0) (by rw [nI_clamp (by omega)]) ?_⟩⟩⟩
        have L79 : ∀ c j b8 b10, j + c = i → (∀ k, k < 8 * sn → b8 k = a8 k) → (∀ t, t < j → b8 (8 * sn + t) = nI (la_bl (dr t))) → (∀ k, k < 8 * sn → b10 k = a10 k) → (∀ t, t < j → b10 (8 * sn + t) = 0) → wX_shapeOfDraft_79 post (nI k) (nI i) pc ln (nI sn) (nI d') isf ft fr (c + 1) (nI j) a1 a2 a3 a4 a5 a6 (upd a7 sn (nI i)) b8 (vp_updL a9 sn 0) b10 a11 b12 b13 b14 (upd b15 k (nI sn)) a16 a17 a18 a19 a20 := by
          intro c
          induction c with
          | zero =>
            intro j b8 b10 hj g1 g2 g3 g4
            have e : j = i := by omega
            subst e
            refine pk_le j j (fun _ => nm_r (nI_1 sn) ⟨pk_in k 484 (by omega), ?_⟩) (fun z => absurd z (by omega))
            rw [ek, pk_us]
            refine H d' (sn + 1) sn (la_up sl sn j) (la_up si sn (fun t => la_bl (dr t))) pa' pr' _ b8 _ b10 b12 b13 b14 _ hd0' hd' (Nat.le_refl _) (by omega) la_us (fun t ht => by rw [la_us]) (la_AR_new A hsn hq hdr g1 g2) (fun s hs t ht h => ?_) ?_
            · by_cases e : s = sn
              · subst e
                rw [la_us] at ht
                rw [g4 t ht, la_ls_none n (fun l hl => by have := (A.2.2.2.1 l hl).1; omega)]
                rfl
              · rw [la_un e] at ht h
                have := (A.2.2.1 s (by omega)).1
                rw [g3 _ (by omega)]
                exact N s (by omega) t ht h
            · obtain ⟨t1, t2, t3, t4, t5⟩ := T'
              refine ⟨t1, t2, t3, t4, fun c hc => ?_⟩
              by_cases e : c = k
              · subst e
                exact Or.inr ⟨sn, by omega, pk_us, by rw [la_us, la_us]; exact hpa⟩
              · rw [pk_un e]
                rcases t5 c hc with y | ⟨s, s1, s2, s3⟩
                · exact Or.inl y
                · exact Or.inr ⟨s, by omega, s2, by rw [la_un (by omega), la_un (by omega)]; exact s3⟩
          | succ c ih =>
            intro j b8 b10 hj g1 g2 g3 g4
            have hok := hdr j (by omega)
            refine pk_le i j (fun z => absurd z (by omega)) (fun _ => ⟨pk_in j 8 (by omega), la_blanked (dr j) (by rw [nI_clamp (by omega)]; exact h1 j (by omega)) (by unfold la_ok at hok; omega) ⟨pk_in (8 * sn + j) 480 (by omega) (la_ix _ _), nm_r (e' := upd b8 (8 * sn + j) (nI (la_bl (dr j)))) (by rw [la_ixc (by omega)]) ⟨pk_in (8 * sn + j) 480 (by omega) (la_ix _ _), nm_r (e' := upd b10 (8 * sn + j) 0) (by rw [la_ixc (by omega)]) (nm_r (nI_1 j) (ih (j + 1) _ _ (by omega) (fun t ht => ?_) (fun t ht => ?_) (fun t ht => ?_) (fun t ht => ?_)))⟩⟩⟩)
            · rw [pk_un (by omega)]; exact g1 t ht
            · by_cases e : t = j
              · subst e; rw [pk_us]
              · rw [pk_un (by omega)]; exact g2 t (by omega)
            · rw [pk_un (by omega)]; exact g3 t ht
            · by_cases e : t = j
              · subst e; rw [pk_us]
              · rw [pk_un (by omega)]; exact g4 t (by omega)
        exact ⟨_, L79 i 0 a8 a10 (by omega) (fun _ _ => rfl) (fun t ht => absurd ht (by omega)) (fun _ _ => rfl) (fun t ht => absurd ht (by omega))⟩
      · have hpe := la_pre_eq (hpa.symm.trans s3)
        refine br_t (by rw [s2]; exact nI_pos' (by omega)) ⟨pk_in k 484 (by omega), ?_⟩
        rw [s2]
        exact H d' sn s sl si pa' pr' a7 a8 a9 a10 b12 b13 b14 b15 hd0' hd' (by omega) s1 hpe.1.symm (fun t ht => (hpe.2 t ht).symm) A N T'
    | succ c ih =>
      intro i d' k pa' pr' b12 b13 b14 b15 hi hd0' hd' T' hk hpa
      have hok := hdr i (by omega)
      have hbl := la_bl_ok hok
      refine pk_le q i (fun z => absurd z (by omega)) (fun _ => ⟨pk_in i 8 (by omega), la_blanked (dr i) (by rw [nI_clamp (by omega)]; exact h1 i (by omega)) (by unfold la_ok at hok; omega) (la_stepTo T' hk (by omega) (by omega) (fun d'' b pa'' pr'' c12 c13 c14 c15 e1 e2 T'' hb hpb => nm_r (nI_1 i) (ih (i + 1) d'' b pa'' pr'' c12 c13 c14 c15 (by omega) (by omega) (by omega) T'' hb ?_)))⟩)
      rw [hpb, hpa]
      rfl
  exact ⟨_, main q 0 d 0 pa pr a12 a13 a14 a15 (by omega) hd0 (by omega) T hd0 T.1⟩
end
end
section
/-! writing lines -/
theorem la_by_keep {a b : Nat → Int32} {p c e : Nat} (h : la_by a p c) (he : p + (if c < 128 then 1 else 2) ≤ e) (hk : ∀ k, k < e → b k = a k) : la_by b p c := by
  refine ⟨fun z => ?_, fun z => ?_⟩
  · rw [if_pos z] at he
    rw [hk p (by omega)]
    exact h.1 z
  · rw [if_neg (by omega)] at he
    rw [hk p (by omega), hk (p + 1) (by omega)]
    exact h.2 z
theorem la_neg {a b : Nat} (h : a < b) : (-2) * (nI a - nI b) - 1 = nI (2 * (b - a) - 1) := by
  have e : nI b = nI a + nI (b - a) := by rw [nI_add]; congr 1; omega
  have e2 : nI (2 * (b - a) - 1) = 2 * nI (b - a) - 1 := by
    rw [show (2 : Int32) = nI 2 from rfl, pk_mul, show (1 : Int32) = nI 1 from rfl, pk_sub (by omega)]
  rw [e, e2]
  grind
section
variable {dc pc ln sh nd isf : Int32} {ft : Int64} {fr : Int32} {a1 a2 a3 a4 a5 a6 a7 a8 : Nat → Int32} {a9 : Nat → Int64} {a10 : Nat → Int32} {a11 : Nat → Int64} {a12 a13 a14 a15 a16 a17 a18 a19 a20 : Nat → Int32}
variable {n sn d : Nat} {so sl len bg tm : Nat → Nat} {si it : Nat → Nat → Nat} {pa pr : Nat → List Nat}
theorem la_bring16 {post : Int32 → St1 → Prop} {p c : Nat} (hp : p + 2 ≤ 960) (hc : c < 2000) (H : ∀ b6, la_by b6 p c → (∀ k, k < p → b6 k = a6 k) → post (nI (p + if c < 128 then 1 else 2)) (dc, pc, ln, sh, nd, isf, ft, fr, a1, a2, a3, a4, a5, b6, a7, a8, a9, a10, a11, a12, a13, a14, a15, a16, a17, a18, a19, a20)) : wX_bringNumber_16 post (nI p) (nI c) dc pc ln sh nd isf ft fr a1 a2 a3 a4 a5 a6 a7 a8 a9 a10 a11 a12 a13 a14 a15 a16 a17 a18 a19 a20 := by
  have ep : (nI p).toNatClampNeg = p := nI_clamp (by omega)
  refine pk_le 128 c (fun z => ⟨pk_in p 960 (by omega), nm_r (e' := upd a6 p (((nI c &&& 127) ||| 128).toInt8.toInt32)) (by rw [ep]) ⟨pk_in (p + 1) 960 (by omega) (nI_1 p), nm_r (e' := upd (upd a6 p (((nI c &&& 127) ||| 128).toInt8.toInt32)) (p + 1) ((nI c >>> ((7 : Int32) &&& 31)).toInt8.toInt32)) (by rw [nI_1, nI_clamp (by omega)]) ?_⟩⟩) (fun z => ⟨pk_in p 960 (by omega), nm_r (e' := upd a6 p (nI c).toInt8.toInt32) (by rw [ep]) ?_⟩)
  · have t := H (upd (upd a6 p (((nI c &&& 127) ||| 128).toInt8.toInt32)) (p + 1) ((nI c >>> ((7 : Int32) &&& 31)).toInt8.toInt32)) ⟨fun y => absurd y (by omega), fun _ => ⟨by rw [pk_un (by omega), pk_us], pk_us⟩⟩ (fun k hk => by rw [pk_un (by omega), pk_un (by omega)])
    rw [if_neg (by omega), ← nI_add] at t
    exact t
  · have t := H (upd a6 p (nI c).toInt8.toInt32) ⟨fun _ => pk_us, fun y => absurd y (by omega)⟩ (fun k hk => by rw [pk_un (by omega)])
    rw [if_pos z, ← nI_add] at t
    exact t
theorem la_bring {post : Int32 → St1 → Prop} {p a b : Nat} (w : Nat) (hw : w = if la_code a b < 128 then 1 else 2) (hp : p + 2 ≤ 960) (ha : a < 1000) (hb : b < 1000) (H : ∀ b6, la_by b6 p (la_code a b) → (∀ k, k < p → b6 k = a6 k) → post (nI (p + w)) (dc, pc, ln, sh, nd, isf, ft, fr, a1, a2, a3, a4, a5, b6, a7, a8, a9, a10, a11, a12, a13, a14, a15, a16, a17, a18, a19, a20)) : wpX_bringNumber post (dc, pc, ln, sh, nd, isf, ft, fr, a1, a2, a3, a4, a5, a6, a7, a8, a9, a10, a11, a12, a13, a14, a15, a16, a17, a18, a19, a20) (nI p) (nI a - nI b) := by
  subst hw
  rcases Nat.lt_or_ge a b with z | z
  · refine br_f ?_ ?_
    · have := pk_sneg (a := a) (b := b) (by omega) z
      exact Int32.not_le.mpr this
    · rw [la_neg z]
      have e : la_code a b = 2 * (b - a) - 1 := if_neg (by omega)
      rw [e] at H
      exact la_bring16 hp (by omega) H
  · rw [pk_sub z]
    refine br_t (nI_pos' (by omega)) ?_
    rw [show (2 : Int32) = nI 2 from rfl, pk_mul]
    have e : la_code a b = 2 * (a - b) := if_pos z
    rw [e] at H
    exact la_bring16 hp (by omega) H
/-- a line is written: what is said of the archive goes on -/
theorem la_AR_add {s : Nat} {b6 : Nat → Int32} (A : la_AR n sn so sl len bg tm si it a3 a4 a5 a6 a7 a8 a9) (IT : la_IT it len tm) (hn : n < 14) (hs : s < sn) (h1 : sl s = len n) (h2 : ∀ i, i < len n → si s i = la_bl (it n i)) (g1 : ∀ k, k < bg n → b6 k = a6 k) (g2 : ∀ j, j < len n → 1000 ≤ it n j → la_by b6 (la_ps (bg n) (la_ww so it n s) j) (la_code (it n j - 1000) (la_ls so it s j n))) : la_AR (n + 1) sn (la_up so n s) sl len (la_up bg (n + 1) (la_ps (bg n) (la_ww so it n s) (len n))) tm si it (upd a3 n (nI (tm n))) (upd a4 n (nI s)) (upd a5 (n + 1) (nI (la_ps (bg n) (la_ww so it n s) (len n)))) b6 a7 a8 (vp_updL a9 s (a9 s ||| ((1 : Int64) <<< ((nI n).toInt64 &&& 63)))) := by
  obtain ⟨_, hsn, A1, A2, A3, A4, A5⟩ := A
  have hlen := IT.2.1 n
  have hbn := (A3.1 n (Nat.le_refl _)).2
  have hww : ∀ i, la_ps (bg n) (la_ww so it n s) i ≤ bg n + 2 * i := fun i => la_ps_le _ _ (fun j => la_wd_le _ _) i
  have hwn := hww (len n)
  have hls : ∀ s' i l, l ≤ n → la_ls (la_up so n s) it s' i l = la_ls so it s' i l := fun s' i l hl => la_ls_congr (n := n) (fun k hk => la_un (by omega)) l hl
  have bgm : ∀ k, k ≤ n → ∀ l, l ≤ k → bg l ≤ bg k := by
    intro k
    induction k with
    | zero => intro _ l hl; rw [show l = 0 by omega]; exact Nat.le_refl _
    | succ k ih =>
      intro hk l hl
      rcases Nat.eq_or_lt_of_le hl with e | e
      · rw [e]; exact Nat.le_refl _
      · have a := ih (by omega) l (by omega)
        have b := (A3.2 k (by omega)).1
        have c := la_ps_mono (bg k) (la_ww so it k (so k)) (Nat.zero_le (len k))
        have c' : bg k ≤ la_ps (bg k) (la_ww so it k (so k)) (len k) := c
        omega
  refine ⟨by omega, hsn, A1, fun l hl => ?_, ⟨fun l hl => ?_, fun l hl => ?_⟩, fun t ht k hk => ?_, fun l hl => ?_⟩
  · by_cases e : l = n
    · subst e
      rw [la_us, pk_us]
      exact ⟨hs, rfl, h1, h2⟩
    · rw [la_un e, pk_un e]
      exact A2 l (by omega)
  · by_cases e : l = n + 1
    · subst e
      rw [la_us, pk_us]
      exact ⟨rfl, by omega⟩
    · rw [la_un e, pk_un e]
      exact A3.1 l (by omega)
  · by_cases e : l = n
    · subst e
      rw [la_us, la_us, la_un (show l ≠ l + 1 by omega)]
      have ew : la_ww (la_up so l s) it l s = la_ww so it l s := by
        funext i
        unfold la_ww
        rw [hls _ _ _ (Nat.le_refl _)]
      rw [ew]
      refine ⟨rfl, fun i hi hv => ?_⟩
      rw [hls _ _ _ (Nat.le_refl _)]
      exact g2 i hi hv
    · have ew : la_ww (la_up so n s) it l (so l) = la_ww so it l (so l) := by
        funext i
        unfold la_ww
        rw [hls _ _ _ (by omega)]
      rw [la_un (show l + 1 ≠ n + 1 by omega), la_un (show l ≠ n + 1 by omega), la_un e, ew]
      obtain ⟨k1, k2⟩ := A3.2 l (by omega)
      refine ⟨k1, fun i hi hv => ?_⟩
      rw [hls _ _ _ (by omega)]
      refine la_by_keep (k2 i hi hv) ?_ g1
      have c1 := la_ps_mono (bg l) (la_ww so it l (so l)) (show i + 1 ≤ len l by omega)
      have c2 : la_ps (bg l) (la_ww so it l (so l)) (i + 1) = la_ps (bg l) (la_ww so it l (so l)) i + la_ww so it l (so l) i := rfl
      have c3 : la_ww so it l (so l) i = if la_code (it l i - 1000) (la_ls so it (so l) i l) < 128 then 1 else 2 := if_neg (by omega)
      have c4 := bgm n (Nat.le_refl _) (l + 1) (by omega)
      rw [← c3]
      omega
  · by_cases e : t = s
    · subst e
      rw [pk_uLs, la_setL _ _ _ (by omega) hk, A4 t ht k hk]
      by_cases e2 : k = n
      · subst e2
        rw [la_us]
        simp
      · rw [la_un e2, decide_eq_false e2, show decide (k < n + 1) = decide (k < n) by rw [decide_eq_decide]; omega]
        simp
    · rw [pk_uLn e, A4 t ht k hk]
      by_cases e2 : k = n
      · subst e2
        rw [la_us, decide_eq_false (show ¬ s = t from fun z => e z.symm)]
        simp
      · rw [la_un e2, show decide (k < n + 1) = decide (k < n) by rw [decide_eq_decide]; omega]
  · by_cases e : l = n
    · subst e
      rw [pk_us]
    · rw [pk_un e]
      exact A5 l (by omega)
theorem la_write21 {post : Int32 → St1 → Prop} {s : Nat} (A : la_AR n sn so sl len bg tm si it a3 a4 a5 a6 a7 a8 a9) (N : la_LN n sn so sl si it a10) (IT : la_IT it len tm) (hn : n < 14) (hs : s < sn) (h1 : sl s = len n) (h2 : ∀ i, i < len n → si s i = la_bl (it n i)) (hd : ∀ i, i < len n → a1 i = nI (it n i)) (H : ∀ so' bg' b3 b4 b5 b6 b9 b10 b11, la_AR (n + 1) sn so' sl len bg' tm si it b3 b4 b5 b6 a7 a8 b9 → la_LN (n + 1) sn so' sl si it b10 → post (nI n) (nI (len n), pc, nI (n + 1), sh, nd, 0, ft, fr, a1, a2, b3, b4, b5, b6, a7, a8, b9, b10, b11, a12, a13, a14, a15, a16, a17, a18, a19, a20)) : ∃ fu, wX_writeDraft_21 post (nI (tm n)) (nI n) (nI s) fu (nI (bg n)) 0 (nI (len n)) pc (nI n) sh nd isf ft fr a1 a2 a3 a4 a5 a6 a7 a8 a9 a10 a11 a12 a13 a14 a15 a16 a17 a18 a19 a20 := by
  obtain ⟨_, hsn, A1, A2, A3, A4, A5⟩ := id A
  have hlen := IT.2.1 n
  have hbn := (A3.1 n (Nat.le_refl _)).2
  have hww : ∀ i, la_ps (bg n) (la_ww so it n s) i ≤ bg n + 2 * i := fun i => la_ps_le _ _ (fun j => la_wd_le _ _) i
  have en : (nI n).toNatClampNeg = n := nI_clamp (by omega)
  have es : (nI s).toNatClampNeg = s := nI_clamp (by omega)
  have main : ∀ c i b6 b10 b11, i + c = len n → (∀ k, k < bg n → b6 k = a6 k) → (∀ j, j < i → 1000 ≤ it n j → la_by b6 (la_ps (bg n) (la_ww so it n s) j) (la_code (it n j - 1000) (la_ls so it s j n))) → (∀ t, t < sn → ∀ j, j < sl t → si t j = 1000 → b10 (8 * t + j) = if t = s ∧ j < i then nI (it n j - 1000) else nI (la_ls so it t j n)) → wX_writeDraft_21 post (nI (tm n)) (nI n) (nI s) (c + 1) (nI (la_ps (bg n) (la_ww so it n s) i)) (nI i) (nI (len n)) pc (nI n) sh nd isf ft fr a1 a2 a3 a4 a5 b6 a7 a8 a9 b10 b11 a12 a13 a14 a15 a16 a17 a18 a19 a20 := by
    intro c
    induction c with
    | zero =>
      intro i b6 b10 b11 hi g1 g2 g3
      have e : i = len n := by omega
      subst e
      refine pk_le (len n) (len n) (fun _ => ⟨pk_in (n + 1) 61 (by omega) (nI_1 n), nm_r (e' := upd a5 (n + 1) (nI (la_ps (bg n) (la_ww so it n s) (len n)))) (by rw [nI_1, nI_clamp (by omega)]) ⟨pk_in n 60 (by omega), nm_r (e' := upd a3 n (nI (tm n))) (by rw [en]) ⟨pk_in n 60 (by omega), nm_r (e' := upd a4 n (nI s)) (by rw [en]) ⟨pk_in s 60 (by omega), pk_in s 60 (by omega), nm_r (e' := vp_updL a9 s (a9 s ||| ((1 : Int64) <<< ((nI n).toInt64 &&& 63)))) (by rw [es]) (nm_r (nI_1 n) (H _ _ _ _ _ b6 _ b10 b11 (la_AR_add A IT hn hs h1 h2 g1 g2) ?_))⟩⟩⟩⟩) (fun z => absurd z (by omega))
      intro t ht j hj hb
      rw [g3 t ht j hj hb]
      show _ = nI (if la_up so n s n = t then it n j - 1000 else la_ls (la_up so n s) it t j n)
      rw [la_us, la_ls_congr (n := n) (so := so) (fun k hk => la_un (by omega)) n (Nat.le_refl _)]
      by_cases e : t = s
      · subst e
        rw [if_pos ⟨rfl, by omega⟩, if_pos rfl]
      · rw [if_neg (fun z => e z.1), if_neg (fun z => e z.symm)]
    | succ c ih =>
      intro i b6 b10 b11 hi g1 g2 g3
      have hok := IT.1 n i
      have hok' := hok
      unfold la_ok at hok'
      have hwi := hww i
      have ei : (nI i).toNatClampNeg = i := nI_clamp (by omega)
      have hst : ∀ j, j < len n → 8 * s + j < 480 := by intro j hj; omega
      refine pk_le (len n) i (fun z => absurd z (by omega)) (fun _ => ⟨pk_in i 8 (by omega), ?_⟩)
      rw [ei, hd i (by omega)]
      refine la_isNumber (it n i) rfl (by omega) (fun z => br_f (by decide) ?_) (fun z => br_t rfl ⟨pk_in i 8 (by omega), pk_in (it n i) 24 (by omega), pk_in (it n i) 24 (by omega), nm_e (nm_r (nI_1 i) ?_)⟩)
      · have hb := g3 s hs i (by omega) (by rw [h2 i (by omega), la_bl_1 hok]; exact z.1)
        rw [if_neg (by omega)] at hb
        have hlast := la_ls_lt (so := so) IT.1 s i n
        refine nm_r (la_ix s i) ⟨pk_in i 8 (by omega), pk_in (8 * s + i) 480 (by omega), ?_⟩
        rw [nI_clamp (show 8 * s + i < 2 ^ 31 by omega), hb, show nI (it n i) - 1000 = nI (it n i - 1000) from pk_sub (b := 1000) z.1]
        refine la_bring (la_ww so it n s i) (if_neg (by omega)) (by omega) (by omega) hlast (fun c6 k1 k2 => ⟨pk_in i 8 (by omega), pk_in (8 * s + i) 480 (by omega), nm_r (e' := upd b10 (8 * s + i) (nI (it n i - 1000))) ?_ (nm_r (nI_1 i) (ih (i + 1) c6 _ b11 (by omega) (fun k hk => ?_) (fun j hj hv => ?_) (fun t ht j hj hb => ?_)))⟩)
        · rw [hd i (by omega), show nI (it n i) - 1000 = nI (it n i - 1000) from pk_sub (b := 1000) z.1]
        · have c1 := la_ps_mono (bg n) (la_ww so it n s) (Nat.zero_le i)
          have c2 : bg n ≤ la_ps (bg n) (la_ww so it n s) i := c1
          rw [k2 k (by omega)]
          exact g1 k hk
        · by_cases e : j = i
          · subst e
            exact k1
          · refine la_by_keep (g2 j (by omega) hv) ?_ k2
            have c1 := la_ps_mono (bg n) (la_ww so it n s) (show j + 1 ≤ i by omega)
            have c2 : la_ps (bg n) (la_ww so it n s) (j + 1) = la_ps (bg n) (la_ww so it n s) j + la_ww so it n s j := rfl
            have c3 : la_ww so it n s j = if la_code (it n j - 1000) (la_ls so it s j n) < 128 then 1 else 2 := if_neg (by omega)
            rw [← c3]
            omega
        · have h4 := (A1 t ht).1
          by_cases e : t = s ∧ j = i
          · obtain ⟨e1, e2⟩ := e
            subst e1 e2
            rw [pk_us, if_pos ⟨rfl, by omega⟩]
          · rw [pk_un (by omega), g3 t ht j hj hb]
            by_cases e1 : t = s
            · by_cases e2 : j < i
              · rw [if_pos ⟨e1, e2⟩, if_pos ⟨e1, by omega⟩]
              · rw [if_neg (fun y => e2 y.2), if_neg (fun y => by have := y.2; omega)]
            · rw [if_neg (fun y => e1 y.1), if_neg (fun y => e1 y.1)]
      · have e : la_ps (bg n) (la_ww so it n s) (i + 1) = la_ps (bg n) (la_ww so it n s) i := by
          show la_ps (bg n) (la_ww so it n s) i + la_wd (it n i) _ = _
          unfold la_wd
          rw [if_pos (by omega)]
          rfl
        have hji : ∀ j, j < i + 1 → 1000 ≤ it n j → j < i := by
          intro j hj hv
          rcases Nat.eq_or_lt_of_le (show j ≤ i by omega) with y | y
          · subst y; omega
          · exact y
        have t := ih (i + 1) b6 b10 (vp_updL b11 (nI (it n i)).toNatClampNeg ((b11 (nI (it n i)).toNatClampNeg) ||| ((1 : Int64) <<< ((nI n).toInt64 &&& 63)))) (by omega) g1 (fun j hj hv => g2 j (hji j hj hv) hv) (fun t ht j hj hb => by
          rw [g3 t ht j hj hb]
          by_cases e1 : t = s
          · have e2 : j ≠ i := fun y => by
              subst y e1
              rw [h2 j (by omega), la_bl_1 hok] at hb
              omega
            by_cases e3 : j < i
            · rw [if_pos ⟨e1, e3⟩, if_pos ⟨e1, by omega⟩]
            · rw [if_neg (fun y => e3 y.2), if_neg (fun y => by have := y.2; omega)]
          · rw [if_neg (fun y => e1 y.1), if_neg (fun y => e1 y.1)])
        rw [e] at t
        exact t
  refine ⟨_, main (len n) 0 a6 a10 a11 (by omega) (fun _ _ => rfl) (fun j hj => absurd hj (by omega)) (fun t ht j hj hb => ?_)⟩
  rw [if_neg (fun y => by have := y.2; omega)]
  exact N t ht j hj hb
/-- the archive while it is filled -/
theorem la_write {post : Int32 → St1 → Prop} (A : la_AR n sn so sl len bg tm si it a3 a4 a5 a6 a7 a8 a9) (N : la_LN n sn so sl si it a10) (T : la_TR d sn sl si pa pr a12 a13 a14 a15) (IT : la_IT it len tm) (hn : n < 14) (hsn : sn ≤ n) (hd0 : 0 < d) (hd : d ≤ 1 + 4 * n) (hdr : ∀ i, i < len n → a1 i = nI (it n i)) (H : ∀ d' sn' so' sl' bg' si' pa' pr' b3 b4 b5 b6 b7 b8 b9 b10 b11 b12 b13 b14 b15, 0 < d' → d' ≤ 1 + 4 * (n + 1) → sn' ≤ n + 1 → la_AR (n + 1) sn' so' sl' len bg' tm si' it b3 b4 b5 b6 b7 b8 b9 → la_LN (n + 1) sn' so' sl' si' it b10 → la_TR d' sn' sl' si' pa' pr' b12 b13 b14 b15 → post (nI n) (0, pc, nI (n + 1), nI sn', nI d', 0, ft, fr, a1, a2, b3, b4, b5, b6, b7, b8, b9, b10, b11, b12, b13, b14, b15, a16, a17, a18, a19, a20)) : wpX_write post (nI (len n), pc, nI n, nI sn, nI d, isf, ft, fr, a1, a2, a3, a4, a5, a6, a7, a8, a9, a10, a11, a12, a13, a14, a15, a16, a17, a18, a19, a20) (nI (tm n)) := by
  have hlen := IT.2.1 n
  have htm := IT.2.2.2 n hn
  have go : wX_write_35 post (nI (tm n)) (nI (len n)) pc (nI n) (nI sn) (nI d) isf ft fr a1 a2 a3 a4 a5 a6 a7 a8 a9 a10 a11 a12 a13 a14 a15 a16 a17 a18 a19 a20 := by
    refine br_f (nI_ne0 (by omega) (by omega)) (pk_lt n 60 (fun _ => ?_) (fun z => absurd z (by omega)))
    unfold wpX_writeDraft
    refine la_shapeOfDraft A N T hsn hd0 (by omega) (by omega) (fun i hi => IT.1 n i) hdr (fun d' sn' s sl' si' pa' pr' b7 b8 b9 b10 b12 b13 b14 b15 k1 k2 k3 k4 k5 k6 A' N' T' => ⟨pk_in n 61 (by omega), nm_r (e' := nI (bg n)) ?_ ?_⟩)
    · rw [nI_clamp (by omega)]
      exact (A.2.2.2.2.1.1 n (Nat.le_refl _)).1
    · exact la_write21 A' N' IT hn k4 k5 k6 hdr (fun so' bg' b3 b4 b5 b6 c9 c10 c11 A'' N'' => H d' sn' so' sl' bg' si' pa' pr' b3 b4 b5 b6 b7 b8 c9 c10 c11 b12 b13 b14 b15 k1 (by omega) (by omega) A'' N'' T')
  refine br_f (nI_pos (by omega)) (pk_lt 1000 (tm n) (fun z => absurd z (by omega)) (fun _ => pk_le n 0 (fun _ => go) (fun z => ⟨pk_in (n - 1) 60 (by omega) (pk_sub (b := 1) z), ?_⟩)))
  have e : nI n - 1 = nI (n - 1) := pk_sub (b := 1) z
  rw [e, nI_clamp (by omega), A.2.2.2.2.2.2 (n - 1) (by omega)]
  have h1 := IT.2.2.1 (n - 1)
  rw [show n - 1 + 1 = n by omega] at h1
  exact br_t (nI_le h1 (by omega)) go
theorem la_item {post : Int32 → St1 → Prop} {q v : Nat} (hq : q < 8) (hv : la_ok v) (H : post (nI (q + 1)) (nI (q + 1), pc, ln, sh, nd, isf, ft, fr, upd a1 q (nI v), a2, a3, a4, a5, a6, a7, a8, a9, a10, a11, a12, a13, a14, a15, a16, a17, a18, a19, a20)) : wpX_item post (nI q, pc, ln, sh, nd, isf, ft, fr, a1, a2, a3, a4, a5, a6, a7, a8, a9, a10, a11, a12, a13, a14, a15, a16, a17, a18, a19, a20) (nI v) := by
  unfold wpX_item
  exact la_isItem v rfl (by unfold la_ok at hv; omega) (fun _ => br_f (by decide) (pk_lt q 8 (fun _ => ⟨pk_in q 8 hq, nm_r (by rw [nI_clamp (by omega)]) (nm_r (nI_1 q) H)⟩) (fun z => absurd z (by omega)))) (fun z => absurd hv z)
end
end
section
/-! the fill, and the law -/
def la_ci (L : Nat) (xs : Nat → Int32) (l i : Nat) : Nat := la_io (la_cell L xs l >>> ((6 * nI i) &&& 31))
def la_cl (L : Nat) (xs : Nat → Int32) (l : Nat) : Nat := 1 + (la_cell L xs l >>> ((28 : Int32) &&& 31)).toBitVec.toNat % 2 ^ 2
def la_T (L : Nat) (xs : Nat → Int32) : Nat → Nat
  | 0 => 0
  | l + 1 => la_T L xs l + (la_cell L xs l >>> ((25 : Int32) &&& 31)).toBitVec.toNat % 2 ^ 2
def la_tm (L : Nat) (xs : Nat → Int32) (l : Nat) : Nat := la_T L xs (l + 1)
theorem la_T_le (L : Nat) (xs : Nat → Int32) (l : Nat) : la_T L xs l ≤ 3 * l := by
  induction l with
  | zero => exact Nat.le_refl _
  | succ l ih =>
    have := Nat.mod_lt (la_cell L xs l >>> ((25 : Int32) &&& 31)).toBitVec.toNat (show 2 ^ 2 > 0 by decide)
    show la_T L xs l + (la_cell L xs l >>> ((25 : Int32) &&& 31)).toBitVec.toNat % 2 ^ 2 ≤ 3 * (l + 1)
    omega
theorem la_IT0 (L : Nat) (xs : Nat → Int32) : la_IT (la_ci L xs) (la_cl L xs) (la_tm L xs) := by
  refine ⟨fun l i => la_io_ok _, fun l => ?_, fun l => Nat.le_add_right _ _, fun l hl => ?_⟩
  · have := Nat.mod_lt (la_cell L xs l >>> ((28 : Int32) &&& 31)).toBitVec.toNat (show 2 ^ 2 > 0 by decide)
    unfold la_cl
    omega
  · have := la_T_le L xs (l + 1)
    unfold la_tm
    omega
section
variable {dc pc ln sh nd isf : Int32} {ft : Int64} {fr : Int32} {a1 a2 a3 a4 a5 a6 a7 a8 : Nat → Int32} {a9 : Nat → Int64} {a10 : Nat → Int32} {a11 : Nat → Int64} {a12 a13 a14 a15 a16 a17 a18 a19 a20 : Nat → Int32}
variable {L : Nat} {xs : Nat → Int32}
theorem la_fill {post : St1 → Prop} (hL : L ≤ 260) (H : ∀ sn so sl bg si nd isf a1 a3 a4 a5 a6 a7 a8 a9 a10 a11 a12 a13 a14 a15, la_AR 14 sn so sl (la_cl L xs) bg (la_tm L xs) si (la_ci L xs) a3 a4 a5 a6 a7 a8 a9 → post (0, pc, nI 14, nI sn, nd, isf, ft, fr, a1, a2, a3, a4, a5, a6, a7, a8, a9, a10, a11, a12, a13, a14, a15, a16, a17, a18, a19, a20)) : ∀ c i d sn so sl bg si pa pr isf a1 a3 a4 a5 a6 a7 a8 a9 a10 a11 a12 a13 a14 a15, i + c = 14 → 0 < d → d ≤ 1 + 4 * i → sn ≤ i → la_AR i sn so sl (la_cl L xs) bg (la_tm L xs) si (la_ci L xs) a3 a4 a5 a6 a7 a8 a9 → la_LN i sn so sl si (la_ci L xs) a10 → la_TR d sn sl si pa pr a12 a13 a14 a15 → wL_fill_26 post L xs 0 14 (c + 1) (nI (la_T L xs i)) (nI i) 0 pc (nI i) (nI sn) (nI d) isf ft fr a1 a2 a3 a4 a5 a6 a7 a8 a9 a10 a11 a12 a13 a14 a15 a16 a17 a18 a19 a20 := by
  have IT := la_IT0 L xs
  intro c
  induction c with
  | zero =>
    intro i d sn so sl bg si pa pr isf a1 a3 a4 a5 a6 a7 a8 a9 a10 a11 a12 a13 a14 a15 hi _ _ _ A _ _
    have e : i = 14 := by omega
    subst e
    exact pk_le 14 14 (fun _ => H _ _ _ _ _ _ _ _ _ _ _ _ _ _ _ _ _ _ _ _ _ A) (fun z => absurd z (by omega))
  | succ c ih =>
    intro i d sn so sl bg si pa pr isf a1 a3 a4 a5 a6 a7 a8 a9 a10 a11 a12 a13 a14 a15 hi hd0 hd hsn A N T
    have hlen := IT.2.1 i
    have main : ∀ c' j b1, j + c' = la_cl L xs i → (∀ k, k < j → b1 k = nI (la_ci L xs i k)) → wL_fill_56 post L xs (wL_fill_26 post L xs 0 14 (c + 1)) 0 14 (nI (la_T L xs i)) (nI i) (la_cell L xs i) (nI (la_cl L xs i)) (c' + 1) (nI j) (nI j) pc (nI i) (nI sn) (nI d) isf ft fr b1 a2 a3 a4 a5 a6 a7 a8 a9 a10 a11 a12 a13 a14 a15 a16 a17 a18 a19 a20 := by
      intro c'
      induction c' with
      | zero =>
        intro j b1 hj h
        have e : j = la_cl L xs i := by omega
        subst e
        refine pk_le (la_cl L xs i) (la_cl L xs i) (fun _ => nm_r (e' := nI (la_tm L xs i)) ?_ (la_write A N T IT (by omega) hsn hd0 hd h (fun d' sn' so' sl' bg' si' pa' pr' b3 b4 b5 b6 b7 b8 b9 b10 b11 b12 b13 b14 b15 k1 k2 k3 A' N' T' => nm_r (nI_1 i) (ih (i + 1) d' sn' so' sl' bg' si' pa' pr' 0 b1 b3 b4 b5 b6 b7 b8 b9 b10 b11 b12 b13 b14 b15 (by omega) k1 k2 k3 A' N' T')))) (fun z => absurd z (by omega))
        rw [pk_and _ 2 rfl, nI_add]
        rfl
      | succ c' ih' =>
        intro j b1 hj h
        refine pk_le (la_cl L xs i) j (fun z => absurd z (by omega)) (fun _ => la_itemOf (la_item (by omega) (la_io_ok _) (nm_r (nI_1 j) (ih' (j + 1) _ (by omega) (fun k hk => ?_)))))
        by_cases e : k = j
        · subst e
          rw [pk_us]
          rfl
        · rw [pk_un e]
          exact h k (by omega)
    refine pk_le 14 i (fun z => absurd z (by omega)) (fun _ => la_cellW i (by rw [show (0 : Int32) = nI 0 from rfl, nI_add, Nat.zero_add]) hL (by omega) (nm_r (e' := nI (la_cl L xs i)) ?_ ⟨_, main (la_cl L xs i) 0 a1 (by omega) (fun k hk => absurd hk (by omega))⟩))
    rw [pk_and _ 2 rfl]
    exact nI_add 1 _
end
theorem la_init {post : St1 → Prop} (H : ∀ b11, post (0, 0, 0, 0, nI 1, 0, 0, 0, (fun _ => 0), (fun _ => 0), (fun _ => 0), (fun _ => 0), upd (fun _ => 0) 0 0, (fun _ => 0), (fun _ => 0), (fun _ => 0), (fun _ => 0), (fun _ => 0), b11, upd (fun _ => 0) 0 (-1), upd (fun _ => 0) 0 (-1), upd (fun _ => 0) 0 (-1), upd (fun _ => 0) 0 (-1), (fun _ => 0), (fun _ => 0), (fun _ => 0), (fun _ => 0), (fun _ => 0))) : wpX_init post 20 4813 (0, 0, 0, 0, 0, 0, 0, 0) := by
  unfold wpX_init
  refine ⟨by decide, by decide, by decide, by decide, by decide, by decide, by decide, by decide, by decide, by decide, by decide, by decide, by decide, by decide, by decide, by decide, by decide, by decide, by decide, by decide, by decide, by decide, by decide, by decide, by decide, by decide, by decide, by decide, by decide, by decide, by decide, by decide, by decide, by decide, by decide, by decide, by decide, by decide, by decide, by decide, ?_⟩
  unfold wpX_empty
  refine nm_e (la_newNode (d := 0) (by omega) ?_)
  exact pk_loop (fun n i b => wX_empty_30 _ 0 0 0 0 (nI 1) 0 0 0 n (nI i) (fun _ => 0) (fun _ => 0) (fun _ => 0) (fun _ => 0) (upd (fun _ => 0) 0 0) (fun _ => 0) (fun _ => 0) (fun _ => 0) (fun _ => 0) (fun _ => 0) b (upd (fun _ => 0) 0 (-1)) (upd (fun _ => 0) 0 (-1)) (upd (fun _ => 0) 0 (-1)) (upd (fun _ => 0) 0 (-1)) (fun _ => 0) (fun _ => 0) (fun _ => 0) (fun _ => 0) (fun _ => 0)) (fun _ _ => True) 24 0 (fun _ => 0) (by omega) trivial (fun n b _ => pk_le 24 24 (fun _ => H b) (fun z => absurd z (by omega))) (fun n i b hi _ hw => pk_le 24 i (fun z => absurd z (by omega)) (fun _ => ⟨pk_in i 24 hi, nm_e (nm_r (nI_1 i) (hw _ trivial))⟩))
theorem la_AR0 {tm len : Nat → Nat} {it : Nat → Nat → Nat} {a3 a4 a6 a7 a8 : Nat → Int32} {a9 : Nat → Int64} : la_AR 0 0 (fun _ => 0) (fun _ => 0) len (fun _ => 0) tm (fun _ _ => 0) it a3 a4 (upd (fun _ => 0) 0 0) a6 a7 a8 a9 := by
  refine ⟨by omega, by omega, fun s hs => absurd hs (by omega), fun l hl => absurd hl (by omega), ⟨fun l hl => ?_, fun l hl => absurd hl (by omega)⟩, fun s hs => absurd hs (by omega), fun l hl => absurd hl (by omega)⟩
  rw [show l = 0 by omega]
  exact ⟨rfl, Nat.le_refl _⟩
theorem la_TR0 : la_TR 1 0 (fun _ => 0) (fun _ _ => 0) (fun _ => []) (fun _ => []) (upd (fun _ => 0) 0 (-1)) (upd (fun _ => 0) 0 (-1)) (upd (fun _ => 0) 0 (-1)) (upd (fun _ => 0) 0 (-1)) := by
  refine ⟨rfl, fun c h1 h2 => absurd h2 (by omega), fun c h => ?_, fun c h1 h2 => absurd h2 (by omega), fun c h => ?_⟩
  · rw [show c = 0 by omega]
    exact Or.inl rfl
  · rw [show c = 0 by omega]
    exact Or.inl rfl
theorem i_vc (xs : Nat → Int32) (L : Nat) (hL : L ≤ 260) : wpL_law (fun r => r = 1) L xs := by
  unfold wpL_law
  refine ⟨20, 4813, by decide, by decide, la_init (fun b11 => ?_)⟩
  unfold wpL_fill
  refine br_t rfl ⟨15, la_fill hL (fun sn so sl bg si nd isf a1 a3 a4 a5 a6 a7 a8 a9 a10 a11 a12 a13 a14 a15 A => ?_) 14 0 1 0 _ _ _ _ _ _ 0 _ _ _ _ _ _ _ _ _ b11 _ _ _ _ (by omega) (by omega) (by omega) (by omega) la_AR0 (fun s hs => absurd hs (by omega)) la_TR0⟩
  exact ⟨5, la_23 (post := fun r => r = 1) A (la_IT0 L xs) hL rfl 4 0 0 isf _ _ _ _ _ (by omega) (fun z => absurd z (by omega))⟩
end
