section
/-! 01: Int32 masks and Int64 sets by their bits; a drawer principle -/
def mv_b (x : Int32) (i : Nat) : Bool := x.toBitVec.getLsbD i
def mv_B (x : Int64) (i : Nat) : Bool := x.toBitVec.getLsbD i
theorem mv_b_ext {x y : Int32} (h : ∀ i, i < 32 → mv_b x i = mv_b y i) : x = y := Int32.toBitVec_inj.mp (BitVec.eq_of_getLsbD_eq (fun i hi => h i hi))
theorem mv_b_or (x y : Int32) (i : Nat) : mv_b (x ||| y) i = (mv_b x i || mv_b y i) := by unfold mv_b; rw [Int32.toBitVec_or, BitVec.getLsbD_or]
theorem mv_b_and (x y : Int32) (i : Nat) : mv_b (x &&& y) i = (mv_b x i && mv_b y i) := by unfold mv_b; rw [Int32.toBitVec_and, BitVec.getLsbD_and]
theorem mv_b_0 (i : Nat) : mv_b 0 i = false := BitVec.getLsbD_zero
theorem mv_b_big {x : Int32} {i : Nat} (h : 32 ≤ i) : mv_b x i = false := BitVec.getLsbD_of_ge _ _ h
theorem mv_b_lt {x : Int32} {i : Nat} (h : mv_b x i = true) : i < 32 := by
  rcases Nat.lt_or_ge i 32 with z | z
  · exact z
  · rw [mv_b_big z] at h; exact absurd h (by decide)
theorem mv_s_l : ∀ n, n < 32 → ((nI n &&& 31).toBitVec.smod 32).toNat = n := by decide +kernel
theorem mv_b_shl {n : Nat} (hn : n < 32) (x : Int32) {i : Nat} (hi : i < 32) : mv_b (x <<< (nI n &&& 31)) i = (decide (n ≤ i) && mv_b x (i - n)) := by
  unfold mv_b
  rw [Int32.toBitVec_shiftLeft]
  show (x.toBitVec <<< ((nI n &&& 31).toBitVec.smod 32).toNat).getLsbD i = _
  rw [mv_s_l n hn, BitVec.getLsbD_shiftLeft]
  rcases Nat.lt_or_ge i n with h | h
  · simp [h, Nat.not_le.mpr h]
  · simp [hi, h, Nat.not_lt.mpr h]
theorem mv_b_sshr {n : Nat} (hn : n < 32) (x : Int32) {i : Nat} (hi : i < 32) : mv_b (x >>> (nI n &&& 31)) i = if n + i < 32 then mv_b x (n + i) else mv_b x 31 := by
  unfold mv_b
  rw [Int32.toBitVec_shiftRight]
  show (x.toBitVec.sshiftRight ((nI n &&& 31).toBitVec.smod 32).toNat).getLsbD i = _
  rw [mv_s_l n hn, BitVec.getLsbD_sshiftRight, BitVec.msb_eq_getLsbD_last]
  simp [hi]
theorem mv_b_1 : ∀ i, i < 32 → mv_b 1 i = decide (i = 0) := by decide +kernel
theorem mv_b_a1 (x : Int32) : x &&& 1 = if mv_b x 0 = true then 1 else 0 := by
  apply mv_b_ext
  intro i hi
  rw [mv_b_and, mv_b_1 i hi]
  by_cases e : i = 0
  · subst e
    cases h : mv_b x 0
    · rw [if_neg (by decide)]; simp [mv_b_0]
    · rw [if_pos rfl]; rw [mv_b_1 0 hi]; simp
  · rw [decide_eq_false e, Bool.and_false]
    cases h : mv_b x 0
    · rw [if_neg (by decide), mv_b_0]
    · rw [if_pos rfl, mv_b_1 i hi, decide_eq_false e]
theorem mv_b_bit (x : Int32) {r : Nat} (hr : r < 32) : (x >>> (nI r &&& 31)) &&& 1 = if mv_b x r = true then 1 else 0 := by
  rw [mv_b_a1, mv_b_sshr hr x (by omega), if_pos (by omega : r + 0 < 32), Nat.add_zero]
theorem mv_b_t (x : Int32) {r : Nat} (hr : r < 32) : (x >>> (nI r &&& 31)) &&& 1 = 1 ↔ mv_b x r = true := by
  rw [mv_b_bit x hr]
  cases mv_b x r
  · simp
  · simp
theorem mv_b_sl {s i : Nat} (hs : s < 32) (hi : i < 32) : mv_b ((1 : Int32) <<< (nI s &&& 31)) i = decide (i = s) := by
  rw [mv_b_shl hs 1 hi]
  rcases Nat.lt_or_ge i s with z | z
  · rw [decide_eq_false (by omega), decide_eq_false (by omega), Bool.false_and]
  · rw [decide_eq_true z, mv_b_1 _ (by omega), Bool.true_and]
    by_cases e : i = s
    · rw [decide_eq_true e, decide_eq_true (by omega)]
    · rw [decide_eq_false e, decide_eq_false (by omega)]
/-- a mask with one more bit -/
theorem mv_b_put (x : Int32) {s : Nat} (hs : s < 32) (i : Nat) : mv_b (x ||| ((1 : Int32) <<< (nI s &&& 31))) i = true ↔ (mv_b x i = true ∨ i = s) := by
  rw [mv_b_or]
  rcases Nat.lt_or_ge i 32 with z | z
  · rw [mv_b_sl hs z]; simp
  · rw [mv_b_big z, mv_b_big z]
    constructor
    · intro h; exact absurd h (by decide)
    · intro h; rcases h with h | h
      · exact absurd h (by decide)
      · omega
/-! ===== Int64 ===== -/
theorem mv_B_or (x y : Int64) (i : Nat) : mv_B (x ||| y) i = (mv_B x i || mv_B y i) := by unfold mv_B; rw [Int64.toBitVec_or, BitVec.getLsbD_or]
theorem mv_B_and (x y : Int64) (i : Nat) : mv_B (x &&& y) i = (mv_B x i && mv_B y i) := by unfold mv_B; rw [Int64.toBitVec_and, BitVec.getLsbD_and]
theorem mv_B_0 (i : Nat) : mv_B 0 i = false := BitVec.getLsbD_zero
theorem mv_B_big {x : Int64} {i : Nat} (h : 64 ≤ i) : mv_B x i = false := BitVec.getLsbD_of_ge _ _ h
theorem mv_B_lt {x : Int64} {i : Nat} (h : mv_B x i = true) : i < 64 := by
  rcases Nat.lt_or_ge i 64 with z | z
  · exact z
  · rw [mv_B_big z] at h; exact absurd h (by decide)
theorem mv_B_not (x y : Int64) {i : Nat} : mv_B (x &&& (y ^^^ (-1))) i = (mv_B x i && !mv_B y i) := by
  rcases Nat.lt_or_ge i 64 with hi | hi
  · have ha : (-1 : Int64).toBitVec = BitVec.allOnes 64 := by decide
    rw [mv_B_and]
    congr 1
    unfold mv_B
    rw [Int64.toBitVec_xor, ha, BitVec.getLsbD_xor, BitVec.getLsbD_allOnes, decide_eq_true hi, Bool.xor_true]
  · rw [mv_B_big hi, mv_B_big hi, Bool.false_and]
theorem mv_B_sl0 : ∀ n, n < 64 → ((1 : Int64) <<< ((nI n).toInt64 &&& 63)).toBitVec = BitVec.twoPow 64 n := by decide +kernel
theorem mv_B_sl {n : Nat} (hn : n < 64) (i : Nat) : mv_B ((1 : Int64) <<< ((nI n).toInt64 &&& 63)) i = true ↔ i = n := by
  unfold mv_B
  rw [mv_B_sl0 n hn, BitVec.getLsbD_twoPow]
  simp
  omega
theorem mv_B_cu : ∀ k, k < 64 → ((nI k).toInt64.toUInt64 &&& Int64.toUInt64 63).toNat = k := by decide +kernel
theorem mv_B_a1 (x : Int64) : x &&& 1 = if mv_B x 0 = true then 1 else 0 := by
  apply Int64.toBitVec_inj.mp
  apply BitVec.eq_of_getLsbD_eq
  intro i hi
  have h1 : ∀ i, i < 64 → (1 : Int64).toBitVec.getLsbD i = decide (i = 0) := by decide +kernel
  rw [Int64.toBitVec_and, BitVec.getLsbD_and, h1 i hi]
  unfold mv_B
  by_cases e : i = 0
  · subst e
    cases h : x.toBitVec.getLsbD 0
    · rw [if_neg (by decide)]; rfl
    · rw [if_pos rfl, h1 0 hi]; rfl
  · rw [decide_eq_false e, Bool.and_false]
    cases h : x.toBitVec.getLsbD 0
    · rw [if_neg (by decide)]; exact BitVec.getLsbD_zero.symm
    · rw [if_pos rfl, h1 i hi, decide_eq_false e]
theorem mv_B_ush (w : Int64) {j : Nat} (hj : j < 64) : mv_B ((w.toUInt64 >>> ((nI j).toInt64.toUInt64 &&& Int64.toUInt64 63)).toInt64) 0 = mv_B w j := by
  have e : (w.toUInt64 >>> ((nI j).toInt64.toUInt64 &&& Int64.toUInt64 63)).toInt64.toBitVec = w.toBitVec >>> j := by
    apply BitVec.eq_of_toNat_eq
    show (w.toUInt64 >>> ((nI j).toInt64.toUInt64 &&& Int64.toUInt64 63)).toNat = _
    rw [UInt64.toNat_shiftRight, mv_B_cu j hj, Nat.mod_eq_of_lt hj, BitVec.toNat_ushiftRight]
    rfl
  unfold mv_B
  rw [e, BitVec.getLsbD_ushiftRight, Nat.add_zero]
theorem mv_B_t (w : Int64) {j : Nat} (hj : j < 64) : ((w.toUInt64 >>> ((nI j).toInt64.toUInt64 &&& Int64.toUInt64 63)).toInt64) &&& 1 = 1 ↔ mv_B w j = true := by
  rw [mv_B_a1, mv_B_ush w hj]
  cases mv_B w j
  · simp
  · simp
theorem mv_B_f (w : Int64) {j : Nat} (hj : j < 64) : ((w.toUInt64 >>> ((nI j).toInt64.toUInt64 &&& Int64.toUInt64 63)).toInt64) &&& 1 = 0 ↔ ¬ mv_B w j = true := by
  rw [mv_B_a1, mv_B_ush w hj]
  cases mv_B w j
  · simp
  · simp
/-! ===== drawers ===== -/
theorem mv_pigeon : ∀ (m n : Nat) (f : Nat → Nat), m < n → (∀ i, i < n → f i < m) → ∃ i j, i < j ∧ j < n ∧ f i = f j := by
  intro m
  induction m with
  | zero => intro n f h hf; exact absurd (hf 0 h) (by omega)
  | succ m ih =>
    intro n f h hf
    by_cases c : ∃ i, i < n - 1 ∧ f i = f (n - 1)
    · obtain ⟨i, hi, e⟩ := c
      exact ⟨i, n - 1, hi, by omega, e⟩
    · have hl := hf (n - 1) (by omega)
      obtain ⟨i, j, hij, hj, e⟩ := ih (n - 1) (fun i => if f i = m then f (n - 1) else f i) (by omega) (by
        intro i hi
        have h1 := hf i (by omega)
        have h2 : f i ≠ f (n - 1) := fun z => c ⟨i, hi, z⟩
        show (if f i = m then f (n - 1) else f i) < m
        by_cases z : f i = m
        · rw [if_pos z]; omega
        · rw [if_neg z]; omega)
      have hi' : f i ≠ f (n - 1) := fun z => c ⟨i, by omega, z⟩
      have hj' : f j ≠ f (n - 1) := fun z => c ⟨j, by omega, z⟩
      refine ⟨i, j, hij, by omega, ?_⟩
      have e' : (if f i = m then f (n - 1) else f i) = (if f j = m then f (n - 1) else f j) := e
      by_cases zi : f i = m
      · by_cases zj : f j = m
        · rw [zi, zj]
        · rw [if_pos zi, if_neg zj] at e'; exact absurd e'.symm hj'
      · by_cases zj : f j = m
        · rw [if_neg zi, if_pos zj] at e'; exact absurd e' hi'
        · rw [if_neg zi, if_neg zj] at e'; exact e'
end
section
/-! 02: the picture of the versions, the invariant, and what a change of numbers (tidy, flush) keeps -/
def mv_up {α : Type} (f : Nat → α) (k : Nat) (x : α) : Nat → α := fun j => if j = k then x else f j
theorem mv_us {α : Type} {f : Nat → α} {k : Nat} {x : α} : mv_up f k x k = x := if_pos rfl
theorem mv_un {α : Type} {f : Nat → α} {k j : Nat} {x : α} (h : j ≠ k) : mv_up f k x j = f j := if_neg h
/-- a number's standing in a set: 0 is in every set as a maker, in none as an ender -/
def mv_in (S : Nat → Prop) (n : Nat) : Prop := n = 0 ∨ S n
def mv_en (S : Nat → Prop) (n : Nat) : Prop := n ≠ 0 ∧ S n
def mv_se (S : Nat → Prop) (m e : Nat) : Prop := mv_in S m ∧ ¬ mv_en S e
/-- the numbers that transaction t sees with its first k levels -/
def mv_vs (sn : Nat → Nat → Prop) (nm : Nat → Nat) (t k : Nat) (n : Nat) : Prop := sn t n ∨ ∃ j, j < k ∧ nm (4 * t + j) = n
def mv_S (C : Nat → Prop) (sn : Nat → Nat → Prop) (nm : Nat → Nat) (q : Option (Nat × Nat)) : Nat → Prop := match q with
  | none => C
  | some (t, k) => mv_vs sn nm t k
def mv_L (io : Nat → Bool) (lv : Nat → Nat) (q : Option (Nat × Nat)) : Prop := match q with
  | none => True
  | some (t, k) => t < 4 ∧ io t = true ∧ k ≤ lv t + 1
def mv_A (io : Nat → Bool) (lv : Nat → Nat) (t k : Nat) : Prop := t < 4 ∧ io t = true ∧ k ≤ lv t
def mv_N (C R : Nat → Prop) (sn : Nat → Nat → Prop) (nm : Nat → Nat) (io : Nat → Bool) (lv : Nat → Nat) : Prop :=
  (∀ t, t < 4 → lv t ≤ 3) ∧
  (∀ n, R n ↔ ∃ t k, mv_A io lv t k ∧ nm (4 * t + k) = n) ∧
  (∀ t k, mv_A io lv t k → 1 ≤ nm (4 * t + k) ∧ nm (4 * t + k) < 63 ∧ ¬ C (nm (4 * t + k))) ∧
  (∀ t k t' k', mv_A io lv t k → mv_A io lv t' k' → nm (4 * t + k) = nm (4 * t' + k') → t = t' ∧ k = k') ∧
  (∀ t n, t < 4 → io t = true → sn t n → C n)
def mv_V (us : Nat → Bool) (ro mk en : Nat → Nat) (C : Nat → Prop) (sn : Nat → Nat → Prop) (nm : Nat → Nat) (io : Nat → Bool) (lv : Nat → Nat) (tc : Nat → Int32) : Prop :=
  ∀ v, v < 96 → us v = true →
    (mv_en C (en v) → mv_in C (mk v)) ∧
    (∀ t, t < 4 → io t = true → mv_en (sn t) (en v) → mv_in (sn t) (mk v)) ∧
    (∀ t k, mv_A io lv t k → en v = nm (4 * t + k) → mv_in (mv_vs sn nm t (k + 1)) (mk v) ∧ mv_b (tc (4 * t + k)) (ro v) = true) ∧
    (∀ t k, mv_A io lv t k → mk v = nm (4 * t + k) → mv_b (tc (4 * t + k)) (ro v) = true)
def mv_U (us : Nat → Bool) (ro mk en : Nat → Nat) (C : Nat → Prop) (sn : Nat → Nat → Prop) (nm : Nat → Nat) (io : Nat → Bool) (lv : Nat → Nat) : Prop :=
  ∀ q, mv_L io lv q → ∀ v w, v < 96 → w < 96 → us v = true → us w = true → ro v = ro w → mv_se (mv_S C sn nm q) (mk v) (en v) → mv_se (mv_S C sn nm q) (mk w) (en w) → v = w
def mv_O (us : Nat → Bool) (ro mk en : Nat → Nat) (C : Nat → Prop) (sn : Nat → Nat → Prop) (io : Nat → Bool) (ov : Nat → Int32) : Prop :=
  ∀ t, t < 4 → io t = true → ∀ v, v < 96 → us v = true → ¬ mv_b (ov t) (ro v) = true → (mv_se C (mk v) (en v) ↔ mv_se (sn t) (mk v) (en v))
def mv_D (io : Nat → Bool) (lv : Nat → Nat) (tc ov : Nat → Int32) : Prop :=
  (∀ t k u j i, mv_A io lv t k → mv_A io lv u j → t ≠ u → mv_b (tc (4 * t + k)) i = true → ¬ mv_b (tc (4 * u + j)) i = true) ∧
  (∀ t k i, mv_A io lv t k → mv_b (tc (4 * t + k)) i = true → ¬ mv_b (ov t) i = true)
/-- what is seen with the set S is o -/
def mv_W (us : Nat → Bool) (ro : Nat → Nat) (vl : Nat → Int32) (mk en : Nat → Nat) (S : Nat → Prop) (o : Nat → Option Int32) : Prop :=
  ∀ r, r < 8 → (∀ x, o r = some x → ∃ v, v < 96 ∧ us v = true ∧ ro v = r ∧ mv_se S (mk v) (en v) ∧ vl v = x) ∧ (o r = none → ∀ v, v < 96 → us v = true → ro v = r → ¬ mv_se S (mk v) (en v))
def mv_I (us : Nat → Bool) (ro : Nat → Nat) (vl : Nat → Int32) (mk en : Nat → Nat) (C R : Nat → Prop) (sn : Nat → Nat → Prop) (nm : Nat → Nat) (io : Nat → Bool) (lv : Nat → Nat) (tc ov : Nat → Int32) (cm : Nat → Option Int32) (vw : Nat → Nat → Nat → Option Int32) : Prop :=
  mv_N C R sn nm io lv ∧ mv_V us ro mk en C sn nm io lv tc ∧ mv_U us ro mk en C sn nm io lv ∧ mv_O us ro mk en C sn io ov ∧ mv_D io lv tc ov ∧
  mv_W us ro vl mk en C cm ∧ (∀ t k, mv_A io lv t k → mv_W us ro vl mk en (mv_vs sn nm t (k + 1)) (vw t k))

theorem mv_vs0 (sn : Nat → Nat → Prop) (nm : Nat → Nat) (t : Nat) : mv_vs sn nm t 0 = sn t := by
  funext n
  apply propext
  constructor
  · intro h
    rcases h with h | ⟨j, hj, _⟩
    · exact h
    · omega
  · intro h; exact Or.inl h
theorem mv_se_c {S S' : Nat → Prop} {m m' e e' : Nat} (h1 : mv_in S' m' ↔ mv_in S m) (h2 : mv_en S' e' ↔ mv_en S e) : mv_se S' m' e' ↔ mv_se S m e := by
  unfold mv_se
  rw [h1, h2]
/-- views are carried over: the same versions seen, with the same rows and values -/
theorem mv_W_c {us us' : Nat → Bool} {ro : Nat → Nat} {vl : Nat → Int32} {mk mk' en en' : Nat → Nat} {S S' : Nat → Prop} {o : Nat → Option Int32}
    (h : mv_W us ro vl mk en S o) (hc : ∀ v, v < 96 → ((us' v = true ∧ mv_se S' (mk' v) (en' v)) ↔ (us v = true ∧ mv_se S (mk v) (en v)))) : mv_W us' ro vl mk' en' S' o := by
  intro r hr
  refine ⟨fun x hx => ?_, fun hn v hv hu hro hse => ?_⟩
  · obtain ⟨v, hv, hu, hro, hse, hvl⟩ := (h r hr).1 x hx
    obtain ⟨a, b⟩ := (hc v hv).mpr ⟨hu, hse⟩
    exact ⟨v, hv, a, hro, b, hvl⟩
  · obtain ⟨a, b⟩ := (hc v hv).mp ⟨hu, hse⟩
    exact (h r hr).2 hn v hv a hro b
theorem mv_A_L {io : Nat → Bool} {lv : Nat → Nat} {t k : Nat} (h : mv_A io lv t k) : mv_L io lv (some (t, k + 1)) := ⟨h.1, h.2.1, Nat.succ_le_succ h.2.2⟩
theorem mv_o_L {io : Nat → Bool} {lv : Nat → Nat} {t : Nat} (h : t < 4) (h' : io t = true) : mv_L io lv (some (t, 0)) := ⟨h, h', Nat.zero_le _⟩
/-- a running number lies in the views of its own transaction from its level on, and nowhere else -/
theorem mv_Sn {C R : Nat → Prop} {sn : Nat → Nat → Prop} {nm : Nat → Nat} {io : Nat → Bool} {lv : Nat → Nat} (h : mv_N C R sn nm io lv) {t k : Nat} (ha : mv_A io lv t k) {q : Option (Nat × Nat)} (hq : mv_L io lv q) :
    mv_S C sn nm q (nm (4 * t + k)) ↔ ∃ k', q = some (t, k') ∧ k < k' := by
  obtain ⟨h1, h2, h3, h4, h5⟩ := h
  have hn := h3 t k ha
  match q, hq with
  | none, _ =>
    constructor
    · intro z; exact absurd z hn.2.2
    · intro ⟨k', e, _⟩; exact absurd e (by simp)
  | some (u, j), hl =>
    obtain ⟨l1, l2, l3⟩ := hl
    constructor
    · intro z
      rcases z with z | ⟨i, hi, e⟩
      · exact absurd (h5 u _ l1 l2 z) hn.2.2
      · obtain ⟨e1, e2⟩ := h4 u i t k ⟨l1, l2, by omega⟩ ha e
        subst e1; subst e2
        exact ⟨j, rfl, hi⟩
    · intro ⟨k', e, hk⟩
      have e' : (u, j) = (t, k') := by simpa using e
      have e1 : u = t := congrArg Prod.fst e'
      have e2 : j = k' := congrArg Prod.snd e'
      subst e1; subst e2
      exact Or.inr ⟨k, hk, rfl⟩
/-- a number that neither is committed nor runs is in no view -/
theorem mv_Sx {C R : Nat → Prop} {sn : Nat → Nat → Prop} {nm : Nat → Nat} {io : Nat → Bool} {lv : Nat → Nat} (h : mv_N C R sn nm io lv) {n : Nat} (hc : ¬ C n) (hr : ¬ R n) {q : Option (Nat × Nat)} (hq : mv_L io lv q) : ¬ mv_S C sn nm q n := by
  obtain ⟨h1, h2, h3, h4, h5⟩ := h
  match q, hq with
  | none, _ => exact hc
  | some (u, j), hl =>
    obtain ⟨l1, l2, l3⟩ := hl
    intro z
    rcases z with z | ⟨i, hi, e⟩
    · exact hc (h5 u _ l1 l2 z)
    · exact hr ((h2 n).mpr ⟨u, i, ⟨l1, l2, by omega⟩, e⟩)
theorem mv_tr {us us' : Nat → Bool} {ro : Nat → Nat} {vl : Nat → Int32} {mk en mk' en' : Nat → Nat} {C C' R : Nat → Prop} {sn sn' : Nat → Nat → Prop} {nm : Nat → Nat} {io : Nat → Bool} {lv : Nat → Nat} {tc ov : Nat → Int32} {cm : Nat → Option Int32} {vw : Nat → Nat → Nat → Option Int32}
    (h : mv_I us ro vl mk en C R sn nm io lv tc ov cm vw)
    (t1 : ∀ v, v < 96 → us' v = true → us v = true)
    (t2 : ∀ v, v < 96 → us v = true → ¬ us' v = true → ∀ q, mv_L io lv q → ¬ mv_se (mv_S C sn nm q) (mk v) (en v))
    (t3 : ∀ v, v < 96 → us' v = true → ∀ q, mv_L io lv q → (mv_in (mv_S C' sn' nm q) (mk' v) ↔ mv_in (mv_S C sn nm q) (mk v)))
    (t4 : ∀ v, v < 96 → us' v = true → ∀ q, mv_L io lv q → (mv_en (mv_S C' sn' nm q) (en' v) ↔ mv_en (mv_S C sn nm q) (en v)))
    (t5 : ∀ v, v < 96 → us' v = true → ∀ t k, mv_A io lv t k → (mk' v = nm (4 * t + k) → mk v = nm (4 * t + k)) ∧ (en' v = nm (4 * t + k) → en v = nm (4 * t + k)))
    (t6 : ∀ n, C' n → C n) (t7 : ∀ t n, t < 4 → io t = true → sn' t n → C' n) :
    mv_I us' ro vl mk' en' C' R sn' nm io lv tc ov cm vw := by
  obtain ⟨hN, hV, hU, hO, hD, hC, hW⟩ := h
  have hse : ∀ v, v < 96 → us' v = true → ∀ q, mv_L io lv q → (mv_se (mv_S C' sn' nm q) (mk' v) (en' v) ↔ mv_se (mv_S C sn nm q) (mk v) (en v)) :=
    fun v hv hu q hq => mv_se_c (t3 v hv hu q hq) (t4 v hv hu q hq)
  have hsee : ∀ q, mv_L io lv q → ∀ v, v < 96 → ((us' v = true ∧ mv_se (mv_S C' sn' nm q) (mk' v) (en' v)) ↔ (us v = true ∧ mv_se (mv_S C sn nm q) (mk v) (en v))) := by
    intro q hq v hv
    constructor
    · intro ⟨a, b⟩
      exact ⟨t1 v hv a, (hse v hv a q hq).mp b⟩
    · intro ⟨a, b⟩
      by_cases hu : us' v = true
      · exact ⟨hu, (hse v hv hu q hq).mpr b⟩
      · exact absurd b (t2 v hv a hu q hq)
  refine ⟨⟨hN.1, hN.2.1, ?_, hN.2.2.2.1, t7⟩, ?_, ?_, ?_, hD, ?_, ?_⟩
  · intro t k ha
    obtain ⟨a, b, c⟩ := hN.2.2.1 t k ha
    exact ⟨a, b, fun z => c (t6 _ z)⟩
  · intro v hv hu
    obtain ⟨v1, v2, v3, v4⟩ := hV v hv (t1 v hv hu)
    refine ⟨fun z => ?_, fun t ht ho z => ?_, fun t k ha z => ?_, fun t k ha z => ?_⟩
    · exact (t3 v hv hu none trivial).mpr (v1 ((t4 v hv hu none trivial).mp z))
    · have e3 := t3 v hv hu (some (t, 0)) (mv_o_L ht ho)
      have e4 := t4 v hv hu (some (t, 0)) (mv_o_L ht ho)
      have e3' : mv_in (mv_vs sn' nm t 0) (mk' v) ↔ mv_in (mv_vs sn nm t 0) (mk v) := e3
      have e4' : mv_en (mv_vs sn' nm t 0) (en' v) ↔ mv_en (mv_vs sn nm t 0) (en v) := e4
      rw [mv_vs0, mv_vs0] at e3' e4'
      exact e3'.mpr (v2 t ht ho (e4'.mp z))
    · obtain ⟨a, b⟩ := v3 t k ha ((t5 v hv hu t k ha).2 z)
      exact ⟨(t3 v hv hu (some (t, k + 1)) (mv_A_L ha)).mpr a, b⟩
    · exact v4 t k ha ((t5 v hv hu t k ha).1 z)
  · intro q hq v w hv hw hu hu' hr s1 s2
    exact hU q hq v w hv hw (t1 v hv hu) (t1 w hw hu') hr ((hse v hv hu q hq).mp s1) ((hse w hw hu' q hq).mp s2)
  · intro t ht ho v hv hu hb
    have e1 := hse v hv hu none trivial
    have e2 : mv_se (mv_vs sn' nm t 0) (mk' v) (en' v) ↔ mv_se (mv_vs sn nm t 0) (mk v) (en v) := hse v hv hu (some (t, 0)) (mv_o_L ht ho)
    rw [mv_vs0, mv_vs0] at e2
    exact e1.trans ((hO t ht ho v hv (t1 v hv hu) hb).trans e2.symm)
  · exact mv_W_c hC (hsee none trivial)
  · intro t k ha
    exact mv_W_c (hW t k ha) (hsee (some (t, k + 1)) (mv_A_L ha))
end
section
/-! 03: pure steps: transactions end (abort, crash, back; commit) -/
theorem mv_shrink {us : Nat → Bool} {ro : Nat → Nat} {vl : Nat → Int32} {mk en : Nat → Nat} {C R R' : Nat → Prop} {sn : Nat → Nat → Prop} {nm : Nat → Nat} {io io' : Nat → Bool} {lv lv' : Nat → Nat} {tc ov : Nat → Int32} {cm : Nat → Option Int32} {vw : Nat → Nat → Nat → Option Int32}
    (h : mv_I us ro vl mk en C R sn nm io lv tc ov cm vw) (hl : ∀ t, t < 4 → lv' t ≤ 3) (ha : ∀ t, t < 4 → io' t = true → io t = true ∧ lv' t ≤ lv t)
    (hR : ∀ n, R' n ↔ ∃ t k, mv_A io' lv' t k ∧ nm (4 * t + k) = n) : mv_I us ro vl mk en C R' sn nm io' lv' tc ov cm vw := by
  obtain ⟨⟨n1, n2, n3, n4, n5⟩, hV, hU, hO, hD, hC, hW⟩ := h
  have hA : ∀ t k, mv_A io' lv' t k → mv_A io lv t k := by
    intro t k ⟨a, b, c⟩
    obtain ⟨d, e⟩ := ha t a b
    exact ⟨a, d, by omega⟩
  have hL : ∀ q, mv_L io' lv' q → mv_L io lv q := by
    intro q hq
    match q, hq with
    | none, _ => trivial
    | some (t, k), ⟨a, b, c⟩ =>
      obtain ⟨d, e⟩ := ha t a b
      exact ⟨a, d, by omega⟩
  refine ⟨⟨hl, hR, fun t k z => n3 t k (hA t k z), fun t k t' k' z z' => n4 t k t' k' (hA t k z) (hA t' k' z'), fun t n a b => n5 t n a (ha t a b).1⟩, ?_, ?_, ?_, ?_, hC, ?_⟩
  · intro v hv hu
    obtain ⟨v1, v2, v3, v4⟩ := hV v hv hu
    exact ⟨v1, fun t a b => v2 t a (ha t a b).1, fun t k z => v3 t k (hA t k z), fun t k z => v4 t k (hA t k z)⟩
  · intro q hq
    exact hU q (hL q hq)
  · intro t a b
    exact hO t a (ha t a b).1
  · exact ⟨fun t k u j i z z' => hD.1 t k u j i (hA t k z) (hA u j z'), fun t k i z => hD.2 t k i (hA t k z)⟩
  · intro t k z
    exact hW t k (hA t k z)
theorem mv_commit {us : Nat → Bool} {ro : Nat → Nat} {vl : Nat → Int32} {mk en : Nat → Nat} {C R C' R' : Nat → Prop} {sn : Nat → Nat → Prop} {nm : Nat → Nat} {io : Nat → Bool} {lv : Nat → Nat} {tc ov ov' : Nat → Int32} {cm cm' : Nat → Option Int32} {vw : Nat → Nat → Nat → Option Int32}
    (h : mv_I us ro vl mk en C R sn nm io lv tc ov cm vw) {t0 : Nat} (h4 : t0 < 4) (ho : io t0 = true) {ch : Int32}
    (hch : ∀ i, mv_b ch i = true ↔ ∃ k, k ≤ lv t0 ∧ mv_b (tc (4 * t0 + k)) i = true)
    (hC' : ∀ n, C' n ↔ (C n ∨ ∃ j, j < lv t0 + 1 ∧ nm (4 * t0 + j) = n))
    (hR' : ∀ n, R' n ↔ (R n ∧ ¬ ∃ j, j < lv t0 + 1 ∧ nm (4 * t0 + j) = n))
    (hov : ∀ t, t < 4 → ∀ i, mv_b (ov' t) i = true ↔ (mv_b (ov t) i = true ∨ mv_b ch i = true))
    (hcm : ∀ r, r < 8 → cm' r = if mv_b ch r = true then vw t0 (lv t0) r else cm r)
    (hro : ∀ v, v < 96 → ro v < 8) :
    mv_I us ro vl mk en C' R' sn nm (mv_up io t0 false) lv tc ov' cm' vw := by
  obtain ⟨⟨n1, n2, n3, n4, n5⟩, hV, hU, hO, hD, hC, hW⟩ := h
  have hN : mv_N C R sn nm io lv := ⟨n1, n2, n3, n4, n5⟩
  have hio : ∀ t, mv_up io t0 false t = true → t ≠ t0 ∧ io t = true := by
    intro t z
    by_cases e : t = t0
    · rw [e, mv_us] at z; exact absurd z (by decide)
    · rw [mv_un e] at z; exact ⟨e, z⟩
  have hA : ∀ t k, mv_A (mv_up io t0 false) lv t k → t ≠ t0 ∧ mv_A io lv t k := by
    intro t k ⟨a, b, c⟩
    obtain ⟨d, e⟩ := hio t b
    exact ⟨d, a, e, c⟩
  have hA0 : ∀ j, j < lv t0 + 1 → mv_A io lv t0 j := fun j hj => ⟨h4, ho, by omega⟩
  have own : ∀ n, (∃ j, j < lv t0 + 1 ∧ nm (4 * t0 + j) = n) → ¬ C n := by
    intro n ⟨j, hj, e⟩
    rw [← e]
    exact (n3 t0 j (hA0 j hj)).2.2
  -- sets seen by the committing transaction
  have snC : ∀ n, sn t0 n → C n := fun n => n5 t0 n h4 ho
  have K1 : ∀ v, v < 96 → us v = true → ¬ mv_b ch (ro v) = true → (mv_se C' (mk v) (en v) ↔ mv_se C (mk v) (en v)) := by
    intro v hv hu hb
    obtain ⟨v1, v2, v3, v4⟩ := hV v hv hu
    have a1 : ¬ ∃ j, j < lv t0 + 1 ∧ nm (4 * t0 + j) = mk v := by
      intro ⟨j, hj, e⟩
      exact hb ((hch _).mpr ⟨j, by omega, v4 t0 j (hA0 j hj) e.symm⟩)
    have a2 : ¬ ∃ j, j < lv t0 + 1 ∧ nm (4 * t0 + j) = en v := by
      intro ⟨j, hj, e⟩
      exact hb ((hch _).mpr ⟨j, by omega, (v3 t0 j (hA0 j hj) e.symm).2⟩)
    apply mv_se_c
    · unfold mv_in
      rw [hC']
      constructor
      · intro z
        rcases z with z | z | z
        · exact Or.inl z
        · exact Or.inr z
        · exact absurd z a1
      · intro z
        rcases z with z | z
        · exact Or.inl z
        · exact Or.inr (Or.inl z)
    · unfold mv_en
      rw [hC']
      constructor
      · intro ⟨z, z'⟩
        rcases z' with z' | z'
        · exact ⟨z, z'⟩
        · exact absurd z' a2
      · intro ⟨z, z'⟩
        exact ⟨z, Or.inl z'⟩
  have K2 : ∀ v, v < 96 → us v = true → mv_b ch (ro v) = true → (mv_se C' (mk v) (en v) ↔ mv_se (mv_vs sn nm t0 (lv t0 + 1)) (mk v) (en v)) := by
    intro v hv hu hb
    obtain ⟨v1, v2, v3, v4⟩ := hV v hv hu
    obtain ⟨kb, hkb, hb'⟩ := (hch _).mp hb
    have hno := hD.2 t0 kb (ro v) (hA0 kb (by omega)) hb'
    have hse := hO t0 h4 ho v hv hu hno
    constructor
    · intro ⟨z1, z2⟩
      have e1 : ¬ mv_en C (en v) := fun z => z2 ⟨z.1, (hC' _).mpr (Or.inl z.2)⟩
      refine ⟨?_, fun z => z2 ⟨z.1, (hC' _).mpr ?_⟩⟩
      · rcases z1 with z1 | z1
        · exact Or.inl z1
        · rcases (hC' _).mp z1 with z1 | z1
          · have s2 := hse.mp ⟨Or.inr z1, e1⟩
            rcases s2.1 with y | y
            · exact Or.inl y
            · exact Or.inr (Or.inl y)
          · exact Or.inr (Or.inr z1)
      · rcases z.2 with y | y
        · exact Or.inl (snC _ y)
        · exact Or.inr y
    · intro ⟨z1, z2⟩
      refine ⟨?_, fun z => ?_⟩
      · rcases z1 with z1 | z1
        · exact Or.inl z1
        · rcases z1 with z1 | z1
          · exact Or.inr ((hC' _).mpr (Or.inl (snC _ z1)))
          · exact Or.inr ((hC' _).mpr (Or.inr z1))
      · obtain ⟨y0, y⟩ := z
        rcases (hC' _).mp y with y | y
        · -- ended by a committed number
          have m1 := v1 ⟨y0, y⟩
          have m2 : mv_in (sn t0) (mk v) := by
            rcases z1 with z1 | z1
            · exact Or.inl z1
            · rcases z1 with z1 | z1
              · exact Or.inr z1
              · rcases m1 with m1 | m1
                · exact Or.inl m1
                · exact absurd m1 (own _ z1)
          have s2 : mv_se C (mk v) (en v) := hse.mpr ⟨m2, fun x => z2 ⟨x.1, Or.inl x.2⟩⟩
          exact s2.2 ⟨y0, y⟩
        · exact z2 ⟨y0, Or.inr y⟩
  refine ⟨⟨n1, ?_, ?_, ?_, ?_⟩, ?_, ?_, ?_, ?_, ?_, ?_⟩
  · intro n
    rw [hR', n2]
    constructor
    · intro ⟨⟨t, k, ⟨a, b, c⟩, e⟩, z⟩
      refine ⟨t, k, ⟨a, ?_, c⟩, e⟩
      rw [mv_un]
      · exact b
      · intro e'
        subst e'
        exact z ⟨k, by omega, e⟩
    · intro ⟨t, k, a, e⟩
      obtain ⟨b, c⟩ := hA t k a
      refine ⟨⟨t, k, c, e⟩, ?_⟩
      intro ⟨j, hj, e'⟩
      exact b (n4 t k t0 j c (hA0 j hj) (e.trans e'.symm)).1
  · intro t k a
    obtain ⟨b, c⟩ := hA t k a
    obtain ⟨x, y, z⟩ := n3 t k c
    refine ⟨x, y, fun w => ?_⟩
    rcases (hC' _).mp w with w | ⟨j, hj, e⟩
    · exact z w
    · exact b (n4 t k t0 j c (hA0 j hj) e.symm).1
  · intro t k t' k' a a' e
    exact n4 t k t' k' (hA t k a).2 (hA t' k' a').2 e
  · intro t n a b z
    exact (hC' _).mpr (Or.inl (n5 t n a (hio t b).2 z))
  · intro v hv hu
    obtain ⟨v1, v2, v3, v4⟩ := hV v hv hu
    refine ⟨?_, fun t a b => v2 t a (hio t b).2, fun t k a => v3 t k (hA t k a).2, fun t k a => v4 t k (hA t k a).2⟩
    intro ⟨z, z'⟩
    rcases (hC' _).mp z' with y | ⟨j, hj, e⟩
    · rcases v1 ⟨z, y⟩ with x | x
      · exact Or.inl x
      · exact Or.inr ((hC' _).mpr (Or.inl x))
    · rcases (v3 t0 j (hA0 j hj) e.symm).1 with x | x
      · exact Or.inl x
      · rcases x with x | ⟨i, hi, x⟩
        · exact Or.inr ((hC' _).mpr (Or.inl (snC _ x)))
        · exact Or.inr ((hC' _).mpr (Or.inr ⟨i, by omega, x⟩))
  · intro q hq v w hv hw hu hu' hr s1 s2
    match q, hq with
    | none, _ =>
      have s1' : mv_se C' (mk v) (en v) := s1
      have s2' : mv_se C' (mk w) (en w) := s2
      by_cases hb : mv_b ch (ro v) = true
      · exact hU (some (t0, lv t0 + 1)) ⟨h4, ho, Nat.le_refl _⟩ v w hv hw hu hu' hr ((K2 v hv hu hb).mp s1') ((K2 w hw hu' (hr ▸ hb)).mp s2')
      · exact hU none trivial v w hv hw hu hu' hr ((K1 v hv hu hb).mp s1') ((K1 w hw hu' (hr ▸ hb)).mp s2')
    | some (t, k), ⟨a, b, c⟩ =>
      exact hU (some (t, k)) ⟨a, (hio t b).2, c⟩ v w hv hw hu hu' hr s1 s2
  · intro t a b v hv hu hb
    have hb' : ¬ (mv_b (ov t) (ro v) = true ∨ mv_b ch (ro v) = true) := fun z => hb ((hov t a _).mpr z)
    exact (K1 v hv hu (fun z => hb' (Or.inr z))).trans (hO t a (hio t b).2 v hv hu (fun z => hb' (Or.inl z)))
  · refine ⟨fun t k u j i z z' => hD.1 t k u j i (hA t k z).2 (hA u j z').2, fun t k i z y x => ?_⟩
    obtain ⟨b, c⟩ := hA t k z
    rcases (hov t c.1 i).mp x with x | x
    · exact hD.2 t k i c y x
    · obtain ⟨j, hj, x'⟩ := (hch i).mp x
      exact hD.1 t k t0 j i c (hA0 j (by omega)) b y x'
  · intro r hr
    rw [hcm r hr]
    by_cases hb : mv_b ch r = true
    · rw [if_pos hb]
      obtain ⟨w1, w2⟩ := hW t0 (lv t0) ⟨h4, ho, Nat.le_refl _⟩ r hr
      refine ⟨fun x hx => ?_, fun hn v hv hu hrv hse => ?_⟩
      · obtain ⟨v, hv, hu, hrv, hse, hx'⟩ := w1 x hx
        exact ⟨v, hv, hu, hrv, (K2 v hv hu (by rw [hrv]; exact hb)).mpr hse, hx'⟩
      · exact w2 hn v hv hu hrv ((K2 v hv hu (by rw [hrv]; exact hb)).mp hse)
    · rw [if_neg hb]
      obtain ⟨w1, w2⟩ := hC r hr
      refine ⟨fun x hx => ?_, fun hn v hv hu hrv hse => ?_⟩
      · obtain ⟨v, hv, hu, hrv, hse, hx'⟩ := w1 x hx
        exact ⟨v, hv, hu, hrv, (K1 v hv hu (by rw [hrv]; exact hb)).mpr hse, hx'⟩
      · exact w2 hn v hv hu hrv ((K1 v hv hu (by rw [hrv]; exact hb)).mp hse)
  · intro t k z
    exact hW t k (hA t k z).2
end
section
/-! 04: pure steps: a fresh number (a transaction begins, a savepoint) -/
theorem mv_open {us : Nat → Bool} {ro : Nat → Nat} {vl : Nat → Int32} {mk en : Nat → Nat} {C R R' : Nat → Prop} {sn sn' : Nat → Nat → Prop} {nm : Nat → Nat} {io : Nat → Bool} {lv : Nat → Nat} {tc ov : Nat → Int32} {cm : Nat → Option Int32} {vw : Nat → Nat → Nat → Option Int32}
    (h : mv_I us ro vl mk en C R sn nm io lv tc ov cm vw) {t0 n : Nat} (h4 : t0 < 4) (ho : io t0 = false)
    (f1 : 1 ≤ n) (f2 : n < 63) (f3 : ¬ C n) (f4 : ¬ R n) (f5 : ∀ v, v < 96 → us v = true → mk v ≠ n ∧ en v ≠ n)
    (hR' : ∀ m, R' m ↔ (R m ∨ m = n)) (hs0 : sn' t0 = C) (hs1 : ∀ t, t ≠ t0 → sn' t = sn t) :
    mv_I us ro vl mk en C R' sn' (mv_up nm (4 * t0) n) (mv_up io t0 true) (mv_up lv t0 0) (upd tc (4 * t0) 0) (upd ov t0 0) cm (mv_up vw t0 (fun _ => cm)) := by
  obtain ⟨⟨n1, n2, n3, n4, n5⟩, hV, hU, hO, hD, hC, hW⟩ := h
  have hA : ∀ t k, mv_A (mv_up io t0 true) (mv_up lv t0 0) t k → (t = t0 ∧ k = 0) ∨ (t ≠ t0 ∧ mv_A io lv t k) := by
    intro t k ⟨a, b, c⟩
    by_cases e : t = t0
    · subst e
      rw [mv_us] at c
      exact Or.inl ⟨rfl, by omega⟩
    · rw [mv_un e] at b c
      exact Or.inr ⟨e, a, b, c⟩
  have hAo : ∀ t k, mv_A io lv t k → t ≠ t0 := by
    intro t k ⟨a, b, c⟩ e
    rw [e, ho] at b
    exact absurd b (by decide)
  have hi : ∀ t k, mv_A io lv t k → 4 * t + k ≠ 4 * t0 := by
    intro t k z
    have e := hAo t k z
    have c := z.2.2
    have d := n1 t z.1
    omega
  have hnm : ∀ t k, mv_A io lv t k → mv_up nm (4 * t0) n (4 * t + k) = nm (4 * t + k) := fun t k z => mv_un (hi t k z)
  have htc : ∀ t k, mv_A io lv t k → upd tc (4 * t0) 0 (4 * t + k) = tc (4 * t + k) := fun t k z => pk_un (hi t k z)
  have hnm0 : mv_up nm (4 * t0) n (4 * t0 + 0) = n := mv_us
  have hvs : ∀ t k, t < 4 → io t = true → k ≤ lv t + 1 → mv_vs sn' (mv_up nm (4 * t0) n) t k = mv_vs sn nm t k := by
    intro t k a b c
    funext m
    have e : t ≠ t0 := hAo t 0 ⟨a, b, Nat.zero_le _⟩
    unfold mv_vs
    rw [hs1 t e]
    apply propext
    constructor
    · intro z
      rcases z with z | ⟨j, hj, z⟩
      · exact Or.inl z
      · rw [hnm t j ⟨a, b, by omega⟩] at z
        exact Or.inr ⟨j, hj, z⟩
    · intro z
      rcases z with z | ⟨j, hj, z⟩
      · exact Or.inl z
      · refine Or.inr ⟨j, hj, ?_⟩
        rw [hnm t j ⟨a, b, by omega⟩]
        exact z
  have hv0 : ∀ k, k ≤ 1 → ∀ m, m ≠ n → (mv_vs sn' (mv_up nm (4 * t0) n) t0 k m ↔ C m) := by
    intro k hk m hm
    unfold mv_vs
    rw [hs0]
    constructor
    · intro z
      rcases z with z | ⟨j, hj, z⟩
      · exact z
      · have : j = 0 := by omega
        subst this
        rw [hnm0] at z
        exact absurd z.symm hm
    · intro z; exact Or.inl z
  have hin : ∀ k, k ≤ 1 → ∀ m, m ≠ n → (mv_in (mv_vs sn' (mv_up nm (4 * t0) n) t0 k) m ↔ mv_in C m) := by
    intro k hk m hm
    unfold mv_in
    rw [hv0 k hk m hm]
  have hen : ∀ k, k ≤ 1 → ∀ m, m ≠ n → (mv_en (mv_vs sn' (mv_up nm (4 * t0) n) t0 k) m ↔ mv_en C m) := by
    intro k hk m hm
    unfold mv_en
    rw [hv0 k hk m hm]
  have hse : ∀ k, k ≤ 1 → ∀ v, v < 96 → us v = true → (mv_se (mv_vs sn' (mv_up nm (4 * t0) n) t0 k) (mk v) (en v) ↔ mv_se C (mk v) (en v)) :=
    fun k hk v hv hu => mv_se_c (hin k hk _ (f5 v hv hu).1) (hen k hk _ (f5 v hv hu).2)
  have hlt : ∀ t, t < 4 → mv_up lv t0 0 t ≤ 3 := by
    intro t a
    by_cases e : t = t0
    · rw [e, mv_us]; omega
    · rw [mv_un e]; exact n1 t a
  have hA0 : mv_A (mv_up io t0 true) (mv_up lv t0 0) t0 0 := ⟨h4, mv_us, Nat.zero_le _⟩
  have hA1 : ∀ t k, mv_A io lv t k → mv_A (mv_up io t0 true) (mv_up lv t0 0) t k := by
    intro t k z
    have e := hAo t k z
    refine ⟨z.1, ?_, ?_⟩
    · rw [mv_un e]; exact z.2.1
    · rw [mv_un e]; exact z.2.2
  refine ⟨⟨hlt, ?_, ?_, ?_, ?_⟩, ?_, ?_, ?_, ?_, hC, ?_⟩
  · intro m
    rw [hR', n2]
    constructor
    · intro z
      rcases z with ⟨t, k, a, e⟩ | z
      · exact ⟨t, k, hA1 t k a, by rw [hnm t k a]; exact e⟩
      · exact ⟨t0, 0, hA0, by rw [hnm0]; exact z.symm⟩
    · intro ⟨t, k, a, e⟩
      rcases hA t k a with ⟨e1, e2⟩ | ⟨e1, e2⟩
      · subst e1; subst e2
        rw [hnm0] at e
        exact Or.inr e.symm
      · rw [hnm t k e2] at e
        exact Or.inl ⟨t, k, e2, e⟩
  · intro t k a
    rcases hA t k a with ⟨e1, e2⟩ | ⟨e1, e2⟩
    · subst e1; subst e2
      rw [hnm0]
      exact ⟨f1, f2, f3⟩
    · rw [hnm t k e2]
      exact n3 t k e2
  · intro t k t' k' a a' e
    rcases hA t k a with ⟨e1, e2⟩ | ⟨e1, e2⟩
    · rcases hA t' k' a' with ⟨e1', e2'⟩ | ⟨e1', e2'⟩
      · exact ⟨by rw [e1, e1'], by rw [e2, e2']⟩
      · subst e1; subst e2
        rw [hnm0, hnm t' k' e2'] at e
        exact absurd ((n2 n).mpr ⟨t', k', e2', e.symm⟩) f4
    · rcases hA t' k' a' with ⟨e1', e2'⟩ | ⟨e1', e2'⟩
      · subst e1'; subst e2'
        rw [hnm0, hnm t k e2] at e
        exact absurd ((n2 n).mpr ⟨t, k, e2, e⟩) f4
      · rw [hnm t k e2, hnm t' k' e2'] at e
        exact n4 t k t' k' e2 e2' e
  · intro t m a b z
    by_cases e : t = t0
    · rw [e, hs0] at z; exact z
    · rw [hs1 t e] at z
      rw [mv_un e] at b
      exact n5 t m a b z
  · intro v hv hu
    obtain ⟨v1, v2, v3, v4⟩ := hV v hv hu
    refine ⟨v1, ?_, ?_, ?_⟩
    · intro t a b z
      by_cases e : t = t0
      · rw [e, hs0] at z ⊢; exact v1 z
      · rw [hs1 t e] at z ⊢
        rw [mv_un e] at b
        exact v2 t a b z
    · intro t k a z
      rcases hA t k a with ⟨e1, e2⟩ | ⟨e1, e2⟩
      · subst e1; subst e2
        rw [hnm0] at z
        exact absurd z (f5 v hv hu).2
      · rw [hnm t k e2] at z
        rw [hvs t (k + 1) e2.1 e2.2.1 (Nat.succ_le_succ e2.2.2), htc t k e2]
        exact v3 t k e2 z
    · intro t k a z
      rcases hA t k a with ⟨e1, e2⟩ | ⟨e1, e2⟩
      · subst e1; subst e2
        rw [hnm0] at z
        exact absurd z (f5 v hv hu).1
      · rw [hnm t k e2] at z
        rw [htc t k e2]
        exact v4 t k e2 z
  · intro q hq v w hv hw hu hu' hr s1 s2
    match q, hq with
    | none, _ => exact hU none trivial v w hv hw hu hu' hr s1 s2
    | some (t, k), ⟨a, b, c⟩ =>
      by_cases e : t = t0
      · subst e
        rw [mv_us] at c
        exact hU none trivial v w hv hw hu hu' hr ((hse k c v hv hu).mp s1) ((hse k c w hw hu').mp s2)
      · rw [mv_un e] at b c
        have s1' : mv_se (mv_vs sn' (mv_up nm (4 * t0) n) t k) (mk v) (en v) := s1
        have s2' : mv_se (mv_vs sn' (mv_up nm (4 * t0) n) t k) (mk w) (en w) := s2
        rw [hvs t k a b c] at s1' s2'
        exact hU (some (t, k)) ⟨a, b, c⟩ v w hv hw hu hu' hr s1' s2'
  · intro t a b v hv hu hb
    by_cases e : t = t0
    · rw [e, hs0]
    · rw [hs1 t e]
      rw [mv_un e] at b
      rw [pk_un e] at hb
      exact hO t a b v hv hu hb
  · refine ⟨fun t k u j i z z' hne y => ?_, fun t k i z y => ?_⟩
    · rcases hA t k z with ⟨e1, e2⟩ | ⟨e1, e2⟩
      · subst e1; subst e2
        have y' : mv_b (upd tc (4 * t) 0 (4 * t)) i = true := y
        rw [pk_us, mv_b_0] at y'
        exact absurd y' (by decide)
      · rw [htc t k e2] at y
        rcases hA u j z' with ⟨e1', e2'⟩ | ⟨e1', e2'⟩
        · subst e1'; subst e2'
          intro x
          have x' : mv_b (upd tc (4 * u) 0 (4 * u)) i = true := x
          rw [pk_us, mv_b_0] at x'
          exact absurd x' (by decide)
        · rw [htc u j e2']
          exact hD.1 t k u j i e2 e2' hne y
    · rcases hA t k z with ⟨e1, e2⟩ | ⟨e1, e2⟩
      · subst e1; subst e2
        rw [pk_us, mv_b_0]; decide
      · rw [htc t k e2] at y
        rw [pk_un e1]
        exact hD.2 t k i e2 y
  · intro t k z
    rcases hA t k z with ⟨e1, e2⟩ | ⟨e1, e2⟩
    · subst e1; subst e2
      rw [mv_us]
      refine mv_W_c hC ?_
      intro v hv
      constructor
      · intro ⟨x, y⟩
        exact ⟨x, (hse 1 (Nat.le_refl _) v hv x).mp y⟩
      · intro ⟨x, y⟩
        exact ⟨x, (hse 1 (Nat.le_refl _) v hv x).mpr y⟩
    · rw [mv_un e1, hvs t (k + 1) e2.1 e2.2.1 (Nat.succ_le_succ e2.2.2)]
      exact hW t k e2
theorem mv_save {us : Nat → Bool} {ro : Nat → Nat} {vl : Nat → Int32} {mk en : Nat → Nat} {C R R' : Nat → Prop} {sn : Nat → Nat → Prop} {nm : Nat → Nat} {io : Nat → Bool} {lv : Nat → Nat} {tc ov : Nat → Int32} {cm : Nat → Option Int32} {vw : Nat → Nat → Nat → Option Int32}
    (h : mv_I us ro vl mk en C R sn nm io lv tc ov cm vw) {t0 n : Nat} (h4 : t0 < 4) (ho : io t0 = true) (h3 : lv t0 < 3)
    (f1 : 1 ≤ n) (f2 : n < 63) (f3 : ¬ C n) (f4 : ¬ R n) (f5 : ∀ v, v < 96 → us v = true → mk v ≠ n ∧ en v ≠ n)
    (hR' : ∀ m, R' m ↔ (R m ∨ m = n)) :
    mv_I us ro vl mk en C R' sn (mv_up nm (4 * t0 + (lv t0 + 1)) n) io (mv_up lv t0 (lv t0 + 1)) (upd tc (4 * t0 + (lv t0 + 1)) 0) ov cm (mv_up vw t0 (mv_up (vw t0) (lv t0 + 1) (vw t0 (lv t0)))) := by
  obtain ⟨⟨n1, n2, n3, n4, n5⟩, hV, hU, hO, hD, hC, hW⟩ := h
  have hA : ∀ t k, mv_A io (mv_up lv t0 (lv t0 + 1)) t k → (t = t0 ∧ k = lv t0 + 1) ∨ mv_A io lv t k := by
    intro t k ⟨a, b, c⟩
    by_cases e : t = t0
    · subst e
      rw [mv_us] at c
      by_cases e' : k = lv t + 1
      · exact Or.inl ⟨rfl, e'⟩
      · exact Or.inr ⟨a, b, by omega⟩
    · rw [mv_un e] at c
      exact Or.inr ⟨a, b, c⟩
  have hi : ∀ t k, mv_A io lv t k → 4 * t + k ≠ 4 * t0 + (lv t0 + 1) := by
    intro t k ⟨a, b, c⟩ e
    have d := n1 t a
    have e' : t = t0 := by omega
    subst e'
    omega
  have hnm : ∀ t k, mv_A io lv t k → mv_up nm (4 * t0 + (lv t0 + 1)) n (4 * t + k) = nm (4 * t + k) := fun t k z => mv_un (hi t k z)
  have htc : ∀ t k, mv_A io lv t k → upd tc (4 * t0 + (lv t0 + 1)) 0 (4 * t + k) = tc (4 * t + k) := fun t k z => pk_un (hi t k z)
  have hnm0 : mv_up nm (4 * t0 + (lv t0 + 1)) n (4 * t0 + (lv t0 + 1)) = n := mv_us
  have hvs : ∀ t k, t < 4 → io t = true → k ≤ lv t + 1 → mv_vs sn (mv_up nm (4 * t0 + (lv t0 + 1)) n) t k = mv_vs sn nm t k := by
    intro t k a b c
    funext m
    unfold mv_vs
    apply propext
    constructor
    · intro z
      rcases z with z | ⟨j, hj, z⟩
      · exact Or.inl z
      · rw [hnm t j ⟨a, b, by omega⟩] at z
        exact Or.inr ⟨j, hj, z⟩
    · intro z
      rcases z with z | ⟨j, hj, z⟩
      · exact Or.inl z
      · refine Or.inr ⟨j, hj, ?_⟩
        rw [hnm t j ⟨a, b, by omega⟩]
        exact z
  have hv0 : ∀ m, m ≠ n → (mv_vs sn (mv_up nm (4 * t0 + (lv t0 + 1)) n) t0 (lv t0 + 1 + 1) m ↔ mv_vs sn nm t0 (lv t0 + 1) m) := by
    intro m hm
    unfold mv_vs
    constructor
    · intro z
      rcases z with z | ⟨j, hj, z⟩
      · exact Or.inl z
      · by_cases e : j = lv t0 + 1
        · rw [e, hnm0] at z
          exact absurd z.symm hm
        · rw [hnm t0 j ⟨h4, ho, by omega⟩] at z
          exact Or.inr ⟨j, by omega, z⟩
    · intro z
      rcases z with z | ⟨j, hj, z⟩
      · exact Or.inl z
      · refine Or.inr ⟨j, by omega, ?_⟩
        rw [hnm t0 j ⟨h4, ho, by omega⟩]
        exact z
  have hse : ∀ v, v < 96 → us v = true → (mv_se (mv_vs sn (mv_up nm (4 * t0 + (lv t0 + 1)) n) t0 (lv t0 + 1 + 1)) (mk v) (en v) ↔ mv_se (mv_vs sn nm t0 (lv t0 + 1)) (mk v) (en v)) := by
    intro v hv hu
    apply mv_se_c
    · unfold mv_in
      rw [hv0 _ (f5 v hv hu).1]
    · unfold mv_en
      rw [hv0 _ (f5 v hv hu).2]
  have hA0 : mv_A io (mv_up lv t0 (lv t0 + 1)) t0 (lv t0 + 1) := ⟨h4, ho, by rw [mv_us]; exact Nat.le_refl _⟩
  have hA1 : ∀ t k, mv_A io lv t k → mv_A io (mv_up lv t0 (lv t0 + 1)) t k := by
    intro t k ⟨a, b, c⟩
    refine ⟨a, b, ?_⟩
    by_cases e : t = t0
    · subst e
      rw [mv_us]; omega
    · rw [mv_un e]; exact c
  refine ⟨⟨?_, ?_, ?_, ?_, n5⟩, ?_, ?_, hO, ?_, hC, ?_⟩
  · intro t a
    by_cases e : t = t0
    · rw [e, mv_us]; omega
    · rw [mv_un e]; exact n1 t a
  · intro m
    rw [hR', n2]
    constructor
    · intro z
      rcases z with ⟨t, k, a, e⟩ | z
      · exact ⟨t, k, hA1 t k a, by rw [hnm t k a]; exact e⟩
      · exact ⟨t0, lv t0 + 1, hA0, by rw [hnm0]; exact z.symm⟩
    · intro ⟨t, k, a, e⟩
      rcases hA t k a with ⟨e1, e2⟩ | e2
      · subst e1; subst e2
        rw [hnm0] at e
        exact Or.inr e.symm
      · rw [hnm t k e2] at e
        exact Or.inl ⟨t, k, e2, e⟩
  · intro t k a
    rcases hA t k a with ⟨e1, e2⟩ | e2
    · subst e1; subst e2
      rw [hnm0]
      exact ⟨f1, f2, f3⟩
    · rw [hnm t k e2]
      exact n3 t k e2
  · intro t k t' k' a a' e
    rcases hA t k a with ⟨e1, e2⟩ | e2
    · rcases hA t' k' a' with ⟨e1', e2'⟩ | e2'
      · exact ⟨by rw [e1, e1'], by rw [e2, e2']⟩
      · subst e1; subst e2
        rw [hnm0, hnm t' k' e2'] at e
        exact absurd ((n2 n).mpr ⟨t', k', e2', e.symm⟩) f4
    · rcases hA t' k' a' with ⟨e1', e2'⟩ | e2'
      · subst e1'; subst e2'
        rw [hnm0, hnm t k e2] at e
        exact absurd ((n2 n).mpr ⟨t, k, e2, e⟩) f4
      · rw [hnm t k e2, hnm t' k' e2'] at e
        exact n4 t k t' k' e2 e2' e
  · intro v hv hu
    obtain ⟨v1, v2, v3, v4⟩ := hV v hv hu
    refine ⟨v1, v2, ?_, ?_⟩
    · intro t k a z
      rcases hA t k a with ⟨e1, e2⟩ | e2
      · subst e1; subst e2
        rw [hnm0] at z
        exact absurd z (f5 v hv hu).2
      · rw [hnm t k e2] at z
        rw [hvs t (k + 1) e2.1 e2.2.1 (Nat.succ_le_succ e2.2.2), htc t k e2]
        exact v3 t k e2 z
    · intro t k a z
      rcases hA t k a with ⟨e1, e2⟩ | e2
      · subst e1; subst e2
        rw [hnm0] at z
        exact absurd z (f5 v hv hu).1
      · rw [hnm t k e2] at z
        rw [htc t k e2]
        exact v4 t k e2 z
  · intro q hq v w hv hw hu hu' hr s1 s2
    match q, hq with
    | none, _ => exact hU none trivial v w hv hw hu hu' hr s1 s2
    | some (t, k), ⟨a, b, c⟩ =>
      by_cases e : t = t0 ∧ k = lv t0 + 1 + 1
      · obtain ⟨e1, e2⟩ := e
        subst e1; subst e2
        exact hU (some (t, lv t + 1)) ⟨a, b, Nat.le_refl _⟩ v w hv hw hu hu' hr ((hse v hv hu).mp s1) ((hse w hw hu').mp s2)
      · have c' : k ≤ lv t + 1 := by
          by_cases e' : t = t0
          · subst e'
            rw [mv_us] at c
            by_cases e'' : k = lv t + 1 + 1
            · exact absurd ⟨rfl, e''⟩ e
            · omega
          · rw [mv_un e'] at c
            exact c
        have s1' : mv_se (mv_vs sn (mv_up nm (4 * t0 + (lv t0 + 1)) n) t k) (mk v) (en v) := s1
        have s2' : mv_se (mv_vs sn (mv_up nm (4 * t0 + (lv t0 + 1)) n) t k) (mk w) (en w) := s2
        rw [hvs t k a b c'] at s1' s2'
        exact hU (some (t, k)) ⟨a, b, c'⟩ v w hv hw hu hu' hr s1' s2'
  · refine ⟨fun t k u j i z z' hne y => ?_, fun t k i z y => ?_⟩
    · rcases hA t k z with ⟨e1, e2⟩ | e2
      · subst e1; subst e2
        rw [pk_us, mv_b_0] at y
        exact absurd y (by decide)
      · rw [htc t k e2] at y
        rcases hA u j z' with ⟨e1', e2'⟩ | e2'
        · subst e1'; subst e2'
          rw [pk_us, mv_b_0]
          decide
        · rw [htc u j e2']
          exact hD.1 t k u j i e2 e2' hne y
    · rcases hA t k z with ⟨e1, e2⟩ | e2
      · subst e1; subst e2
        rw [pk_us, mv_b_0] at y
        exact absurd y (by decide)
      · rw [htc t k e2] at y
        exact hD.2 t k i e2 y
  · intro t k z
    rcases hA t k z with ⟨e1, e2⟩ | e2
    · subst e1; subst e2
      rw [mv_us, mv_us]
      refine mv_W_c (hW t (lv t) ⟨h4, ho, Nat.le_refl _⟩) ?_
      intro v hv
      constructor
      · intro ⟨x, y⟩
        exact ⟨x, (hse v hv x).mp y⟩
      · intro ⟨x, y⟩
        exact ⟨x, (hse v hv x).mpr y⟩
    · rw [hvs t (k + 1) e2.1 e2.2.1 (Nat.succ_le_succ e2.2.2)]
      by_cases e : t = t0
      · subst e
        rw [mv_us, mv_un (by have := e2.2.2; omega)]
        exact hW t k e2
      · rw [mv_un e]
        exact hW t k e2
end
section
/-! 05: pure steps: a row is touched, its version ended, overwritten, a new one made -/
def mv_set (vw : Nat → Nat → Nat → Option Int32) (t k r : Nat) (o : Option Int32) : Nat → Nat → Nat → Option Int32 := mv_up vw t (mv_up (vw t) k (mv_up (vw t k) r o))
theorem mv_set_s {vw : Nat → Nat → Nat → Option Int32} {t k r : Nat} {o : Option Int32} : mv_set vw t k r o t k r = o := by
  unfold mv_set; rw [mv_us, mv_us, mv_us]
theorem mv_set_r {vw : Nat → Nat → Nat → Option Int32} {t k r r' : Nat} {o : Option Int32} (h : r' ≠ r) : mv_set vw t k r o t k r' = vw t k r' := by
  unfold mv_set; rw [mv_us, mv_us, mv_un h]
theorem mv_set_n {vw : Nat → Nat → Nat → Option Int32} {t k r t' k' : Nat} {o : Option Int32} (h : ¬ (t' = t ∧ k' = k)) : mv_set vw t k r o t' k' = vw t' k' := by
  unfold mv_set
  by_cases e : t' = t
  · subst e
    rw [mv_us, mv_un (fun z => h ⟨rfl, z⟩)]
  · rw [mv_un e]
theorem mv_touch {us : Nat → Bool} {ro : Nat → Nat} {vl : Nat → Int32} {mk en : Nat → Nat} {C R : Nat → Prop} {sn : Nat → Nat → Prop} {nm : Nat → Nat} {io : Nat → Bool} {lv : Nat → Nat} {tc tc' ov : Nat → Int32} {cm : Nat → Option Int32} {vw : Nat → Nat → Nat → Option Int32}
    (h : mv_I us ro vl mk en C R sn nm io lv tc ov cm vw) {t0 r : Nat} (h4 : t0 < 4) (ho : io t0 = true)
    (hb : ∀ u j, mv_A io lv u j → u ≠ t0 → ¬ mv_b (tc (4 * u + j)) r = true) (hov : ¬ mv_b (ov t0) r = true)
    (ht : ∀ i, i ≠ 4 * t0 + lv t0 → tc' i = tc i) (ht' : ∀ i, mv_b (tc' (4 * t0 + lv t0)) i = true ↔ (mv_b (tc (4 * t0 + lv t0)) i = true ∨ i = r)) :
    mv_I us ro vl mk en C R sn nm io lv tc' ov cm vw := by
  obtain ⟨hN, hV, hU, hO, hD, hC, hW⟩ := h
  have n1 := hN.1
  have mono : ∀ x i, mv_b (tc x) i = true → mv_b (tc' x) i = true := by
    intro x i z
    by_cases e : x = 4 * t0 + lv t0
    · subst e
      exact (ht' i).mpr (Or.inl z)
    · rw [ht x e]; exact z
  have inv : ∀ t k i, mv_A io lv t k → mv_b (tc' (4 * t + k)) i = true → mv_b (tc (4 * t + k)) i = true ∨ (t = t0 ∧ i = r) := by
    intro t k i ⟨a, b, c⟩ z
    by_cases e : 4 * t + k = 4 * t0 + lv t0
    · have := n1 t a
      have := n1 t0 h4
      have e1 : t = t0 := by omega
      rw [e] at z
      rcases (ht' i).mp z with y | y
      · left; rw [e]; exact y
      · right; exact ⟨e1, y⟩
    · rw [ht _ e] at z
      exact Or.inl z
  refine ⟨hN, ?_, hU, hO, ⟨?_, ?_⟩, hC, hW⟩
  · intro v hv hu
    obtain ⟨v1, v2, v3, v4⟩ := hV v hv hu
    exact ⟨v1, v2, fun t k a z => ⟨(v3 t k a z).1, mono _ _ (v3 t k a z).2⟩, fun t k a z => mono _ _ (v4 t k a z)⟩
  · intro t k u j i a a' hne z z'
    rcases inv t k i a z with y | ⟨y1, y2⟩
    · rcases inv u j i a' z' with x | ⟨x1, x2⟩
      · exact hD.1 t k u j i a a' hne y x
      · rw [x2] at y
        exact hb t k a (fun e => hne (e.trans x1.symm)) y
    · rcases inv u j i a' z' with x | ⟨x1, x2⟩
      · rw [y2] at x
        exact hb u j a' (fun e => hne (y1.trans e.symm)) x
      · exact hne (y1.trans x1.symm)
  · intro t k i a z
    rcases inv t k i a z with y | ⟨y1, y2⟩
    · exact hD.2 t k i a y
    · rw [y1, y2]; exact hov
/-- the ender of a version that an allowed writer sees is in no view -/
theorem mv_e0 {us : Nat → Bool} {ro : Nat → Nat} {vl : Nat → Int32} {mk en : Nat → Nat} {C R : Nat → Prop} {sn : Nat → Nat → Prop} {nm : Nat → Nat} {io : Nat → Bool} {lv : Nat → Nat} {tc ov : Nat → Int32} {cm : Nat → Option Int32} {vw : Nat → Nat → Nat → Option Int32}
    (h : mv_I us ro vl mk en C R sn nm io lv tc ov cm vw) {t0 v : Nat} (h4 : t0 < 4) (ho : io t0 = true) (hv : v < 96) (hu : us v = true)
    (hb : mv_b (tc (4 * t0 + lv t0)) (ro v) = true) (hse : mv_se (mv_vs sn nm t0 (lv t0 + 1)) (mk v) (en v)) {q : Option (Nat × Nat)} (hq : mv_L io lv q) : ¬ mv_en (mv_S C sn nm q) (en v) := by
  obtain ⟨⟨n1, n2, n3, n4, n5⟩, hV, hU, hO, hD, hC, hW⟩ := h
  obtain ⟨v1, v2, v3, v4⟩ := hV v hv hu
  have hA0 : mv_A io lv t0 (lv t0) := ⟨h4, ho, Nat.le_refl _⟩
  have hC : ¬ mv_en C (en v) := by
    intro z
    have m1 := v1 z
    have m2 : mv_in (sn t0) (mk v) := by
      rcases hse.1 with y | y
      · exact Or.inl y
      · rcases y with y | ⟨j, hj, y⟩
        · exact Or.inr y
        · rcases m1 with m1 | m1
          · exact Or.inl m1
          · rw [← y] at m1
            exact absurd m1 (n3 t0 j ⟨h4, ho, by omega⟩).2.2
    exact ((hO t0 h4 ho v hv hu (hD.2 t0 _ _ hA0 hb)).mpr ⟨m2, fun x => hse.2 ⟨x.1, Or.inl x.2⟩⟩).2 z
  match q, hq with
  | none, _ => exact hC
  | some (t, k), ⟨a, b, c⟩ =>
    intro ⟨z, z'⟩
    rcases z' with y | ⟨j, hj, y⟩
    · exact hC ⟨z, n5 t _ a b y⟩
    · have ha : mv_A io lv t j := ⟨a, b, by omega⟩
      by_cases e : t = t0
      · subst e
        exact hse.2 ⟨z, Or.inr ⟨j, by omega, y⟩⟩
      · exact hD.1 t j t0 (lv t0) (ro v) ha hA0 e (v3 t j ha y.symm).2 hb
theorem mv_end {us : Nat → Bool} {ro : Nat → Nat} {vl : Nat → Int32} {mk en : Nat → Nat} {C R : Nat → Prop} {sn : Nat → Nat → Prop} {nm : Nat → Nat} {io : Nat → Bool} {lv : Nat → Nat} {tc ov : Nat → Int32} {cm : Nat → Option Int32} {vw : Nat → Nat → Nat → Option Int32}
    (h : mv_I us ro vl mk en C R sn nm io lv tc ov cm vw) {t0 v : Nat} (h4 : t0 < 4) (ho : io t0 = true) (hv : v < 96) (hu : us v = true)
    (hb : mv_b (tc (4 * t0 + lv t0)) (ro v) = true) (hse : mv_se (mv_vs sn nm t0 (lv t0 + 1)) (mk v) (en v)) :
    mv_I us ro vl mk (mv_up en v (nm (4 * t0 + lv t0))) C R sn nm io lv tc ov cm (mv_set vw t0 (lv t0) (ro v) none) := by
  have hE := fun q hq => mv_e0 h h4 ho hv hu hb hse (q := q) hq
  obtain ⟨hN, hV, hU, hO, hD, hC, hW⟩ := h
  have hA0 : mv_A io lv t0 (lv t0) := ⟨h4, ho, Nat.le_refl _⟩
  have hn := hN.2.2.1 t0 _ hA0
  have n4 := hN.2.2.2.1
  have n5 := hN.2.2.2.2
  -- no other view has the new ender
  have hno : ∀ q, mv_L io lv q → q ≠ some (t0, lv t0 + 1) → ¬ mv_S C sn nm q (nm (4 * t0 + lv t0)) := by
    intro q hq hne z
    obtain ⟨k', e, hk⟩ := (mv_Sn hN hA0 hq).mp z
    subst e
    have : k' ≤ lv t0 + 1 := hq.2.2
    have e' : k' = lv t0 + 1 := by omega
    exact hne (by rw [e'])
  have hsame : ∀ q, mv_L io lv q → q ≠ some (t0, lv t0 + 1) → ∀ w, (mv_se (mv_S C sn nm q) (mk w) (mv_up en v (nm (4 * t0 + lv t0)) w) ↔ mv_se (mv_S C sn nm q) (mk w) (en w)) := by
    intro q hq hne w
    by_cases e : w = v
    · subst e
      rw [mv_us]
      refine ⟨fun z => ⟨z.1, hE q hq⟩, fun z => ⟨z.1, fun y => hno q hq hne y.2⟩⟩
    · rw [mv_un e]
  have hgone : ¬ mv_se (mv_vs sn nm t0 (lv t0 + 1)) (mk v) (mv_up en v (nm (4 * t0 + lv t0)) v) := by
    rw [mv_us]
    intro z
    exact z.2 ⟨by omega, Or.inr ⟨lv t0, Nat.lt_succ_self _, rfl⟩⟩
  refine ⟨hN, ?_, ?_, ?_, hD, ?_, ?_⟩
  · intro w hw hu'
    obtain ⟨v1, v2, v3, v4⟩ := hV w hw hu'
    by_cases e : w = v
    · subst e
      rw [mv_us]
      refine ⟨fun z => absurd z.2 hn.2.2, fun t a b z => absurd (n5 t _ a b z.2) hn.2.2, fun t k a z => ?_, v4⟩
      obtain ⟨e1, e2⟩ := n4 t0 (lv t0) t k hA0 a z
      subst e1; subst e2
      exact ⟨hse.1, hb⟩
    · rw [mv_un e]
      exact ⟨v1, v2, v3, v4⟩
  · intro q hq x y hx hy ux uy hr s1 s2
    by_cases e : q = some (t0, lv t0 + 1)
    · subst e
      have hx' : x ≠ v := by intro z; subst z; exact hgone s1
      have hy' : y ≠ v := by intro z; subst z; exact hgone s2
      rw [mv_un hx'] at s1
      rw [mv_un hy'] at s2
      exact hU _ hq x y hx hy ux uy hr s1 s2
    · exact hU q hq x y hx hy ux uy hr ((hsame q hq e x).mp s1) ((hsame q hq e y).mp s2)
  · intro t a b w hw hu' hb'
    have e1 := hsame none trivial (by simp) w
    have e2 : mv_se (mv_vs sn nm t 0) (mk w) (mv_up en v (nm (4 * t0 + lv t0)) w) ↔ mv_se (mv_vs sn nm t 0) (mk w) (en w) := hsame (some (t, 0)) (mv_o_L a b) (by simp) w
    rw [mv_vs0] at e2
    exact e1.trans ((hO t a b w hw hu' hb').trans e2.symm)
  · refine mv_W_c hC ?_
    intro w hw
    exact and_congr Iff.rfl (hsame none trivial (by simp) w)
  · intro t k a
    by_cases e : t = t0 ∧ k = lv t0
    · obtain ⟨e1, e2⟩ := e
      subst e1; subst e2
      intro r hr
      obtain ⟨w1, w2⟩ := hW t (lv t) a r hr
      by_cases er : r = ro v
      · subst er
        rw [mv_set_s]
        refine ⟨fun x hx => absurd hx (by simp), fun _ w hw hu' hrw s => ?_⟩
        have hw' : w ≠ v := by intro z; subst z; exact hgone s
        rw [mv_un hw'] at s
        exact hw' (hU (some (t, lv t + 1)) (mv_A_L a) w v hw hv hu' hu hrw s hse)
      · rw [mv_set_r er]
        refine ⟨fun x hx => ?_, fun hx w hw hu' hrw s => ?_⟩
        · obtain ⟨w, hw, hu', hrw, s, hx'⟩ := w1 x hx
          refine ⟨w, hw, hu', hrw, ?_, hx'⟩
          rw [mv_un (by intro z; subst z; exact er hrw.symm)]
          exact s
        · rw [mv_un (by intro z; subst z; exact er hrw.symm)] at s
          exact w2 hx w hw hu' hrw s
    · rw [mv_set_n e]
      refine mv_W_c (hW t k a) ?_
      intro w hw
      refine and_congr Iff.rfl (hsame (some (t, k + 1)) (mv_A_L a) ?_ w)
      intro z
      have z' : (t, k + 1) = (t0, lv t0 + 1) := by simpa using z
      have z1 : t = t0 := congrArg Prod.fst z'
      have z2 : k + 1 = lv t0 + 1 := congrArg Prod.snd z'
      exact e ⟨z1, by omega⟩
theorem mv_ins {us : Nat → Bool} {ro : Nat → Nat} {vl : Nat → Int32} {mk en : Nat → Nat} {C R : Nat → Prop} {sn : Nat → Nat → Prop} {nm : Nat → Nat} {io : Nat → Bool} {lv : Nat → Nat} {tc ov : Nat → Int32} {cm : Nat → Option Int32} {vw : Nat → Nat → Nat → Option Int32}
    (h : mv_I us ro vl mk en C R sn nm io lv tc ov cm vw) {t0 v r : Nat} {x : Int32} (h4 : t0 < 4) (ho : io t0 = true) (hv : v < 96) (hu : ¬ us v = true) (hr8 : r < 8)
    (hb : mv_b (tc (4 * t0 + lv t0)) r = true) (hno : vw t0 (lv t0) r = none) :
    mv_I (mv_up us v true) (mv_up ro v r) (upd vl v x) (mv_up mk v (nm (4 * t0 + lv t0))) (mv_up en v 0) C R sn nm io lv tc ov cm (mv_set vw t0 (lv t0) r (some x)) := by
  obtain ⟨hN, hV, hU, hO, hD, hC, hW⟩ := h
  have hA0 : mv_A io lv t0 (lv t0) := ⟨h4, ho, Nat.le_refl _⟩
  have hn := hN.2.2.1 t0 _ hA0
  have n4 := hN.2.2.2.1
  have n5 := hN.2.2.2.2
  have hnS : ∀ q, mv_L io lv q → q ≠ some (t0, lv t0 + 1) → ¬ mv_S C sn nm q (nm (4 * t0 + lv t0)) := by
    intro q hq hne z
    obtain ⟨k', e, hk⟩ := (mv_Sn hN hA0 hq).mp z
    subst e
    have : k' ≤ lv t0 + 1 := hq.2.2
    have e' : k' = lv t0 + 1 := by omega
    exact hne (by rw [e'])
  have hnv : ∀ q, mv_L io lv q → q ≠ some (t0, lv t0 + 1) → ¬ mv_se (mv_S C sn nm q) (mv_up mk v (nm (4 * t0 + lv t0)) v) (mv_up en v 0 v) := by
    intro q hq hne z
    rw [mv_us, mv_us] at z
    rcases z.1 with y | y
    · omega
    · exact hnS q hq hne y
  have hsv : mv_se (mv_vs sn nm t0 (lv t0 + 1)) (mv_up mk v (nm (4 * t0 + lv t0)) v) (mv_up en v 0 v) := by
    rw [mv_us, mv_us]
    exact ⟨Or.inr (Or.inr ⟨lv t0, Nat.lt_succ_self _, rfl⟩), fun z => z.1 rfl⟩
  have hold : ∀ w, w ≠ v → mv_up us v true w = us w ∧ mv_up ro v r w = ro w ∧ upd vl v x w = vl w ∧ mv_up mk v (nm (4 * t0 + lv t0)) w = mk w ∧ mv_up en v 0 w = en w :=
    fun w hw => ⟨mv_un hw, mv_un hw, pk_un hw, mv_un hw, mv_un hw⟩
  have hWW : ∀ S o, mv_W us ro vl mk en S o → ¬ mv_se S (mv_up mk v (nm (4 * t0 + lv t0)) v) (mv_up en v 0 v) → mv_W (mv_up us v true) (mv_up ro v r) (upd vl v x) (mv_up mk v (nm (4 * t0 + lv t0))) (mv_up en v 0) S o := by
    intro S o hw hs r' hr'
    obtain ⟨w1, w2⟩ := hw r' hr'
    refine ⟨fun y hy => ?_, fun hy w hw' hu' hrw s => ?_⟩
    · obtain ⟨w, hw', hu', hrw, s, hy'⟩ := w1 y hy
      have e : w ≠ v := by intro z; subst z; exact hu hu'
      obtain ⟨a, b, c, d, f⟩ := hold w e
      exact ⟨w, hw', a.trans hu', b.trans hrw, by rw [d, f]; exact s, c.trans hy'⟩
    · by_cases e : w = v
      · subst e; exact hs s
      · obtain ⟨a, b, c, d, f⟩ := hold w e
        rw [a] at hu'; rw [b] at hrw; rw [d, f] at s
        exact w2 hy w hw' hu' hrw s
  refine ⟨hN, ?_, ?_, ?_, hD, hWW C cm hC (hnv none trivial (by simp)), ?_⟩
  · intro w hw hu'
    by_cases e : w = v
    · subst e
      rw [mv_us, mv_us, mv_us]
      refine ⟨fun z => absurd rfl z.1, fun t a b z => absurd rfl z.1, fun t k a z => ?_, fun t k a z => ?_⟩
      · have := (hN.2.2.1 t k a).1
        omega
      · obtain ⟨e1, e2⟩ := n4 t0 (lv t0) t k hA0 a z
        subst e1; subst e2
        exact hb
    · obtain ⟨a, b, c, d, f⟩ := hold w e
      rw [a] at hu'
      rw [b, d, f]
      exact hV w hw hu'
  · intro q hq y z hy hz uy uz hr s1 s2
    have side : ∀ w, w < 96 → w ≠ v → mv_up us v true w = true → mv_up ro v r w = mv_up ro v r v → mv_se (mv_S C sn nm q) (mv_up mk v (nm (4 * t0 + lv t0)) w) (mv_up en v 0 w) → mv_se (mv_S C sn nm q) (mv_up mk v (nm (4 * t0 + lv t0)) v) (mv_up en v 0 v) → False := by
      intro w hw e uw hrw s s'
      by_cases eq : q = some (t0, lv t0 + 1)
      · subst eq
        obtain ⟨a, b, c, d, f⟩ := hold w e
        rw [a] at uw
        rw [b, mv_us] at hrw
        rw [d, f] at s
        exact (hW t0 (lv t0) hA0 r hr8).2 hno w hw uw hrw s
      · exact hnv q hq eq s'
    by_cases ey : y = v
    · by_cases ez : z = v
      · exact ey.trans ez.symm
      · subst ey
        exact (side z hz ez uz hr.symm s2 s1).elim
    · by_cases ez : z = v
      · subst ez
        exact (side y hy ey uy hr s1 s2).elim
      · obtain ⟨a, b, c, d, f⟩ := hold y ey
        obtain ⟨a', b', c', d', f'⟩ := hold z ez
        rw [a] at uy; rw [a'] at uz; rw [b, b'] at hr; rw [d, f] at s1; rw [d', f'] at s2
        exact hU q hq y z hy hz uy uz hr s1 s2
  · intro t a b w hw hu' hb'
    by_cases e : w = v
    · subst e
      have e1 := hnv none trivial (by simp)
      have e2 : ¬ mv_se (mv_vs sn nm t 0) (mv_up mk w (nm (4 * t0 + lv t0)) w) (mv_up en w 0 w) := hnv (some (t, 0)) (mv_o_L a b) (by simp)
      rw [mv_vs0] at e2
      exact ⟨fun z => absurd z e1, fun z => absurd z e2⟩
    · obtain ⟨a', b', c, d, f⟩ := hold w e
      rw [a'] at hu'; rw [b'] at hb'; rw [d, f]
      exact hO t a b w hw hu' hb'
  · intro t k a
    by_cases e : t = t0 ∧ k = lv t0
    · obtain ⟨e1, e2⟩ := e
      subst e1; subst e2
      intro r' hr'
      by_cases er : r' = r
      · subst er
        rw [mv_set_s]
        refine ⟨fun y hy => ?_, fun z => absurd z (by simp)⟩
        have hy' : x = y := by simpa using hy
        subst hy'
        exact ⟨v, hv, mv_us, mv_us, hsv, pk_us⟩
      · rw [mv_set_r er]
        obtain ⟨w1, w2⟩ := hW t (lv t) a r' hr'
        refine ⟨fun y hy => ?_, fun hy w hw' hu' hrw s => ?_⟩
        · obtain ⟨w, hw', hu', hrw, s, hy'⟩ := w1 y hy
          have e : w ≠ v := by intro z; subst z; exact hu hu'
          obtain ⟨a, b, c, d, f⟩ := hold w e
          exact ⟨w, hw', a.trans hu', b.trans hrw, by rw [d, f]; exact s, c.trans hy'⟩
        · by_cases e : w = v
          · subst e
            rw [mv_us] at hrw
            exact er hrw.symm
          · obtain ⟨a, b, c, d, f⟩ := hold w e
            rw [a] at hu'; rw [b] at hrw; rw [d, f] at s
            exact w2 hy w hw' hu' hrw s
    · rw [mv_set_n e]
      refine hWW _ _ (hW t k a) (hnv (some (t, k + 1)) (mv_A_L a) ?_)
      intro z
      have z' : (t, k + 1) = (t0, lv t0 + 1) := by simpa using z
      have z1 : t = t0 := congrArg Prod.fst z'
      have z2 : k + 1 = lv t0 + 1 := congrArg Prod.snd z'
      exact e ⟨z1, by omega⟩
theorem mv_over {us : Nat → Bool} {ro : Nat → Nat} {vl : Nat → Int32} {mk en : Nat → Nat} {C R : Nat → Prop} {sn : Nat → Nat → Prop} {nm : Nat → Nat} {io : Nat → Bool} {lv : Nat → Nat} {tc ov : Nat → Int32} {cm : Nat → Option Int32} {vw : Nat → Nat → Nat → Option Int32}
    (h : mv_I us ro vl mk en C R sn nm io lv tc ov cm vw) {t0 v : Nat} {x : Int32} (h4 : t0 < 4) (ho : io t0 = true) (hv : v < 96) (hu : us v = true)
    (hm : mk v = nm (4 * t0 + lv t0)) (hse : mv_se (mv_vs sn nm t0 (lv t0 + 1)) (mk v) (en v)) :
    mv_I us ro (upd vl v x) mk en C R sn nm io lv tc ov cm (mv_set vw t0 (lv t0) (ro v) (some x)) := by
  obtain ⟨hN, hV, hU, hO, hD, hC, hW⟩ := h
  have hA0 : mv_A io lv t0 (lv t0) := ⟨h4, ho, Nat.le_refl _⟩
  have hn := hN.2.2.1 t0 _ hA0
  have hnv : ∀ q, mv_L io lv q → q ≠ some (t0, lv t0 + 1) → ¬ mv_se (mv_S C sn nm q) (mk v) (en v) := by
    intro q hq hne z
    rcases z.1 with y | y
    · rw [hm] at y; omega
    · rw [hm] at y
      obtain ⟨k', e, hk⟩ := (mv_Sn hN hA0 hq).mp y
      subst e
      have : k' ≤ lv t0 + 1 := hq.2.2
      have e' : k' = lv t0 + 1 := by omega
      exact hne (by rw [e'])
  have hWW : ∀ S o, mv_W us ro vl mk en S o → ¬ mv_se S (mk v) (en v) → mv_W us ro (upd vl v x) mk en S o := by
    intro S o hw hs r' hr'
    obtain ⟨w1, w2⟩ := hw r' hr'
    refine ⟨fun y hy => ?_, w2⟩
    obtain ⟨w, hw', hu', hrw, s, hy'⟩ := w1 y hy
    have e : w ≠ v := by intro z; subst z; exact hs s
    exact ⟨w, hw', hu', hrw, s, (pk_un e).trans hy'⟩
  refine ⟨hN, hV, hU, hO, hD, hWW C cm hC (hnv none trivial (by simp)), ?_⟩
  intro t k a
  by_cases e : t = t0 ∧ k = lv t0
  · obtain ⟨e1, e2⟩ := e
    subst e1; subst e2
    intro r' hr'
    obtain ⟨w1, w2⟩ := hW t (lv t) a r' hr'
    by_cases er : r' = ro v
    · subst er
      rw [mv_set_s]
      refine ⟨fun y hy => ?_, fun z => absurd z (by simp)⟩
      have hy' : x = y := by simpa using hy
      subst hy'
      exact ⟨v, hv, hu, rfl, hse, pk_us⟩
    · rw [mv_set_r er]
      refine ⟨fun y hy => ?_, w2⟩
      obtain ⟨w, hw', hu', hrw, s, hy'⟩ := w1 y hy
      have e : w ≠ v := by intro z; subst z; exact er hrw.symm
      exact ⟨w, hw', hu', hrw, s, (pk_un e).trans hy'⟩
  · rw [mv_set_n e]
    refine hWW _ _ (hW t k a) (hnv (some (t, k + 1)) (mv_A_L a) ?_)
    intro z
    have z' : (t, k + 1) = (t0, lv t0 + 1) := by simpa using z
    have z1 : t = t0 := congrArg Prod.fst z'
    have z2 : k + 1 = lv t0 + 1 := congrArg Prod.snd z'
    exact e ⟨z1, by omega⟩
end
section
/-! 06: pure: what tidy and flush keep, and that tidy makes room -/
def mv_ov (C R : Nat → Prop) (n : Nat) : Prop := n ≠ 0 ∧ ¬ C n ∧ ¬ R n
def mv_dd (C R : Nat → Prop) (sn : Nat → Nat → Prop) (io : Nat → Bool) (m e : Nat) : Prop :=
  mv_ov C R m ∨ (m = e ∧ m ≠ 0) ∨ (mv_en C e ∧ mv_in C m ∧ ∀ t, t < 4 → io t = true → ¬ mv_se (sn t) m e)
def mv_St (C : Nat → Prop) (pt al : Nat → Nat) (n n' : Nat) : Prop :=
  ((n = 0 ∨ ¬ C n) ∧ n' = n) ∨ (n ≠ 0 ∧ C n ∧ pt n = 15 ∧ n' = 0) ∨ (n ≠ 0 ∧ C n ∧ pt n < 15 ∧ n' = al (pt n) ∧ n' ≠ 0 ∧ C n' ∧ pt n' = pt n)
theorem mv_ph1 {us us' : Nat → Bool} {ro : Nat → Nat} {vl : Nat → Int32} {mk en en' : Nat → Nat} {C R : Nat → Prop} {sn : Nat → Nat → Prop} {nm : Nat → Nat} {io : Nat → Bool} {lv : Nat → Nat} {tc ov : Nat → Int32} {cm : Nat → Option Int32} {vw : Nat → Nat → Nat → Option Int32}
    (h : mv_I us ro vl mk en C R sn nm io lv tc ov cm vw)
    (he : ∀ v, v < 96 → us v = true → (en' v = en v ∨ (mv_ov C R (en v) ∧ en' v = 0)))
    (h1 : ∀ v, v < 96 → us' v = true → us v = true)
    (h2 : ∀ v, v < 96 → us v = true → ¬ us' v = true → mv_dd C R sn io (mk v) (en' v)) :
    mv_I us' ro vl mk en' C R sn nm io lv tc ov cm vw := by
  have hN := h.1
  obtain ⟨n1, n2, n3, n4, n5⟩ := hN
  have hN := h.1
  refine mv_tr h h1 ?_ (fun v hv hu q hq => Iff.rfl) ?_ ?_ (fun n z => z) n5
  · intro v hv hu hu' q hq hse
    rcases h2 v hv hu hu' with ⟨a, b, c⟩ | ⟨a, b⟩ | ⟨a, b, c⟩
    · rcases hse.1 with y | y
      · exact a y
      · exact mv_Sx hN b c hq y
    · have e : en' v = en v := by
        rcases he v hv hu with y | y
        · exact y
        · exact absurd (a.trans y.2) b
      rw [e] at a
      rcases hse.1 with y | y
      · exact b y
      · exact hse.2 ⟨fun z => b (a.trans z), a ▸ y⟩
    · have e : en' v = en v := by
        rcases he v hv hu with y | y
        · exact y
        · exact absurd y.2 a.1
      rw [e] at a c
      match q, hq with
      | none, _ => exact hse.2 a
      | some (t, k), ⟨l1, l2, l3⟩ =>
        refine c t l1 l2 ⟨?_, fun z => hse.2 ⟨z.1, Or.inl z.2⟩⟩
        rcases hse.1 with y | y
        · exact Or.inl y
        · rcases y with y | ⟨j, hj, y⟩
          · exact Or.inr y
          · rcases b with b | b
            · exact Or.inl b
            · rw [← y] at b
              exact absurd b (n3 t j ⟨l1, l2, by omega⟩).2.2
  · intro v hv hu q hq
    rcases he v hv (h1 v hv hu) with y | ⟨⟨a, b, c⟩, y⟩
    · rw [y]
    · rw [y]
      exact ⟨fun z => absurd rfl z.1, fun z => absurd z.2 (mv_Sx hN b c hq)⟩
  · intro v hv hu t k a
    refine ⟨id, fun z => ?_⟩
    rcases he v hv (h1 v hv hu) with y | ⟨_, y⟩
    · rw [← y]; exact z
    · have := (n3 t k a).1
      omega
theorem mv_St_in {C C' R : Nat → Prop} {sn sn' : Nat → Nat → Prop} {nm : Nat → Nat} {io : Nat → Bool} {lv : Nat → Nat} {iu : Nat → Prop} {pt al : Nat → Nat} (hN : mv_N C R sn nm io lv)
    (p1 : ∀ n, pt n = 15 → ∀ t, t < 4 → io t = true → mv_in (sn t) n)
    (p2 : ∀ n n', pt n = pt n' → ∀ t, t < 4 → io t = true → (mv_in (sn t) n ↔ mv_in (sn t) n'))
    (hC' : ∀ n, C' n ↔ (C n ∧ iu n)) (hsn : ∀ t, t < 4 → ∀ n, sn' t n ↔ (sn t n ∧ iu n)) {n n' : Nat} (hs : mv_St C pt al n n') (hu : iu n') {q : Option (Nat × Nat)} (hq : mv_L io lv q) :
    (mv_in (mv_S C' sn' nm q) n' ↔ mv_in (mv_S C sn nm q) n) ∧ (¬ (n ≠ 0 ∧ C n ∧ pt n = 15) → (mv_en (mv_S C' sn' nm q) n' ↔ mv_en (mv_S C sn nm q) n)) := by
  obtain ⟨n1, n2, n3, n4, n5⟩ := hN
  rcases hs with ⟨a, e⟩ | ⟨a, b, c, e⟩ | ⟨a, b, c, e, f, g, i⟩
  · subst e
    have hS : n' ≠ 0 → (mv_S C' sn' nm q n' ↔ mv_S C sn nm q n') := by
      intro hn0
      have hc : ¬ C n' := by
        rcases a with a | a
        · exact absurd a hn0
        · exact a
      match q, hq with
      | none, _ => exact ⟨fun z => ((hC' _).mp z).1, fun z => absurd z hc⟩
      | some (t, k), ⟨l1, l2, l3⟩ =>
        constructor
        · intro z
          rcases z with z | z
          · exact Or.inl ((hsn t l1 _).mp z).1
          · exact Or.inr z
        · intro z
          rcases z with z | z
          · exact absurd (n5 t _ l1 l2 z) hc
          · exact Or.inr z
    refine ⟨?_, fun _ => ?_⟩
    · constructor
      · intro z
        by_cases hn0 : n' = 0
        · exact Or.inl hn0
        · rcases z with z | z
          · exact Or.inl z
          · exact Or.inr ((hS hn0).mp z)
      · intro z
        by_cases hn0 : n' = 0
        · exact Or.inl hn0
        · rcases z with z | z
          · exact Or.inl z
          · exact Or.inr ((hS hn0).mpr z)
    · exact ⟨fun z => ⟨z.1, (hS z.1).mp z.2⟩, fun z => ⟨z.1, (hS z.1).mpr z.2⟩⟩
  · refine ⟨⟨fun _ => ?_, fun _ => Or.inl e⟩, fun z => absurd ⟨a, b, c⟩ z⟩
    match q, hq with
    | none, _ => exact Or.inr b
    | some (t, k), ⟨l1, l2, l3⟩ =>
      rcases p1 n c t l1 l2 with z | z
      · exact Or.inl z
      · exact Or.inr (Or.inl z)
  · have hS : mv_S C' sn' nm q n' ↔ mv_S C sn nm q n := by
      match q, hq with
      | none, _ => exact ⟨fun _ => b, fun _ => (hC' _).mpr ⟨g, hu⟩⟩
      | some (t, k), ⟨l1, l2, l3⟩ =>
        have hp := p2 n' n i t l1 l2
        constructor
        · intro z
          rcases z with z | ⟨j, hj, z⟩
          · rcases hp.mp (Or.inr ((hsn t l1 _).mp z).1) with y | y
            · exact absurd y a
            · exact Or.inl y
          · rw [← z] at g
            exact absurd g (n3 t j ⟨l1, l2, by omega⟩).2.2
        · intro z
          rcases z with z | ⟨j, hj, z⟩
          · rcases hp.mpr (Or.inr z) with y | y
            · exact absurd y f
            · exact Or.inl ((hsn t l1 _).mpr ⟨y, hu⟩)
          · rw [← z] at b
            exact absurd b (n3 t j ⟨l1, l2, by omega⟩).2.2
    refine ⟨?_, fun _ => ?_⟩
    · constructor
      · intro z
        rcases z with z | z
        · exact absurd z f
        · exact Or.inr (hS.mp z)
      · intro z
        rcases z with z | z
        · exact absurd z a
        · exact Or.inr (hS.mpr z)
    · exact ⟨fun z => ⟨a, hS.mp z.2⟩, fun z => ⟨f, hS.mpr z.2⟩⟩
theorem mv_ph2 {us : Nat → Bool} {ro : Nat → Nat} {vl : Nat → Int32} {mk en mk' en' : Nat → Nat} {C C' R : Nat → Prop} {sn sn' : Nat → Nat → Prop} {nm : Nat → Nat} {io : Nat → Bool} {lv : Nat → Nat} {tc ov : Nat → Int32} {cm : Nat → Option Int32} {vw : Nat → Nat → Nat → Option Int32} {iu : Nat → Prop} {pt al : Nat → Nat}
    (h : mv_I us ro vl mk en C R sn nm io lv tc ov cm vw)
    (hd : ∀ v, v < 96 → us v = true → ¬ mv_dd C R sn io (mk v) (en v))
    (p1 : ∀ n, pt n = 15 → ∀ t, t < 4 → io t = true → mv_in (sn t) n)
    (p2 : ∀ n n', pt n = pt n' → ∀ t, t < 4 → io t = true → (mv_in (sn t) n ↔ mv_in (sn t) n'))
    (hm : ∀ v, v < 96 → us v = true → mv_St C pt al (mk v) (mk' v) ∧ mv_St C pt al (en v) (en' v))
    (hiu : ∀ v, v < 96 → us v = true → iu (mk' v) ∧ iu (en' v))
    (hC' : ∀ n, C' n ↔ (C n ∧ iu n)) (hsn : ∀ t, t < 4 → ∀ n, sn' t n ↔ (sn t n ∧ iu n)) :
    mv_I us ro vl mk' en' C' R sn' nm io lv tc ov cm vw := by
  have hN := h.1
  have hV := h.2.1
  have n3 := hN.2.2.1
  have n5 := hN.2.2.2.2
  refine mv_tr h (fun v hv hu => hu) (fun v hv hu hu' => absurd hu hu') ?_ ?_ ?_ (fun n z => ((hC' n).mp z).1) ?_
  · intro v hv hu q hq
    exact (mv_St_in hN p1 p2 hC' hsn (hm v hv hu).1 (hiu v hv hu).1 hq).1
  · intro v hv hu q hq
    refine (mv_St_in hN p1 p2 hC' hsn (hm v hv hu).2 (hiu v hv hu).2 hq).2 ?_
    intro ⟨a, b, c⟩
    refine hd v hv hu (Or.inr (Or.inr ⟨⟨a, b⟩, (hV v hv hu).1 ⟨a, b⟩, ?_⟩))
    intro t ht ho z
    rcases p1 _ c t ht ho with y | y
    · exact a y
    · exact z.2 ⟨a, y⟩
  · have key : ∀ n n', mv_St C pt al n n' → ∀ t k, mv_A io lv t k → n' = nm (4 * t + k) → n = nm (4 * t + k) := by
      intro n n' hs t k a z
      obtain ⟨x1, x2, x3⟩ := n3 t k a
      rcases hs with ⟨_, e⟩ | ⟨_, _, _, e⟩ | ⟨_, _, _, e, _, g, _⟩
      · rw [← e]; exact z
      · omega
      · rw [z] at g; exact absurd g x3
    intro v hv hu t k a
    exact ⟨key _ _ (hm v hv hu).1 t k a, key _ _ (hm v hv hu).2 t k a⟩
  · intro t n ht ho z
    have y := (hsn t ht n).mp z
    exact (hC' n).mpr ⟨n5 t n ht ho y.1, y.2⟩
theorem mv_sur {m n : Nat} {g : Nat → Nat} (h : ∀ i, i < n → ∃ c, c < m ∧ g c = i) : n ≤ m := by
  rcases Nat.lt_or_ge m n with z | z
  · obtain ⟨i, j, hij, hj, e⟩ := mv_pigeon m n (fun i => if hi : i < n then Classical.choose (h i hi) else 0) z (by
      intro i hi
      show (if hi : i < n then Classical.choose (h i hi) else 0) < m
      rw [dif_pos hi]
      exact (Classical.choose_spec (h i hi)).1)
    have hi : i < n := by omega
    have e' : (if hi : i < n then Classical.choose (h i hi) else 0) = (if hi : j < n then Classical.choose (h j hi) else 0) := e
    rw [dif_pos hi, dif_pos hj] at e'
    have a := (Classical.choose_spec (h i hi)).2
    have b := (Classical.choose_spec (h j hj)).2
    rw [e'] at a
    omega
  · exact z
theorem mv_inj {m n : Nat} {P : Nat → Nat → Prop} (h : ∀ i, i < n → ∃ c, c < m ∧ P i c) (hi : ∀ i j c, i < n → j < n → P i c → P j c → i = j) : n ≤ m := by
  rcases Nat.lt_or_ge m n with z | z
  · obtain ⟨i, j, hij, hj, e⟩ := mv_pigeon m n (fun i => if hi : i < n then Classical.choose (h i hi) else 0) z (by
      intro i hi
      show (if hi : i < n then Classical.choose (h i hi) else 0) < m
      rw [dif_pos hi]
      exact (Classical.choose_spec (h i hi)).1)
    have hi' : i < n := by omega
    have e' : (if hi : i < n then Classical.choose (h i hi) else 0) = (if hi : j < n then Classical.choose (h j hi) else 0) := e
    rw [dif_pos hi', dif_pos hj] at e'
    have a := (Classical.choose_spec (h i hi')).2
    have b := (Classical.choose_spec (h j hj)).2
    rw [e'] at a
    have := hi i j _ hi' hj a b
    omega
  · exact z
/-- after tidy a number from 1 to 62 is free -/
theorem mv_cntN {us : Nat → Bool} {mk en mk' en' : Nat → Nat} {C C' R : Nat → Prop} {sn : Nat → Nat → Prop} {nm : Nat → Nat} {io : Nat → Bool} {lv : Nat → Nat} {iu : Nat → Prop} {pt al : Nat → Nat}
    (hN : mv_N C R sn nm io lv)
    (hd : ∀ v, v < 96 → us v = true → ¬ mv_dd C R sn io (mk v) (en v)) (he : ∀ v, v < 96 → us v = true → ¬ mv_ov C R (en v))
    (hm : ∀ v, v < 96 → us v = true → mv_St C pt al (mk v) (mk' v) ∧ mv_St C pt al (en v) (en' v))
    (hC' : ∀ n, C' n ↔ (C n ∧ iu n)) (hiu : ∀ n, iu n → (R n ∨ ∃ v, v < 96 ∧ us v = true ∧ (mk' v = n ∨ en' v = n))) :
    ∃ n, 1 ≤ n ∧ n < 63 ∧ ¬ C' n ∧ ¬ R n ∧ ∀ v, v < 96 → us v = true → mk' v ≠ n ∧ en' v ≠ n := by
  apply Classical.byContradiction
  intro hno
  have key : ∀ n, 1 ≤ n → n < 63 → (R n ∨ ∃ v, v < 96 ∧ us v = true ∧ (mk' v = n ∨ en' v = n)) := by
    intro n a b
    apply Classical.byContradiction
    intro z
    refine hno ⟨n, a, b, fun y => z (hiu n ((hC' n).mp y).2), fun y => z (Or.inl y), fun v hv hu => ⟨fun y => z (Or.inr ⟨v, hv, hu, Or.inl y⟩), fun y => z (Or.inr ⟨v, hv, hu, Or.inr y⟩)⟩⟩
  have cR : ∀ n, R n → ∃ c, c < 31 ∧ (fun c => (if c < 16 then nm c else al (c - 16)) - 1) c = n - 1 := by
    intro n z
    obtain ⟨t, k, ⟨a, b, c⟩, e⟩ := (hN.2.1 n).mp z
    have := hN.1 t a
    refine ⟨4 * t + k, by omega, ?_⟩
    show (if 4 * t + k < 16 then nm (4 * t + k) else al (4 * t + k - 16)) - 1 = n - 1
    rw [if_pos (by omega), e]
  have cS : ∀ m n, 1 ≤ n → ¬ mv_ov C R m → mv_St C pt al m n → ∃ c, c < 31 ∧ (fun c => (if c < 16 then nm c else al (c - 16)) - 1) c = n - 1 := by
    intro m n hn hov hs
    rcases hs with ⟨a, e⟩ | ⟨a, b, c, e⟩ | ⟨a, b, c, e, f, g, i⟩
    · subst e
      have hc : ¬ C n := by
        rcases a with a | a
        · omega
        · exact a
      apply cR
      apply Classical.byContradiction
      intro z
      exact hov ⟨by omega, hc, z⟩
    · omega
    · refine ⟨16 + pt m, by omega, ?_⟩
      show (if 16 + pt m < 16 then nm (16 + pt m) else al (16 + pt m - 16)) - 1 = n - 1
      rw [if_neg (by omega), show 16 + pt m - 16 = pt m by omega, ← e]
  have := mv_sur (m := 31) (n := 62) (g := fun c => (if c < 16 then nm c else al (c - 16)) - 1) (by
    intro i hi
    have e : i = (i + 1) - 1 := by omega
    rw [e]
    rcases key (i + 1) (by omega) (by omega) with z | ⟨v, hv, hu, z | z⟩
    · exact cR _ z
    · refine cS (mk v) _ (by omega) (fun y => hd v hv hu (Or.inl y)) ?_
      rw [← z]; exact (hm v hv hu).1
    · refine cS (en v) _ (by omega) (he v hv hu) ?_
      rw [← z]; exact (hm v hv hu).2)
  omega
/-- after tidy a version is free -/
theorem mv_cntV {us : Nat → Bool} {ro : Nat → Nat} {vl : Nat → Int32} {mk en : Nat → Nat} {C R : Nat → Prop} {sn : Nat → Nat → Prop} {nm : Nat → Nat} {io : Nat → Bool} {lv : Nat → Nat} {tc ov : Nat → Int32} {cm : Nat → Option Int32} {vw : Nat → Nat → Nat → Option Int32}
    (h : mv_I us ro vl mk en C R sn nm io lv tc ov cm vw)
    (hd : ∀ v, v < 96 → us v = true → ¬ mv_dd C R sn io (mk v) (en v)) (he : ∀ v, v < 96 → us v = true → ¬ mv_ov C R (en v))
    (hro : ∀ v, v < 96 → ro v < 8) : ∃ v, v < 96 ∧ ¬ us v = true := by
  apply Classical.byContradiction
  intro hno
  have hall : ∀ v, v < 96 → us v = true := by
    intro v hv
    apply Classical.byContradiction
    intro z
    exact hno ⟨v, hv, z⟩
  obtain ⟨⟨n1, n2, n3, n4, n5⟩, hV, hU, hO, hD, hC, hW⟩ := h
  have := mv_inj (m := 72) (n := 96) (P := fun v c => ∃ s, s < 9 ∧ c = 9 * ro v + s ∧ (s = 0 → mv_se C (mk v) (en v)) ∧ (∀ t, t < 4 → s = 1 + t → io t = true ∧ mv_se (sn t) (mk v) (en v)) ∧ (∀ k, s = 5 + k → ∃ t, mv_A io lv t k ∧ mk v = nm (4 * t + k) ∧ mv_se (mv_vs sn nm t (k + 1)) (mk v) (en v))) (by
    intro v hv
    have hu := hall v hv
    have hr := hro v hv
    obtain ⟨v1, v2, v3, v4⟩ := hV v hv hu
    have nd := hd v hv hu
    have ne := he v hv hu
    by_cases c1 : mv_in C (mk v)
    · by_cases c2 : mv_en C (en v)
      · have : ∃ t, t < 4 ∧ io t = true ∧ mv_se (sn t) (mk v) (en v) := by
          apply Classical.byContradiction
          intro z
          exact nd (Or.inr (Or.inr ⟨c2, c1, fun t ht ho y => z ⟨t, ht, ho, y⟩⟩))
        obtain ⟨t, ht, ho, hs⟩ := this
        refine ⟨9 * ro v + (1 + t), by omega, 1 + t, by omega, rfl, fun z => by omega, fun t' ht' e => ?_, fun k e => by omega⟩
        have : t' = t := by omega
        subst this
        exact ⟨ho, hs⟩
      · exact ⟨9 * ro v + 0, by omega, 0, by omega, rfl, fun _ => ⟨c1, c2⟩, fun t ht e => by omega, fun k e => by omega⟩
    · have m0 : mk v ≠ 0 := fun z => c1 (Or.inl z)
      have mC : ¬ C (mk v) := fun z => c1 (Or.inr z)
      have mR : R (mk v) := by
        apply Classical.byContradiction
        intro z
        exact nd (Or.inl ⟨m0, mC, z⟩)
      obtain ⟨t, k, ha, em⟩ := (n2 _).mp mR
      have hk3 := n1 t ha.1
      have hk := ha.2.2
      refine ⟨9 * ro v + (5 + k), by omega, 5 + k, by omega, rfl, fun z => by omega, fun t' ht' e => by omega, fun k' e => ?_⟩
      have : k' = k := by omega
      subst this
      refine ⟨t, ha, em.symm, ⟨Or.inr (Or.inr ⟨k', Nat.lt_succ_self _, em⟩), ?_⟩⟩
      intro ⟨z0, z⟩
      rcases z with z | ⟨j, hj, z⟩
      · exact mC ((v1 ⟨z0, n5 t _ ha.1 ha.2.1 z⟩).resolve_left m0)
      · have haj : mv_A io lv t j := ⟨ha.1, ha.2.1, by omega⟩
        by_cases ej : j = k'
        · subst ej
          exact nd (Or.inr (Or.inl ⟨em.symm.trans z, m0⟩))
        · rcases (v3 t j haj z.symm).1 with y | y
          · exact m0 y
          · rcases y with y | ⟨i, hi, y⟩
            · exact mC (n5 t _ ha.1 ha.2.1 y)
            · have := (n4 t i t k' ⟨ha.1, ha.2.1, by omega⟩ ha (y.trans em.symm)).2
              omega) (by
    intro v w c hv hw ⟨s, hs, ec, q0, q1, q2⟩ ⟨s', hs', ec', q0', q1', q2'⟩
    have es : s = s' := by omega
    have er : ro v = ro w := by omega
    subst es
    have hu := hall v hv
    have hu' := hall w hw
    by_cases e0 : s = 0
    · exact hU none trivial v w hv hw hu hu' er (q0 e0) (q0' e0)
    · by_cases e1 : s < 5
      · have a := q1 (s - 1) (by omega) (by omega)
        have b := q1' (s - 1) (by omega) (by omega)
        have a' : mv_se (mv_vs sn nm (s - 1) 0) (mk v) (en v) := by rw [mv_vs0]; exact a.2
        have b' : mv_se (mv_vs sn nm (s - 1) 0) (mk w) (en w) := by rw [mv_vs0]; exact b.2
        exact hU (some (s - 1, 0)) (mv_o_L (by omega) a.1) v w hv hw hu hu' er a' b'
      · obtain ⟨t, ha, em, hse⟩ := q2 (s - 5) (by omega)
        obtain ⟨t', ha', em', hse'⟩ := q2' (s - 5) (by omega)
        have b1 := (hV v hv hu).2.2.2 t _ ha em
        have b2 := (hV w hw hu').2.2.2 t' _ ha' em'
        have et : t = t' := by
          apply Classical.byContradiction
          intro z
          rw [er] at b1
          exact hD.1 t _ t' _ _ ha ha' z b1 b2
        subst et
        exact hU (some (t, s - 5 + 1)) (mv_A_L ha) v w hv hw hu hu' er hse hse')
  omega
end
section
/-! 07: the arrays matched with the picture; the walks of the reading methods -/
def mv_bs (x : Int64) : Nat → Prop := fun n => mv_B x n = true
def mv_Mv (a1 a2 a4 a5 : Nat → Int32) (us : Nat → Bool) (ro mk en : Nat → Nat) : Prop :=
  ∀ v, v < 96 → (a1 v = 0 ↔ us v = false) ∧ a2 v = nI (ro v) ∧ ro v < 8 ∧ a4 v = nI (mk v) ∧ mk v < 63 ∧ a5 v = nI (en v) ∧ en v < 63
def mv_Mt (a6 a8 a9 a10 a11 : Nat → Int32) (io : Nat → Bool) (lv nm : Nat → Nat) (tc ov : Nat → Int32) : Prop :=
  (∀ t, t < 4 → (a6 t = 0 ↔ io t = false) ∧ a8 t = nI (lv t) ∧ lv t ≤ 3 ∧ a11 t = ov t) ∧ ∀ i, i < 16 → a9 i = nI (nm i) ∧ nm i < 63 ∧ a10 i = tc i
/-- the masks' union over the first k levels from place b on -/
def mv_cf (tc : Nat → Int32) (b : Nat) : Nat → Int32
  | 0 => 0
  | k + 1 => mv_cf tc b k ||| tc (b + k)
theorem mv_cf_b (tc : Nat → Int32) (b k i : Nat) : mv_b (mv_cf tc b k) i = true ↔ ∃ j, j < k ∧ mv_b (tc (b + j)) i = true := by
  induction k with
  | zero =>
    show mv_b 0 i = true ↔ _
    rw [mv_b_0]
    exact ⟨fun z => absurd z (by decide), fun ⟨j, hj, _⟩ => by omega⟩
  | succ k ih =>
    show mv_b (mv_cf tc b k ||| tc (b + k)) i = true ↔ _
    rw [mv_b_or, Bool.or_eq_true, ih]
    constructor
    · intro z
      rcases z with ⟨j, hj, z⟩ | z
      · exact ⟨j, by omega, z⟩
      · exact ⟨k, by omega, z⟩
    · intro ⟨j, hj, z⟩
      by_cases e : j = k
      · subst e; exact Or.inr z
      · exact Or.inl ⟨j, by omega, z⟩
theorem mv_ix {t i : Nat} : nI t * 4 + nI i = nI (4 * t + i) := by
  show nI t * nI 4 + nI i = _
  rw [pk_mul, nI_add, Nat.mul_comm]
theorem mv_nt {b : Bool} (h : ¬ b = false) : b = true := by cases b <;> first | rfl | exact absurd rfl h
theorem mv_nf {b : Bool} (h : ¬ b = true) : b = false := by cases b <;> first | rfl | exact absurd rfl h
section
variable {C R : Int64} {a1 a2 a3 a4 a5 a6 : Nat → Int32} {a7 : Nat → Int64} {a8 a9 a10 a11 a12 : Nat → Int32} {us : Nat → Bool} {ro mk en : Nat → Nat} {nm : Nat → Nat} {io : Nat → Bool} {lv : Nat → Nat} {tc ov : Nat → Int32} {cm : Nat → Option Int32} {vw : Nat → Nat → Nat → Option Int32}
theorem mv_w_in {post : Int32 → Prop} {S : Int64} {n : Nat} (hn : n < 63) (h1 : mv_in (mv_bs S) n → post 1) (h0 : ¬ mv_in (mv_bs S) n → post 0) : wpX_in post (C, R, a1, a2, a3, a4, a5, a6, a7, a8, a9, a10, a11, a12) S (nI n) :=
  pk_eq n 0 (fun e => h1 (Or.inl e)) (fun e => br_c (fun z => h1 (Or.inr ((mv_B_t S (by omega)).mp z))) (fun z => h0 (fun y => y.elim e (fun y => z ((mv_B_t S (by omega)).mpr y)))))
theorem mv_w_bit {post : Int64 → Prop} {n : Nat} (hn : n < 63) (h : ∀ x, (∀ i, mv_B x i = true ↔ i = n) → post x) : wpX_bit post (C, R, a1, a2, a3, a4, a5, a6, a7, a8, a9, a10, a11, a12) (nI n) := h _ (mv_B_sl (by omega))
theorem mv_w_sees (hM : mv_Mv a1 a2 a4 a5 us ro mk en) {post : Int32 → Prop} {S : Int64} {v : Nat} (hv : v < 96) (h1 : mv_se (mv_bs S) (mk v) (en v) → post 1) (h0 : ¬ mv_se (mv_bs S) (mk v) (en v) → post 0) : wpX_sees post (C, R, a1, a2, a3, a4, a5, a6, a7, a8, a9, a10, a11, a12) S (nI v) := by
  obtain ⟨m1, m2, m3, m4, m5, m6, m7⟩ := hM v hv
  unfold wpX_sees
  dsimp only
  rw [nI_clamp (n := v) (by omega), m4, m6]
  refine ⟨pk_in v 96 hv, mv_w_in m5 (fun z => ?_) (fun z => br_t rfl (h0 (fun y => z y.1)))⟩
  refine br_f (by decide) ⟨pk_in v 96 hv, ?_⟩
  refine pk_eq (en v) 0 (fun e => h1 ⟨z, fun y => y.1 e⟩) (fun e => ⟨pk_in v 96 hv, ?_⟩)
  refine mv_w_in m7 (fun y => br_f (by decide) (h0 (fun x => x.2 ⟨e, y.resolve_left e⟩))) (fun y => br_t rfl (h1 ⟨z, fun x => y (Or.inr x.2)⟩))
theorem mv_w_vf (hM : mv_Mv a1 a2 a4 a5 us ro mk en) {post : Int32 → Prop} {S : Int64} {r : Nat} (hr : r < 8)
    (h0 : (∀ v, v < 96 → us v = true → ro v = r → ¬ mv_se (mv_bs S) (mk v) (en v)) → post (-1))
    (h1 : ∀ v, v < 96 → us v = true → ro v = r → mv_se (mv_bs S) (mk v) (en v) → post (nI v)) : wpX_versionFor post (C, R, a1, a2, a3, a4, a5, a6, a7, a8, a9, a10, a11, a12) S (nI r) :=
  pk_loop (σ := Unit) (fun n i _ => wX_versionFor_3 post S (nI r) C R a1 a2 a3 a4 a5 a6 a7 a8 a9 a10 a11 a12 n (nI i)) (fun i _ => ∀ v, v < i → us v = true → ro v = r → ¬ mv_se (mv_bs S) (mk v) (en v)) 96 0 () (by omega) (fun v hv => absurd hv (by omega))
    (fun n _ h => pk_le 96 96 (fun _ => h0 h) (fun z => absurd z (by omega)))
    (fun n i _ hi h hw => pk_le 96 i (fun z => absurd z (by omega)) (fun _ => by
      obtain ⟨m1, m2, m3, m4, m5, m6, m7⟩ := hM i hi
      rw [nI_clamp (n := i) (by omega), m2]
      have go : (us i = true → ro i = r → ¬ mv_se (mv_bs S) (mk i) (en i)) → wX_versionFor_3 post S (nI r) C R a1 a2 a3 a4 a5 a6 a7 a8 a9 a10 a11 a12 n (nI (i + 1)) := fun k => hw () (lt_s h k)
      refine ⟨pk_in i 96 hi, br_c (fun z => nm_r (nI_1 i) (go (fun y => absurd (y.symm.trans (m1.mp z)) (by decide)))) (fun z => ⟨pk_in i 96 hi, ?_⟩)⟩
      have hu := mv_nt (fun y => z (m1.mpr y))
      refine pk_eq (ro i) r (fun e => ?_) (fun e => nm_r (nI_1 i) (go (fun _ y => absurd y e)))
      exact mv_w_sees hM hi (fun y => br_f (by decide) (h1 i hi hu e y)) (fun y => br_t rfl (nm_r (nI_1 i) (go (fun _ _ => y))))))
theorem mv_w_own (hT : mv_Mt a6 a8 a9 a10 a11 io lv nm tc ov) {post : Int64 → Prop} {t : Nat} (ht : t < 4)
    (h : ∀ x, (∀ n, mv_B x n = true ↔ ∃ j, j < lv t + 1 ∧ nm (4 * t + j) = n) → post x) : wpX_ownSet post (C, R, a1, a2, a3, a4, a5, a6, a7, a8, a9, a10, a11, a12) (nI t) := by
  obtain ⟨e6, e8, e8', e11⟩ := hT.1 t ht
  refine pk_loop (fun n i s => wX_ownSet_5 post (nI t) C R a1 a2 a3 a4 a5 a6 a7 a8 a9 a10 a11 a12 n s (nI i)) (fun i s => ∀ n, mv_B s n = true ↔ ∃ j, j < i ∧ nm (4 * t + j) = n) (lv t + 1) 0 0 (by omega) ?_ ?_ ?_
  · intro n
    rw [mv_B_0]
    exact ⟨fun z => absurd z (by decide), fun ⟨j, hj, _⟩ => by omega⟩
  · intro n s hs
    refine ⟨pk_in t 4 ht, ?_⟩
    rw [nI_clamp (n := t) (by omega), e8]
    exact pk_lt (lv t) (lv t + 1) (fun _ => h s hs) (fun z => absurd z (by omega))
  · intro n i s hi hs hw
    refine ⟨pk_in t 4 ht, ?_⟩
    rw [nI_clamp (n := t) (by omega), e8, mv_ix, nI_clamp (n := 4 * t + i) (by omega)]
    obtain ⟨e9, e9', e10⟩ := hT.2 (4 * t + i) (by omega)
    rw [e9]
    refine pk_lt (lv t) i (fun z => absurd z (by omega)) (fun _ => ⟨pk_in (4 * t + i) 16 (by omega), mv_w_bit e9' (fun x hx => nm_e (nm_r (nI_1 i) (hw _ ?_)))⟩)
    intro m
    rw [mv_B_or, Bool.or_eq_true, hs, hx]
    constructor
    · intro z
      rcases z with ⟨j, hj, z⟩ | z
      · exact ⟨j, by omega, z⟩
      · exact ⟨i, by omega, z.symm⟩
    · intro ⟨j, hj, z⟩
      by_cases e : j = i
      · subst e; exact Or.inr z.symm
      · exact Or.inl ⟨j, by omega, z⟩
theorem mv_w_cb (hT : mv_Mt a6 a8 a9 a10 a11 io lv nm tc ov) {post : Int32 → Prop} {t : Nat} (ht : t < 4)
    (h : post (mv_cf tc (4 * t) (lv t + 1))) : wpX_changedBy post (C, R, a1, a2, a3, a4, a5, a6, a7, a8, a9, a10, a11, a12) (nI t) := by
  obtain ⟨e6, e8, e8', e11⟩ := hT.1 t ht
  refine pk_loop (σ := Unit) (fun n i _ => wX_changedBy_4 post (nI t) C R a1 a2 a3 a4 a5 a6 a7 a8 a9 a10 a11 a12 n (mv_cf tc (4 * t) i) (nI i)) (fun _ _ => True) (lv t + 1) 0 () (by omega) trivial ?_ ?_
  · intro n _ _
    refine ⟨pk_in t 4 ht, ?_⟩
    rw [nI_clamp (n := t) (by omega), e8]
    exact pk_lt (lv t) (lv t + 1) (fun _ => h) (fun z => absurd z (by omega))
  · intro n i _ hi _ hw
    refine ⟨pk_in t 4 ht, ?_⟩
    rw [nI_clamp (n := t) (by omega), e8, mv_ix, nI_clamp (n := 4 * t + i) (by omega)]
    obtain ⟨e9, e9', e10⟩ := hT.2 (4 * t + i) (by omega)
    rw [e10]
    exact pk_lt (lv t) i (fun z => absurd z (by omega)) (fun _ => ⟨pk_in (4 * t + i) 16 (by omega), nm_e (nm_r (nI_1 i) (hw () trivial))⟩)
theorem mv_w_ref (hT : mv_Mt a6 a8 a9 a10 a11 io lv nm tc ov) {post : Int32 → Prop} {t : Nat} (ht : t < 4)
    (h0 : io t = false → post (-2)) (h1 : io t = true → post 0) : wpX_refused post (C, R, a1, a2, a3, a4, a5, a6, a7, a8, a9, a10, a11, a12) (nI t) := by
  obtain ⟨e6, e8, e8', e11⟩ := hT.1 t ht
  refine pk_lt t 0 (fun z => absurd z (by omega)) (fun _ => pk_lt t 4 (fun _ => ⟨pk_in t 4 ht, ?_⟩) (fun z => absurd z (by omega)))
  rw [nI_clamp (n := t) (by omega)]
  exact br_c (fun z => h0 (e6.mp z)) (fun z => h1 (mv_nt (fun y => z (e6.mpr y))))
theorem mv_w_refr (hT : mv_Mt a6 a8 a9 a10 a11 io lv nm tc ov) {post : Int32 → Prop} {t r : Nat} (ht : t < 4) (hr : r < 8)
    (h0 : io t = false → post (-2)) (h1 : io t = true → post 0) : wpX_refusedRow post (C, R, a1, a2, a3, a4, a5, a6, a7, a8, a9, a10, a11, a12) (nI t) (nI r) := by
  unfold wpX_refusedRow
  dsimp only
  exact mv_w_ref hT ht (fun z => br_f (by decide) (h0 z)) (fun z => br_t (by decide) (pk_lt r 0 (fun z => absurd z (by omega)) (fun _ => pk_lt r 8 (fun _ => h1 z) (fun z => absurd z (by omega)))))
theorem mv_vs_bs {x : Int64} {t k : Nat} (hx : ∀ n, mv_B x n = true ↔ ∃ j, j < k ∧ nm (4 * t + j) = n) : mv_bs (a7 t ||| x) = mv_vs (fun t => mv_bs (a7 t)) nm t k := by
  funext n
  apply propext
  show mv_B (a7 t ||| x) n = true ↔ (mv_B (a7 t) n = true ∨ _)
  rw [mv_B_or, Bool.or_eq_true, hx]
/-- what versionFor finds for a view, by that view's picture -/
theorem mv_view {S : Nat → Prop} {vl : Nat → Int32} {o : Nat → Option Int32} {r : Nat} (hr : r < 8) (hW : mv_W us ro vl mk en S o) :
    ((∀ v, v < 96 → us v = true → ro v = r → ¬ mv_se S (mk v) (en v)) → o r = none) := by
  intro h
  cases e : o r with
  | none => rfl
  | some x =>
    obtain ⟨v, hv, hu, hro, hse, _⟩ := (hW r hr).1 x e
    exact absurd hse (h v hv hu hro)
theorem mv_viewS {S : Nat → Prop} {vl : Nat → Int32} {o : Nat → Option Int32} {r v : Nat} (hr : r < 8) (hW : mv_W us ro vl mk en S o)
    (hU : ∀ v w, v < 96 → w < 96 → us v = true → us w = true → ro v = ro w → mv_se S (mk v) (en v) → mv_se S (mk w) (en w) → v = w)
    (hv : v < 96) (hu : us v = true) (hro : ro v = r) (hse : mv_se S (mk v) (en v)) : o r = some (vl v) := by
  cases e : o r with
  | none => exact absurd hse ((hW r hr).2 e v hv hu hro)
  | some x =>
    obtain ⟨w, hw, hu', hro', hse', ex⟩ := (hW r hr).1 x e
    have := hU v w hv hw hu hu' (hro.trans hro'.symm) hse hse'
    subst this
    rw [ex]
theorem mv_w_vo (hM : mv_Mv a1 a2 a4 a5 us ro mk en) (hT : mv_Mt a6 a8 a9 a10 a11 io lv nm tc ov) (hI : mv_I us ro a3 mk en (mv_bs C) (mv_bs R) (fun t => mv_bs (a7 t)) nm io lv tc ov cm vw)
    {post : Int32 → Prop} {t r : Nat} (ht : t < 4) (ho : io t = true) (hr : r < 8)
    (h0 : vw t (lv t) r = none → post (-1))
    (h1 : ∀ v, v < 96 → us v = true → ro v = r → mv_se (mv_vs (fun t => mv_bs (a7 t)) nm t (lv t + 1)) (mk v) (en v) → vw t (lv t) r = some (a3 v) → post (nI v)) : wpX_versionOf post (C, R, a1, a2, a3, a4, a5, a6, a7, a8, a9, a10, a11, a12) (nI t) (nI r) := by
  have hA : mv_A io lv t (lv t) := ⟨ht, ho, Nat.le_refl _⟩
  have hW := hI.2.2.2.2.2.2 t (lv t) hA
  have hU := hI.2.2.1 (some (t, lv t + 1)) (mv_A_L hA)
  unfold wpX_versionOf
  dsimp only
  rw [nI_clamp (n := t) (by omega)]
  refine mv_w_own hT ht (fun x hx => ⟨pk_in t 4 ht, ?_⟩)
  have e := mv_vs_bs (a7 := a7) hx
  refine mv_w_vf hM hr (fun z => ?_) (fun v hv hu hro hse => ?_)
  · rw [e] at z
    exact h0 (mv_view hr hW z)
  · rw [e] at hse
    exact h1 v hv hu hro hse (mv_viewS hr hW hU hv hu hro hse)
theorem mv_w_vc (hM : mv_Mv a1 a2 a4 a5 us ro mk en) (hI : mv_I us ro a3 mk en (mv_bs C) (mv_bs R) (fun t => mv_bs (a7 t)) nm io lv tc ov cm vw)
    {post : Int32 → Prop} {r : Nat} (hr : r < 8)
    (h0 : cm r = none → post (-1))
    (h1 : ∀ v, v < 96 → cm r = some (a3 v) → post (nI v)) : wpX_versionFor post (C, R, a1, a2, a3, a4, a5, a6, a7, a8, a9, a10, a11, a12) C (nI r) := by
  have hW := hI.2.2.2.2.2.1
  have hU := hI.2.2.1 none trivial
  exact mv_w_vf hM hr (fun z => h0 (mv_view hr hW z)) (fun v hv hu hro hse => h1 v hv (mv_viewS hr hW hU hv hu hro hse))
end
end
section
/-! 08: a state represents an abstract one; what the public reading methods answer -/
def mv_Q (C R : Int64) (a1 a2 a3 a4 a5 a6 : Nat → Int32) (a7 : Nat → Int64) (a8 a9 a10 a11 : Nat → Int32) (io : Nat → Bool) (lv : Nat → Nat) (tc ov : Nat → Int32) (cm : Nat → Option Int32) (vw : Nat → Nat → Nat → Option Int32) : Prop :=
  ∃ us ro mk en nm, mv_Mv a1 a2 a4 a5 us ro mk en ∧ mv_Mt a6 a8 a9 a10 a11 io lv nm tc ov ∧ mv_I us ro a3 mk en (mv_bs C) (mv_bs R) (fun t => mv_bs (a7 t)) nm io lv tc ov cm vw
def mv_R (c : St1) (io : Nat → Bool) (lv : Nat → Nat) (tc ov : Nat → Int32) (cm : Nat → Option Int32) (vw : Nat → Nat → Nat → Option Int32) : Prop := match c with
  | (C, R, a1, a2, a3, a4, a5, a6, a7, a8, a9, a10, a11, a12) => mv_Q C R a1 a2 a3 a4 a5 a6 a7 a8 a9 a10 a11 io lv tc ov cm vw
def mv_cnt (o : Nat → Option Int32) : Nat → Int32
  | 0 => 0
  | k + 1 => if (o k).isSome = true then mv_cnt o k + 1 else mv_cnt o k
def mv_sum (o : Nat → Option Int32) : Nat → Int32
  | 0 => 0
  | k + 1 => if (o k).isSome = true then mv_sum o k + (o k).getD 0 else mv_sum o k
/-- the answers: get, has, count, sum, changed of a running or closed transaction -/
def mv_aget (io : Nat → Bool) (lv : Nat → Nat) (vw : Nat → Nat → Nat → Option Int32) (t r : Nat) : Int32 := if io t = true then (vw t (lv t) r).getD 0 else 0
def mv_ahas (io : Nat → Bool) (lv : Nat → Nat) (vw : Nat → Nat → Nat → Option Int32) (t r : Nat) : Int32 := if io t = true then (if (vw t (lv t) r).isSome = true then 1 else 0) else 0
def mv_acnt (io : Nat → Bool) (lv : Nat → Nat) (vw : Nat → Nat → Nat → Option Int32) (t : Nat) : Int32 := if io t = true then mv_cnt (vw t (lv t)) 8 else -2
def mv_asum (io : Nat → Bool) (lv : Nat → Nat) (vw : Nat → Nat → Nat → Option Int32) (t : Nat) : Int32 := if io t = true then mv_sum (vw t (lv t)) 8 else 0
def mv_ach (io : Nat → Bool) (lv : Nat → Nat) (tc : Nat → Int32) (t : Nat) : Int32 := if io t = true then mv_cf tc (4 * t) (lv t + 1) else -2
theorem mv_cnt_s {o : Nat → Option Int32} {k : Nat} {x : Int32} (h : o k = some x) : mv_cnt o (k + 1) = mv_cnt o k + 1 := by
  show (if (o k).isSome = true then mv_cnt o k + 1 else mv_cnt o k) = _
  rw [h]
  exact if_pos rfl
theorem mv_cnt_n {o : Nat → Option Int32} {k : Nat} (h : o k = none) : mv_cnt o (k + 1) = mv_cnt o k := by
  show (if (o k).isSome = true then mv_cnt o k + 1 else mv_cnt o k) = _
  rw [h, if_neg (by decide)]
theorem mv_sum_s {o : Nat → Option Int32} {k : Nat} {x : Int32} (h : o k = some x) : mv_sum o (k + 1) = mv_sum o k + x := by
  show (if (o k).isSome = true then mv_sum o k + (o k).getD 0 else mv_sum o k) = _
  rw [h]
  exact if_pos rfl
theorem mv_sum_n {o : Nat → Option Int32} {k : Nat} (h : o k = none) : mv_sum o (k + 1) = mv_sum o k := by
  show (if (o k).isSome = true then mv_sum o k + (o k).getD 0 else mv_sum o k) = _
  rw [h, if_neg (by decide)]
section
variable {c : St1} {io : Nat → Bool} {lv : Nat → Nat} {tc ov : Nat → Int32} {cm : Nat → Option Int32} {vw : Nat → Nat → Nat → Option Int32}
theorem mv_r_ch (hQ : mv_R c io lv tc ov cm vw) {post : Int32 → Prop} {t : Nat} (ht : t < 4) (hp : post (mv_ach io lv tc t)) : wpX_changed post c (nI t) := by
  obtain ⟨C, R, a1, a2, a3, a4, a5, a6, a7, a8, a9, a10, a11, a12⟩ := c
  obtain ⟨us, ro, mk, en, nm, hM, hT, hI⟩ := hQ
  unfold wpX_changed
  dsimp only
  unfold mv_ach at hp
  refine mv_w_ref hT ht (fun z => br_f (by decide) ?_) (fun z => br_t (by decide) (mv_w_cb hT ht ?_))
  · rw [z, if_neg (by decide)] at hp; exact hp
  · rw [if_pos z] at hp; exact hp
theorem mv_r_get (hQ : mv_R c io lv tc ov cm vw) {post : Int32 → Prop} {t r : Nat} (ht : t < 4) (hr : r < 8) (hp : post (mv_aget io lv vw t r)) : wpX_get post c (nI t) (nI r) := by
  obtain ⟨C, R, a1, a2, a3, a4, a5, a6, a7, a8, a9, a10, a11, a12⟩ := c
  obtain ⟨us, ro, mk, en, nm, hM, hT, hI⟩ := hQ
  unfold wpX_get
  dsimp only
  unfold mv_aget at hp
  refine mv_w_refr hT ht hr (fun z => br_f (by decide) ?_) (fun z => br_t (by decide) (mv_w_vo hM hT hI ht z hr (fun y => br_f (by decide) ?_) (fun v hv hu hro hse y => br_t (nI_pos' (by omega)) ⟨pk_in v 96 hv, ?_⟩)))
  · rw [z, if_neg (by decide)] at hp; exact hp
  · rw [if_pos z, y] at hp; exact hp
  · rw [if_pos z, y] at hp
    rw [nI_clamp (by omega)]
    exact hp
theorem mv_r_has (hQ : mv_R c io lv tc ov cm vw) {post : Int32 → Prop} {t r : Nat} (ht : t < 4) (hr : r < 8) (hp : post (mv_ahas io lv vw t r)) : wpX_has post c (nI t) (nI r) := by
  obtain ⟨C, R, a1, a2, a3, a4, a5, a6, a7, a8, a9, a10, a11, a12⟩ := c
  obtain ⟨us, ro, mk, en, nm, hM, hT, hI⟩ := hQ
  unfold wpX_has
  dsimp only
  unfold mv_ahas at hp
  refine mv_w_refr hT ht hr (fun z => br_f (by decide) ?_) (fun z => br_t (by decide) (mv_w_vo hM hT hI ht z hr (fun y => br_t (by decide) ?_) (fun v hv hu hro hse y => br_f (nI_pos (by omega)) ?_)))
  · rw [z, if_neg (by decide)] at hp; exact hp
  · rw [if_pos z, y] at hp; exact hp
  · rw [if_pos z, y] at hp; exact hp
theorem mv_r_cm (hQ : mv_R c io lv tc ov cm vw) {post : Int32 → Prop} {r : Nat} (hr : r < 8) (hp : post ((cm r).getD 0)) : wpX_committed post c (nI r) := by
  obtain ⟨C, R, a1, a2, a3, a4, a5, a6, a7, a8, a9, a10, a11, a12⟩ := c
  obtain ⟨us, ro, mk, en, nm, hM, hT, hI⟩ := hQ
  refine pk_lt r 0 (fun z => absurd z (by omega)) (fun _ => pk_lt r 8 (fun _ => mv_w_vc hM hI hr (fun y => br_f (by decide) ?_) (fun v hv y => br_t (nI_pos' (by omega)) ⟨pk_in v 96 hv, ?_⟩)) (fun z => absurd z (by omega)))
  · rw [y] at hp; exact hp
  · rw [y] at hp
    rw [nI_clamp (by omega)]
    exact hp
theorem mv_r_rows (hQ : mv_R c io lv tc ov cm vw) {post : Int32 → Prop} (hp : post (mv_cnt cm 8)) : wpX_rows post c := by
  obtain ⟨C, R, a1, a2, a3, a4, a5, a6, a7, a8, a9, a10, a11, a12⟩ := c
  obtain ⟨us, ro, mk, en, nm, hM, hT, hI⟩ := hQ
  refine pk_loop (σ := Unit) (fun n i _ => wX_rows_4 post C R a1 a2 a3 a4 a5 a6 a7 a8 a9 a10 a11 a12 n (mv_cnt cm i) (nI i)) (fun _ _ => True) 8 0 () (by omega) trivial ?_ ?_
  · intro n _ _
    exact pk_le 8 8 (fun _ => hp) (fun z => absurd z (by omega))
  · intro n i _ hi _ hw
    refine pk_le 8 i (fun z => absurd z (by omega)) (fun _ => mv_w_vc hM hI hi (fun y => br_f (by decide) (nm_r (nI_1 i) ?_)) (fun v hv y => br_t (nI_pos' (by omega)) (nm_r (mv_cnt_s y).symm (nm_r (nI_1 i) (hw () trivial)))))
    have := hw () trivial
    rw [mv_cnt_n y] at this
    exact this
theorem mv_r_cnt (hQ : mv_R c io lv tc ov cm vw) {post : Int32 → Prop} {t : Nat} (ht : t < 4) (hp : post (mv_acnt io lv vw t)) : wpX_count post c (nI t) := by
  obtain ⟨C, R, a1, a2, a3, a4, a5, a6, a7, a8, a9, a10, a11, a12⟩ := c
  obtain ⟨us, ro, mk, en, nm, hM, hT, hI⟩ := hQ
  unfold wpX_count
  dsimp only
  unfold mv_acnt at hp
  refine mv_w_ref hT ht (fun z => br_f (by decide) ?_) (fun z => br_t (by decide) ?_)
  · rw [z, if_neg (by decide)] at hp; exact hp
  · rw [if_pos z] at hp
    refine pk_loop (σ := Unit) (fun n i _ => wX_count_17 post (nI t) C R a1 a2 a3 a4 a5 a6 a7 a8 a9 a10 a11 a12 n (mv_cnt (vw t (lv t)) i) (nI i)) (fun _ _ => True) 8 0 () (by omega) trivial ?_ ?_
    · intro n _ _
      exact pk_le 8 8 (fun _ => hp) (fun z => absurd z (by omega))
    · intro n i _ hi _ hw
      refine pk_le 8 i (fun z => absurd z (by omega)) (fun _ => mv_w_vo hM hT hI ht z hi (fun y => br_f (by decide) (nm_r (nI_1 i) ?_)) (fun v hv hu hro hse y => br_t (nI_pos' (by omega)) (nm_r (mv_cnt_s y).symm (nm_r (nI_1 i) (hw () trivial)))))
      have := hw () trivial
      rw [mv_cnt_n y] at this
      exact this
theorem mv_r_sum (hQ : mv_R c io lv tc ov cm vw) {post : Int32 → Prop} {t : Nat} (ht : t < 4) (hp : post (mv_asum io lv vw t)) : wpX_sum post c (nI t) := by
  obtain ⟨C, R, a1, a2, a3, a4, a5, a6, a7, a8, a9, a10, a11, a12⟩ := c
  obtain ⟨us, ro, mk, en, nm, hM, hT, hI⟩ := hQ
  unfold wpX_sum
  dsimp only
  unfold mv_asum at hp
  refine mv_w_ref hT ht (fun z => br_f (by decide) ?_) (fun z => br_t (by decide) ?_)
  · rw [z, if_neg (by decide)] at hp; exact hp
  · rw [if_pos z] at hp
    refine pk_loop (σ := Unit) (fun n i _ => wX_sum_17 post (nI t) C R a1 a2 a3 a4 a5 a6 a7 a8 a9 a10 a11 a12 n (mv_sum (vw t (lv t)) i) (nI i)) (fun _ _ => True) 8 0 () (by omega) trivial ?_ ?_
    · intro n _ _
      exact pk_le 8 8 (fun _ => hp) (fun z => absurd z (by omega))
    · intro n i _ hi _ hw
      refine pk_le 8 i (fun z => absurd z (by omega)) (fun _ => mv_w_vo hM hT hI ht z hi (fun y => br_f (by decide) (nm_r (nI_1 i) ?_)) (fun v hv hu hro hse y => br_t (nI_pos' (by omega)) ⟨pk_in v 96 hv, ?_⟩))
      · have := hw () trivial
        rw [mv_sum_n y] at this
        exact this
      · rw [nI_clamp (by omega)]
        exact nm_r (mv_sum_s y).symm (nm_r (nI_1 i) (hw () trivial))
end
end
section
/-! 09: the walks of tidy's helpers: over, dead, pattern, standing; free numbers and versions -/
def mv_pf (q : Nat → Bool) : Nat → Nat
  | 0 => 0
  | k + 1 => mv_pf q k + (q k).toNat * 2 ^ k
def mv_pq (io : Nat → Bool) (a7 : Nat → Int64) (n t : Nat) : Bool := !io t || decide (n = 0) || mv_B (a7 t) n
def mv_pt (io : Nat → Bool) (a7 : Nat → Int64) (n : Nat) : Nat := mv_pf (mv_pq io a7 n) 4
theorem mv_pf4 (q : Nat → Bool) : mv_pf q 4 = (q 0).toNat + 2 * (q 1).toNat + 4 * (q 2).toNat + 8 * (q 3).toNat := by
  show 0 + (q 0).toNat * 2 ^ 0 + (q 1).toNat * 2 ^ 1 + (q 2).toNat * 2 ^ 2 + (q 3).toNat * 2 ^ 3 = _
  omega
theorem mv_tn_le (b : Bool) : b.toNat ≤ 1 := by cases b <;> decide
theorem mv_tn_1 {b : Bool} (h : b.toNat = 1) : b = true := by
  cases b
  · exact absurd h (by decide)
  · rfl
theorem mv_tn_e {b c : Bool} (h : b.toNat = c.toNat) : b = c := by
  cases b <;> cases c <;> first | rfl | exact absurd h (by decide)
theorem mv_pf_lt (q : Nat → Bool) : mv_pf q 4 < 16 := by
  rw [mv_pf4]
  have := mv_tn_le (q 0); have := mv_tn_le (q 1); have := mv_tn_le (q 2); have := mv_tn_le (q 3)
  omega
theorem mv_pf_15 {q : Nat → Bool} (h : mv_pf q 4 = 15) : ∀ t, t < 4 → q t = true := by
  rw [mv_pf4] at h
  have := mv_tn_le (q 0); have := mv_tn_le (q 1); have := mv_tn_le (q 2); have := mv_tn_le (q 3)
  intro t ht
  match t, ht with
  | 0, _ => exact mv_tn_1 (by omega)
  | 1, _ => exact mv_tn_1 (by omega)
  | 2, _ => exact mv_tn_1 (by omega)
  | 3, _ => exact mv_tn_1 (by omega)
theorem mv_pf_inj {q q' : Nat → Bool} (h : mv_pf q 4 = mv_pf q' 4) : ∀ t, t < 4 → q t = q' t := by
  rw [mv_pf4, mv_pf4] at h
  have := mv_tn_le (q 0); have := mv_tn_le (q 1); have := mv_tn_le (q 2); have := mv_tn_le (q 3)
  have := mv_tn_le (q' 0); have := mv_tn_le (q' 1); have := mv_tn_le (q' 2); have := mv_tn_le (q' 3)
  intro t ht
  match t, ht with
  | 0, _ => exact mv_tn_e (by omega)
  | 1, _ => exact mv_tn_e (by omega)
  | 2, _ => exact mv_tn_e (by omega)
  | 3, _ => exact mv_tn_e (by omega)
theorem mv_pf_b : ∀ i, i < 4 → ∀ p, p < 16 → p < 2 ^ i → nI p ||| ((1 : Int32) <<< (nI i &&& 31)) = nI (p + 2 ^ i) := by decide +kernel
theorem mv_pf_up (q : Nat → Bool) (i : Nat) : mv_pf q i < 2 ^ i := by
  induction i with
  | zero => show 0 < 2 ^ 0; decide
  | succ i ih =>
    show mv_pf q i + (q i).toNat * 2 ^ i < 2 ^ (i + 1)
    have := mv_tn_le (q i)
    have e : 2 ^ (i + 1) = 2 ^ i + 2 ^ i := by rw [Nat.pow_succ]; omega
    have : (q i).toNat * 2 ^ i ≤ 1 * 2 ^ i := Nat.mul_le_mul_right _ this
    omega
theorem mv_pq_t {io : Nat → Bool} {a7 : Nat → Int64} {n t : Nat} (ho : io t = true) : mv_pq io a7 n t = true ↔ mv_in (mv_bs (a7 t)) n := by
  unfold mv_pq mv_in mv_bs
  rw [ho, Bool.or_eq_true, Bool.or_eq_true, decide_eq_true_eq]
  simp
theorem mv_p1 {io : Nat → Bool} {a7 : Nat → Int64} : ∀ n, mv_pt io a7 n = 15 → ∀ t, t < 4 → io t = true → mv_in (mv_bs (a7 t)) n :=
  fun n h t ht ho => (mv_pq_t ho).mp (mv_pf_15 h t ht)
theorem mv_p2 {io : Nat → Bool} {a7 : Nat → Int64} : ∀ n n', mv_pt io a7 n = mv_pt io a7 n' → ∀ t, t < 4 → io t = true → (mv_in (mv_bs (a7 t)) n ↔ mv_in (mv_bs (a7 t)) n') := by
  intro n n' h t ht ho
  rw [← mv_pq_t ho, ← mv_pq_t ho, mv_pf_inj h t ht]
/-- the table of numbers that stand for others -/
def mv_al (C : Int64) (io : Nat → Bool) (a7 : Nat → Int64) (a12 : Nat → Int32) (al : Nat → Nat) : Prop :=
  ∀ p, p < 16 → a12 p = nI (al p) ∧ al p < 63 ∧ (al p ≠ 0 → mv_bs C (al p) ∧ mv_pt io a7 (al p) = p)
theorem mv_St_mono {C : Nat → Prop} {pt al al' : Nat → Nat} {n n' : Nat} (h : mv_St C pt al n n') (ha : ∀ p, p < 16 → al p ≠ 0 → al' p = al p) : mv_St C pt al' n n' := by
  rcases h with h | h | ⟨a, b, c, e, f, g, i⟩
  · exact Or.inl h
  · exact Or.inr (Or.inl h)
  · refine Or.inr (Or.inr ⟨a, b, c, ?_, f, g, i⟩)
    rw [ha _ (by omega) (by rw [← e]; exact f)]
    exact e
theorem mv_Mv1 {a1 a2 a4 a5 : Nat → Int32} {us : Nat → Bool} {ro mk en : Nat → Nat} (h : mv_Mv a1 a2 a4 a5 us ro mk en) {v : Nat} {x : Int32} {b : Bool} (hx : x = 0 ↔ b = false) : mv_Mv (upd a1 v x) a2 a4 a5 (mv_up us v b) ro mk en := by
  intro w hw
  obtain ⟨m1, m2⟩ := h w hw
  refine ⟨?_, m2⟩
  by_cases e : w = v
  · subst e; rw [pk_us, mv_us]; exact hx
  · rw [pk_un e, mv_un e]; exact m1
theorem mv_Mv2 {a1 a2 a4 a5 : Nat → Int32} {us : Nat → Bool} {ro mk en : Nat → Nat} (h : mv_Mv a1 a2 a4 a5 us ro mk en) {v n : Nat} (hn : n < 8) : mv_Mv a1 (upd a2 v (nI n)) a4 a5 us (mv_up ro v n) mk en := by
  intro w hw
  obtain ⟨m1, m2, m3, m4⟩ := h w hw
  by_cases e : w = v
  · subst e; rw [pk_us, mv_us]; exact ⟨m1, rfl, hn, m4⟩
  · rw [pk_un e, mv_un e]; exact ⟨m1, m2, m3, m4⟩
theorem mv_Mv4 {a1 a2 a4 a5 : Nat → Int32} {us : Nat → Bool} {ro mk en : Nat → Nat} (h : mv_Mv a1 a2 a4 a5 us ro mk en) {v n : Nat} (hn : n < 63) : mv_Mv a1 a2 (upd a4 v (nI n)) a5 us ro (mv_up mk v n) en := by
  intro w hw
  obtain ⟨m1, m2, m3, m4, m5, m6⟩ := h w hw
  by_cases e : w = v
  · subst e; rw [pk_us, mv_us]; exact ⟨m1, m2, m3, rfl, hn, m6⟩
  · rw [pk_un e, mv_un e]; exact ⟨m1, m2, m3, m4, m5, m6⟩
theorem mv_Mv5 {a1 a2 a4 a5 : Nat → Int32} {us : Nat → Bool} {ro mk en : Nat → Nat} (h : mv_Mv a1 a2 a4 a5 us ro mk en) {v n : Nat} (hn : n < 63) : mv_Mv a1 a2 a4 (upd a5 v (nI n)) us ro mk (mv_up en v n) := by
  intro w hw
  obtain ⟨m1, m2, m3, m4, m5, m6, m7⟩ := h w hw
  by_cases e : w = v
  · subst e; rw [pk_us, mv_us]; exact ⟨m1, m2, m3, m4, m5, rfl, hn⟩
  · rw [pk_un e, mv_un e]; exact ⟨m1, m2, m3, m4, m5, m6, m7⟩
section
variable {C R : Int64} {a1 a2 a3 a4 a5 a6 : Nat → Int32} {a7 : Nat → Int64} {a8 a9 a10 a11 a12 : Nat → Int32} {us : Nat → Bool} {ro mk en : Nat → Nat} {nm : Nat → Nat} {io : Nat → Bool} {lv : Nat → Nat} {tc ov : Nat → Int32} {cm : Nat → Option Int32} {vw : Nat → Nat → Nat → Option Int32}
theorem mv_w_over {post : Int32 → Prop} {n : Nat} (hn : n < 63) (h1 : mv_ov (mv_bs C) (mv_bs R) n → post 1) (h0 : ¬ mv_ov (mv_bs C) (mv_bs R) n → post 0) : wpX_over post (C, R, a1, a2, a3, a4, a5, a6, a7, a8, a9, a10, a11, a12) (nI n) := by
  have hb : mv_bs (C ||| R) n ↔ (mv_bs C n ∨ mv_bs R n) := by
    show mv_B (C ||| R) n = true ↔ _
    rw [mv_B_or, Bool.or_eq_true]
    exact Iff.rfl
  refine pk_eq n 0 (fun e => h0 (fun z => z.1 e)) (fun e => mv_w_in hn (fun z => br_f (by decide) (h0 (fun y => ?_))) (fun z => br_t rfl (h1 ⟨e, fun y => z (Or.inr (hb.mpr (Or.inl y))), fun y => z (Or.inr (hb.mpr (Or.inr y)))⟩)))
  rcases z with z | z
  · exact e z
  · exact (hb.mp z).elim y.2.1 y.2.2
theorem mv_w_dead (hM : mv_Mv a1 a2 a4 a5 us ro mk en) (hT : mv_Mt a6 a8 a9 a10 a11 io lv nm tc ov) {post : Int32 → Prop} {v : Nat} (hv : v < 96)
    (h1 : mv_dd (mv_bs C) (mv_bs R) (fun t => mv_bs (a7 t)) io (mk v) (en v) → post 1) (h0 : ¬ mv_dd (mv_bs C) (mv_bs R) (fun t => mv_bs (a7 t)) io (mk v) (en v) → post 0) : wpX_dead post (C, R, a1, a2, a3, a4, a5, a6, a7, a8, a9, a10, a11, a12) (nI v) := by
  obtain ⟨m1, m2, m3, m4, m5, m6, m7⟩ := hM v hv
  have rest : ¬ mv_ov (mv_bs C) (mv_bs R) (mk v) → ¬ (mk v = en v ∧ mk v ≠ 0) → wX_dead_39 post (nI v) C R a1 a2 a3 a4 a5 a6 a7 a8 a9 a10 a11 a12 := by
    intro z1 z2
    unfold wX_dead_39
    rw [nI_clamp (n := v) (by omega), m4, m6]
    have hno : ¬ (mv_en (mv_bs C) (en v) ∧ mv_in (mv_bs C) (mk v)) → post 0 := by
      intro z
      apply h0
      intro y
      rcases y with y | y | y
      · exact z1 y
      · exact z2 y
      · exact z ⟨y.1, y.2.1⟩
    refine ⟨pk_in v 96 hv, pk_eq (en v) 0 (fun e => hno (fun y => y.1.1 e)) (fun e => ⟨pk_in v 96 hv, ?_⟩)⟩
    refine mv_w_in m7 (fun z3 => br_f (by decide) ⟨pk_in v 96 hv, ?_⟩) (fun z3 => br_t rfl (hno (fun y => z3 (Or.inr y.1.2))))
    refine mv_w_in m5 (fun z4 => br_f (by decide) ?_) (fun z4 => br_t rfl (hno (fun y => z4 y.2)))
    refine pk_loop (σ := Unit) (fun n i _ => wX_dead_86 post (nI v) C R a1 a2 a3 a4 a5 a6 a7 a8 a9 a10 a11 a12 n (nI i)) (fun i _ => ∀ t, t < i → io t = true → ¬ mv_se (mv_bs (a7 t)) (mk v) (en v)) 4 0 () (by omega) (fun t ht => absurd ht (by omega)) ?_ ?_
    · intro n _ h
      exact pk_le 4 4 (fun _ => h1 (Or.inr (Or.inr ⟨⟨e, z3.resolve_left e⟩, z4, h⟩))) (fun z => absurd z (by omega))
    · intro n i _ hi h hw
      have go : (io i = true → ¬ mv_se (mv_bs (a7 i)) (mk v) (en v)) → wX_dead_86 post (nI v) C R a1 a2 a3 a4 a5 a6 a7 a8 a9 a10 a11 a12 n (nI (i + 1)) := fun k => hw () (lt_s h k)
      obtain ⟨e6, _⟩ := hT.1 i hi
      refine pk_le 4 i (fun z => absurd z (by omega)) (fun _ => ?_)
      rw [nI_clamp (n := i) (by omega)]
      refine ⟨pk_in i 4 hi, br_c (fun z => nm_r (nI_1 i) (go (fun y => absurd (y.symm.trans (e6.mp z)) (by decide)))) (fun z => ⟨pk_in i 4 hi, ?_⟩)⟩
      have ho := mv_nt (fun y => z (e6.mpr y))
      refine mv_w_sees hM hv (fun y => br_f (by decide) (h0 (fun x => ?_))) (fun y => br_t rfl (nm_r (nI_1 i) (go (fun _ => y))))
      rcases x with x | x | x
      · exact z1 x
      · exact z2 x
      · exact x.2.2 i hi ho y
  unfold wpX_dead
  dsimp only
  rw [nI_clamp (n := v) (by omega), m4, m6]
  refine ⟨pk_in v 96 hv, mv_w_over m5 (fun z => br_f (by decide) (h1 (Or.inl z))) (fun z => br_t rfl ⟨pk_in v 96 hv, pk_in v 96 hv, ?_⟩)⟩
  refine pk_eq (mk v) (en v) (fun e => ⟨pk_in v 96 hv, pk_eq (mk v) 0 (fun e' => rest z (fun y => y.2 e')) (fun e' => h1 (Or.inr (Or.inl ⟨e, e'⟩)))⟩) (fun e => rest z (fun y => e y.1))
theorem mv_w_pat (hT : mv_Mt a6 a8 a9 a10 a11 io lv nm tc ov) {post : Int32 → Prop} {n : Nat} (hn : n < 63) (h : post (nI (mv_pt io a7 n))) : wpX_pattern post (C, R, a1, a2, a3, a4, a5, a6, a7, a8, a9, a10, a11, a12) (nI n) := by
  refine pk_loop (σ := Unit) (fun m i _ => wX_pattern_4 post (nI n) C R a1 a2 a3 a4 a5 a6 a7 a8 a9 a10 a11 a12 m (nI (mv_pf (mv_pq io a7 n) i)) (nI i)) (fun _ _ => True) 4 0 () (by omega) trivial ?_ ?_
  · intro m _ _
    exact pk_le 4 4 (fun _ => h) (fun z => absurd z (by omega))
  · intro m i _ hi _ hw
    obtain ⟨e6, _⟩ := hT.1 i hi
    have hi' := mv_pf_up (mv_pq io a7 n) i
    have h16 : (2 : Nat) ^ i ≤ 2 ^ 4 := Nat.pow_le_pow_right (by omega) (by omega)
    have yes : mv_pq io a7 n i = true → wX_pattern_32 post (wX_pattern_4 post (nI n) C R a1 a2 a3 a4 a5 a6 a7 a8 a9 a10 a11 a12 m) (nI n) (nI (mv_pf (mv_pq io a7 n) i)) (nI i) C R a1 a2 a3 a4 a5 a6 a7 a8 a9 a10 a11 a12 := by
      intro e
      refine nm_r (mv_pf_b i hi _ (by omega) hi') (nm_r (nI_1 i) ?_)
      have t : wX_pattern_4 post (nI n) C R a1 a2 a3 a4 a5 a6 a7 a8 a9 a10 a11 a12 m (nI (mv_pf (mv_pq io a7 n) i + (mv_pq io a7 n i).toNat * 2 ^ i)) (nI (i + 1)) := hw () trivial
      rw [e] at t
      rw [show mv_pf (mv_pq io a7 n) i + true.toNat * 2 ^ i = mv_pf (mv_pq io a7 n) i + 2 ^ i by show _ + 1 * 2 ^ i = _; omega] at t
      exact t
    have no : mv_pq io a7 n i = false → wX_pattern_4 post (nI n) C R a1 a2 a3 a4 a5 a6 a7 a8 a9 a10 a11 a12 m (nI (mv_pf (mv_pq io a7 n) i)) (nI (i + 1)) := by
      intro e
      have t : wX_pattern_4 post (nI n) C R a1 a2 a3 a4 a5 a6 a7 a8 a9 a10 a11 a12 m (nI (mv_pf (mv_pq io a7 n) i + (mv_pq io a7 n i).toNat * 2 ^ i)) (nI (i + 1)) := hw () trivial
      rw [e] at t
      rw [show mv_pf (mv_pq io a7 n) i + false.toNat * 2 ^ i = mv_pf (mv_pq io a7 n) i by show _ + 0 * 2 ^ i = _; omega] at t
      exact t
    refine pk_le 4 i (fun z => absurd z (by omega)) (fun _ => ?_)
    rw [nI_clamp (n := i) (by omega)]
    refine ⟨pk_in i 4 hi, br_c (fun z => yes ?_) (fun z => ⟨pk_in i 4 hi, ?_⟩)⟩
    · unfold mv_pq
      rw [e6.mp z]
      rfl
    · have ho := mv_nt (fun y => z (e6.mpr y))
      exact mv_w_in hn (fun y => br_f (by decide) (yes ((mv_pq_t ho).mpr y))) (fun y => br_t rfl (nm_r (nI_1 i) (no (mv_nf (fun x => y ((mv_pq_t ho).mp x))))))
theorem mv_w_st (hT : mv_Mt a6 a8 a9 a10 a11 io lv nm tc ov) {post : Int32 → St1 → Prop} {n : Nat} (hn : n < 63) {al : Nat → Nat} (ha : mv_al C io a7 a12 al)
    (h : ∀ n' al' a12', mv_al C io a7 a12' al' → (∀ p, p < 16 → al p ≠ 0 → al' p = al p) → mv_St (mv_bs C) (mv_pt io a7) al' n n' → n' < 63 → post (nI n') (C, R, a1, a2, a3, a4, a5, a6, a7, a8, a9, a10, a11, a12')) : wpX_standing post (C, R, a1, a2, a3, a4, a5, a6, a7, a8, a9, a10, a11, a12) (nI n) := by
  have hb := mv_B_f C (j := n) (by omega)
  have hp16 : mv_pt io a7 n < 16 := mv_pf_lt _
  refine pk_eq n 0 (fun e => h n al a12 ha (fun p _ _ => rfl) (Or.inl ⟨Or.inl e, rfl⟩) hn) (fun e => br_c (fun z => h n al a12 ha (fun p _ _ => rfl) (Or.inl ⟨Or.inr (hb.mp z), rfl⟩) hn) (fun z => mv_w_pat hT hn ?_))
  have hC : mv_bs C n := mv_nt (fun y => z (hb.mpr (fun x => absurd (x.symm.trans y) (by decide))))
  refine pk_eq (mv_pt io a7 n) 15 (fun e' => h 0 al a12 ha (fun p _ _ => rfl) (Or.inr (Or.inl ⟨e, hC, e', rfl⟩)) (by omega)) (fun e' => ⟨pk_in _ 16 hp16, ?_⟩) (ha := by omega)
  obtain ⟨b1, b2, b3⟩ := ha _ hp16
  rw [nI_clamp (n := mv_pt io a7 n) (by omega), b1]
  refine pk_eq (al (mv_pt io a7 n)) 0 (fun e2 => ⟨pk_in _ 16 hp16, nm_e ⟨pk_in _ 16 hp16, ?_⟩⟩) (fun e2 => ⟨pk_in _ 16 hp16, ?_⟩)
  · rw [pk_us]
    refine h n (mv_up al (mv_pt io a7 n) n) _ ?_ ?_ (Or.inr (Or.inr ⟨e, hC, by omega, mv_us.symm, e, hC, rfl⟩)) hn
    · intro p hp
      by_cases ep : p = mv_pt io a7 n
      · subst ep; rw [pk_us, mv_us]; exact ⟨rfl, hn, fun _ => ⟨hC, rfl⟩⟩
      · rw [pk_un ep, mv_un ep]; exact ha p hp
    · intro p hp hne
      by_cases ep : p = mv_pt io a7 n
      · subst ep; exact absurd e2 hne
      · exact mv_un ep
  · exact h _ al a12 ha (fun p _ _ => rfl) (Or.inr (Or.inr ⟨e, hC, by omega, rfl, e2, (b3 e2).1, (b3 e2).2⟩)) b2
theorem mv_w_st2 (hT : mv_Mt a6 a8 a9 a10 a11 io lv nm tc ov) {post : Int32 → St1 → Prop} {n : Nat} (hn : n < 63) {al : Nat → Nat} (ha : mv_al C io a7 a12 al)
    (h : ∀ n' al' a12', mv_al C io a7 a12' al' → (∀ p, p < 16 → al p ≠ 0 → al' p = al p) → mv_St (mv_bs C) (mv_pt io a7) al' n n' → n' < 63 → post (nI n') (C, R, a1, a2, a3, a4, a5, a6, a7, a8, a9, a10, a11, a12')) : wpX_standing_2 post (C, R, a1, a2, a3, a4, a5, a6, a7, a8, a9, a10, a11, a12) (nI n) :=
  mv_w_st hT hn ha h
theorem mv_w_fv (hM : mv_Mv a1 a2 a4 a5 us ro mk en) {post : Int32 → Prop} (h1 : ∀ v, v < 96 → ¬ us v = true → post (nI v)) (h0 : (∀ v, v < 96 → us v = true) → post (-1)) : wpX_freeVersion post (C, R, a1, a2, a3, a4, a5, a6, a7, a8, a9, a10, a11, a12) :=
  pk_loop (σ := Unit) (fun n i _ => wX_freeVersion_2 post C R a1 a2 a3 a4 a5 a6 a7 a8 a9 a10 a11 a12 n (nI i)) (fun i _ => ∀ v, v < i → us v = true) 96 0 () (by omega) (fun v hv => absurd hv (by omega))
    (fun n _ h => pk_le 96 96 (fun _ => h0 h) (fun z => absurd z (by omega)))
    (fun n i _ hi h hw => pk_le 96 i (fun z => absurd z (by omega)) (fun _ => by
      obtain ⟨m1, _⟩ := hM i hi
      rw [nI_clamp (n := i) (by omega)]
      exact ⟨pk_in i 96 hi, br_c (fun z => h1 i hi (fun y => absurd (y.symm.trans (m1.mp z)) (by decide))) (fun z => nm_r (nI_1 i) (hw () (lt_s h (mv_nt (fun y => z (m1.mpr y))))))⟩))
/-- a number that nothing uses -/
def mv_fr (C R : Nat → Prop) (us : Nat → Bool) (mk en : Nat → Nat) (n : Nat) : Prop := 1 ≤ n ∧ n < 63 ∧ ¬ C n ∧ ¬ R n ∧ ∀ v, v < 96 → us v = true → mk v ≠ n ∧ en v ≠ n
theorem mv_w_fn (hM : mv_Mv a1 a2 a4 a5 us ro mk en) {post : Int32 → Prop} (h1 : ∀ n, mv_fr (mv_bs C) (mv_bs R) us mk en n → post (nI n)) (h0 : (∀ n, ¬ mv_fr (mv_bs C) (mv_bs R) us mk en n) → post 0) : wpX_freeNumber post (C, R, a1, a2, a3, a4, a5, a6, a7, a8, a9, a10, a11, a12) := by
  have fin : ∀ x : Int64, (∀ n, mv_B x n = true ↔ (mv_bs C n ∨ mv_bs R n ∨ ∃ v, v < 96 ∧ us v = true ∧ (mk v = n ∨ en v = n))) → ∃ fu, wX_freeNumber_59 post x C R a1 a2 a3 a4 a5 a6 a7 a8 a9 a10 a11 a12 fu 1 := by
    intro x hx
    refine pk_loop (σ := Unit) (fun n i _ => wX_freeNumber_59 post x C R a1 a2 a3 a4 a5 a6 a7 a8 a9 a10 a11 a12 n (nI i)) (fun i _ => 1 ≤ i ∧ ∀ n, n < i → ¬ mv_fr (mv_bs C) (mv_bs R) us mk en n) 63 1 () (by omega) ?_ ?_ ?_
    · refine ⟨Nat.le_refl _, fun n hn z => ?_⟩
      have := z.1
      omega
    · intro n _ h
      refine pk_le 63 63 (fun _ => h0 (fun n z => h.2 n z.2.1 z)) (fun z => absurd z (by omega))
    · intro n i _ hi h hw
      have i0 := h.1
      have hb := mv_B_f x (j := i) (by omega)
      refine pk_le 63 i (fun z => absurd z (by omega)) (fun _ => br_c (fun z => h1 i ?_) (fun z => nm_r (nI_1 i) (hw () ⟨by omega, lt_s h.2 ?_⟩)))
      · have y := hb.mp z
        rw [hx] at y
        exact ⟨by omega, hi, fun x => y (Or.inl x), fun x => y (Or.inr (Or.inl x)), fun v hv hu => ⟨fun x => y (Or.inr (Or.inr ⟨v, hv, hu, Or.inl x⟩)), fun x => y (Or.inr (Or.inr ⟨v, hv, hu, Or.inr x⟩))⟩⟩
      · intro y
        apply z
        apply hb.mpr
        rw [hx]
        intro w
        rcases w with w | w | ⟨v, hv, hu, w | w⟩
        · exact y.2.2.1 w
        · exact y.2.2.2.1 w
        · exact (y.2.2.2.2 v hv hu).1 w
        · exact (y.2.2.2.2 v hv hu).2 w
  refine nm_e (pk_loop (fun n i s => wX_freeNumber_12 post C R a1 a2 a3 a4 a5 a6 a7 a8 a9 a10 a11 a12 n s (nI i)) (fun i s => ∀ n, mv_B s n = true ↔ (mv_bs C n ∨ mv_bs R n ∨ ∃ v, v < i ∧ us v = true ∧ (mk v = n ∨ en v = n))) 96 0 (C ||| R) (by omega) ?_ ?_ ?_)
  · intro n
    rw [mv_B_or, Bool.or_eq_true]
    constructor
    · intro z
      rcases z with z | z
      · exact Or.inl z
      · exact Or.inr (Or.inl z)
    · intro z
      rcases z with z | z | ⟨v, hv, _⟩
      · exact Or.inl z
      · exact Or.inr z
      · omega
  · intro n s hs
    exact pk_le 96 96 (fun _ => fin s hs) (fun z => absurd z (by omega))
  · intro n i s hi hs hw
    obtain ⟨m1, m2, m3, m4, m5, m6, m7⟩ := hM i hi
    refine pk_le 96 i (fun z => absurd z (by omega)) (fun _ => ?_)
    rw [nI_clamp (n := i) (by omega), m4, m6]
    refine ⟨pk_in i 96 hi, br_c (fun z => nm_r (nI_1 i) (hw s ?_)) (fun z => ⟨pk_in i 96 hi, mv_w_bit m5 (fun x hx => ⟨pk_in i 96 hi, mv_w_bit m7 (fun y hy => nm_e (nm_r (nI_1 i) (hw _ ?_)))⟩)⟩)⟩
    · intro m
      rw [hs]
      constructor
      · intro y
        rcases y with y | y | ⟨v, hv, y⟩
        · exact Or.inl y
        · exact Or.inr (Or.inl y)
        · exact Or.inr (Or.inr ⟨v, by omega, y⟩)
      · intro y
        rcases y with y | y | ⟨v, hv, y⟩
        · exact Or.inl y
        · exact Or.inr (Or.inl y)
        · by_cases e : v = i
          · subst e
            exact absurd (y.1.symm.trans (m1.mp z)) (by decide)
          · exact Or.inr (Or.inr ⟨v, by omega, y⟩)
    · have hu := mv_nt (fun y => z (m1.mpr y))
      intro m
      rw [mv_B_or, mv_B_or, Bool.or_eq_true, Bool.or_eq_true, hs, hx, hy]
      constructor
      · intro w
        rcases w with ((w | w | ⟨v, hv, w⟩) | w) | w
        · exact Or.inl w
        · exact Or.inr (Or.inl w)
        · exact Or.inr (Or.inr ⟨v, by omega, w⟩)
        · exact Or.inr (Or.inr ⟨i, by omega, hu, Or.inl w.symm⟩)
        · exact Or.inr (Or.inr ⟨i, by omega, hu, Or.inr w.symm⟩)
      · intro w
        rcases w with w | w | ⟨v, hv, w⟩
        · exact Or.inl (Or.inl (Or.inl w))
        · exact Or.inl (Or.inl (Or.inr (Or.inl w)))
        · by_cases e : v = i
          · subst e
            rcases w.2 with w | w
            · exact Or.inl (Or.inr w.symm)
            · exact Or.inr w.symm
          · exact Or.inl (Or.inl (Or.inr (Or.inr ⟨v, by omega, w⟩)))
end
end
section
/-! 10: tidy, flush, newNumber walked whole -/
section
variable {C R : Int64} {a1 a2 a3 a4 a5 a6 : Nat → Int32} {a7 : Nat → Int64} {a8 a9 a10 a11 a12 : Nat → Int32} {us : Nat → Bool} {ro mk en : Nat → Nat} {nm : Nat → Nat} {io : Nat → Bool} {lv : Nat → Nat} {tc ov : Nat → Int32} {cm : Nat → Option Int32} {vw : Nat → Nat → Nat → Option Int32}
theorem mv_t179 {post : St1 → Prop} {x : Int64} (h : ∀ a7' : Nat → Int64, (∀ t, t < 4 → a7' t = a7 t &&& x) → post (C, R, a1, a2, a3, a4, a5, a6, a7', a8, a9, a10, a11, a12)) : ∃ n, wX_tidy_179 post x C R n 0 a1 a2 a3 a4 a5 a6 a7 a8 a9 a10 a11 a12 := by
  refine pk_loop (fun n i s => wX_tidy_179 post x C R n (nI i) a1 a2 a3 a4 a5 a6 s a8 a9 a10 a11 a12) (fun i s => ∀ t, t < 4 → (t < i → s t = a7 t &&& x) ∧ (i ≤ t → s t = a7 t)) 4 0 a7 (by omega) (fun t ht => ⟨fun z => absurd z (by omega), fun _ => rfl⟩) ?_ ?_
  · intro n s hs
    exact pk_le 4 4 (fun _ => h s (fun t ht => (hs t ht).1 ht)) (fun z => absurd z (by omega))
  · intro n i s hi hs hw
    refine pk_le 4 i (fun z => absurd z (by omega)) (fun _ => ?_)
    rw [nI_clamp (n := i) (by omega)]
    refine ⟨pk_in i 4 hi, pk_in i 4 hi, nm_e (nm_r (nI_1 i) (hw _ ?_))⟩
    intro t ht
    by_cases e : t = i
    · subst e
      rw [pk_uLs]
      exact ⟨fun _ => by rw [(hs t ht).2 (Nat.le_refl _)], fun z => absurd z (by omega)⟩
    · rw [pk_uLn e]
      exact ⟨fun z => (hs t ht).1 (by omega), fun z => (hs t ht).2 (by omega)⟩
theorem mv_t90 (hM : mv_Mv a1 a2 a4 a5 us ro mk en) (hT : mv_Mt a6 a8 a9 a10 a11 io lv nm tc ov) (ha : ∀ p, p < 16 → a12 p = 0) {post : St1 → Prop}
    (h : ∀ x a4' a5' a12' mk' en' al, mv_Mv a1 a2 a4' a5' us ro mk' en' → (∀ v, v < 96 → us v = true → mv_St (mv_bs C) (mv_pt io a7) al (mk v) (mk' v) ∧ mv_St (mv_bs C) (mv_pt io a7) al (en v) (en' v)) →
      (∀ n, mv_B x n = true ↔ (mv_bs R n ∨ ∃ v, v < 96 ∧ us v = true ∧ (mk' v = n ∨ en' v = n))) → ∃ fu, wX_tidy_179 post x (C &&& x) R fu 0 a1 a2 a3 a4' a5' a6 a7 a8 a9 a10 a11 a12') :
    ∃ n, wX_tidy_90 post n R 0 C R a1 a2 a3 a4 a5 a6 a7 a8 a9 a10 a11 a12 := by
  refine pk_loop (σ := Int64 × (Nat → Int32) × (Nat → Int32) × (Nat → Int32)) (fun n i s => wX_tidy_90 post n s.1 (nI i) C R a1 a2 a3 (s.2.1) (s.2.2.1) a6 a7 a8 a9 a10 a11 (s.2.2.2))
    (fun i s => ∃ mk' en' al, mv_Mv a1 a2 s.2.1 s.2.2.1 us ro mk' en' ∧ mv_al C io a7 s.2.2.2 al ∧ (∀ v, i ≤ v → v < 96 → mk' v = mk v ∧ en' v = en v) ∧
      (∀ v, v < i → v < 96 → us v = true → mv_St (mv_bs C) (mv_pt io a7) al (mk v) (mk' v) ∧ mv_St (mv_bs C) (mv_pt io a7) al (en v) (en' v)) ∧
      (∀ n, mv_B s.1 n = true ↔ (mv_bs R n ∨ ∃ v, v < i ∧ us v = true ∧ (mk' v = n ∨ en' v = n)))) 96 0 (R, a4, a5, a12) (by omega) ?_ ?_ ?_
  · refine ⟨mk, en, fun _ => 0, hM, fun p hp => ⟨ha p hp, Nat.succ_pos 62, fun z => absurd rfl z⟩, fun v _ _ => ⟨rfl, rfl⟩, fun v hv => absurd hv (by omega), fun n => ?_⟩
    constructor
    · intro z; exact Or.inl z
    · intro z
      rcases z with z | ⟨v, hv, _⟩
      · exact z
      · omega
  · intro n s ⟨mk', en', al, k1, k2, k3, k4, k5⟩
    exact pk_le 96 96 (fun _ => nm_e (h s.1 s.2.1 s.2.2.1 s.2.2.2 mk' en' al k1 (fun v hv hu => k4 v hv hv hu) k5)) (fun z => absurd z (by omega))
  · intro n i s hi hI hw
    obtain ⟨x, b4, b5, b12⟩ := s
    obtain ⟨mk', en', al, k1, k2, k3, k4, k5⟩ := hI
    dsimp only at k1 k2 k5
    obtain ⟨m1, m2, m3, m4, m5, m6, m7⟩ := k1 i hi
    obtain ⟨q1, q2⟩ := k3 i (Nat.le_refl _) hi
    refine pk_le 96 i (fun z => absurd z (by omega)) (fun _ => ?_)
    dsimp only
    rw [nI_clamp (n := i) (by omega)]
    refine ⟨pk_in i 96 hi, br_c (fun z => nm_r (nI_1 i) (hw (x, b4, b5, b12) ⟨mk', en', al, k1, k2, fun v hv hv' => k3 v (by omega) hv', fun v hv hv' hu => ?_, fun m => ?_⟩)) (fun z => ⟨pk_in i 96 hi, ?_⟩)⟩
    · by_cases e : v = i
      · subst e; exact absurd (hu.symm.trans (m1.mp z)) (by decide)
      · exact k4 v (by omega) hv' hu
    · show mv_B x m = true ↔ _
      rw [k5]
      constructor
      · intro y
        rcases y with y | ⟨v, hv, y⟩
        · exact Or.inl y
        · exact Or.inr ⟨v, by omega, y⟩
      · intro y
        rcases y with y | ⟨v, hv, y⟩
        · exact Or.inl y
        · by_cases e : v = i
          · subst e; exact absurd (y.1.symm.trans (m1.mp z)) (by decide)
          · exact Or.inr ⟨v, by omega, y⟩
    · have hu := mv_nt (fun y => z (m1.mpr y))
      rw [m4]
      refine mv_w_st hT m5 k2 (fun n' al' b12' hal' hmo hst hn' => ?_)
      refine ⟨pk_in i 96 hi, nm_e ⟨pk_in i 96 hi, ?_⟩⟩
      dsimp only
      rw [m6]
      refine mv_w_st2 hT m7 hal' (fun e' al'' b12'' hal'' hmo' hst' he' => ?_)
      refine ⟨pk_in i 96 hi, nm_e ⟨pk_in i 96 hi, ?_⟩⟩
      dsimp only
      rw [pk_us, pk_us]
      refine mv_w_bit hn' (fun y hy => ⟨pk_in i 96 hi, mv_w_bit he' (fun y' hy' => nm_e (nm_r (nI_1 i) (hw (x ||| y ||| y', upd b4 i (nI n'), upd b5 i (nI e'), b12'') ?_)))⟩)
      refine ⟨mv_up mk' i n', mv_up en' i e', al'', mv_Mv5 (mv_Mv4 k1 hn') he', hal'', fun v hv hv' => ?_, fun v hv hv' hu' => ?_, fun m => ?_⟩
      · rw [mv_un (by omega), mv_un (by omega)]
        exact k3 v (by omega) hv'
      · by_cases e : v = i
        · subst e
          rw [mv_us, mv_us]
          rw [q1] at hst
          rw [q2] at hst'
          exact ⟨mv_St_mono hst hmo', hst'⟩
        · rw [mv_un e, mv_un e]
          obtain ⟨w1, w2⟩ := k4 v (by omega) hv' hu'
          exact ⟨mv_St_mono (mv_St_mono w1 hmo) hmo', mv_St_mono (mv_St_mono w2 hmo) hmo'⟩
      · show mv_B (x ||| y ||| y') m = true ↔ _
        rw [mv_B_or, mv_B_or, Bool.or_eq_true, Bool.or_eq_true, k5, hy, hy']
        constructor
        · intro w
          rcases w with ((w | ⟨v, hv, w⟩) | w) | w
          · exact Or.inl w
          · refine Or.inr ⟨v, by omega, ?_⟩
            rw [mv_un (by omega), mv_un (by omega)]
            exact w
          · refine Or.inr ⟨i, by omega, hu, Or.inl ?_⟩
            rw [mv_us]; exact w.symm
          · refine Or.inr ⟨i, by omega, hu, Or.inr ?_⟩
            rw [mv_us]; exact w.symm
        · intro w
          rcases w with w | ⟨v, hv, w⟩
          · exact Or.inl (Or.inl (Or.inl w))
          · by_cases e : v = i
            · subst e
              rw [mv_us, mv_us] at w
              rcases w.2 with w | w
              · exact Or.inl (Or.inr w.symm)
              · exact Or.inr w.symm
            · rw [mv_un e, mv_un e] at w
              exact Or.inl (Or.inl (Or.inr ⟨v, by omega, w⟩))
theorem mv_t63 (hM : mv_Mv a1 a2 a4 a5 us ro mk en) (hT : mv_Mt a6 a8 a9 a10 a11 io lv nm tc ov) {post : St1 → Prop} {J : Int32 → (Nat → Int32) → (Nat → Int32) → (Nat → Int32) → (Nat → Int32) → (Nat → Int32) → (Nat → Int32) → (Nat → Int64) → (Nat → Int32) → (Nat → Int32) → (Nat → Int32) → (Nat → Int32) → (Nat → Int32) → Prop} {x : Int64} {i : Nat} (hi : i < 96)
    (h1 : mv_dd (mv_bs C) (mv_bs R) (fun t => mv_bs (a7 t)) io (mk i) (en i) → J (nI (i + 1)) (upd a1 i 0) a2 a3 a4 a5 a6 a7 a8 a9 a10 a11 a12)
    (h0 : ¬ mv_dd (mv_bs C) (mv_bs R) (fun t => mv_bs (a7 t)) io (mk i) (en i) → J (nI (i + 1)) (upd a1 i 1) a2 a3 a4 a5 a6 a7 a8 a9 a10 a11 a12) : wX_tidy_63 post J x (nI i) C R a1 a2 a3 a4 a5 a6 a7 a8 a9 a10 a11 a12 := by
  unfold wX_tidy_63
  rw [nI_clamp (n := i) (by omega)]
  exact mv_w_dead hM hT hi (fun z => br_f (by decide) ⟨pk_in i 96 hi, nm_e (nm_r (nI_1 i) (h1 z))⟩) (fun z => br_t rfl ⟨pk_in i 96 hi, nm_e (nm_r (nI_1 i) (h0 z))⟩)
theorem mv_t28 (hM : mv_Mv a1 a2 a4 a5 us ro mk en) (hT : mv_Mt a6 a8 a9 a10 a11 io lv nm tc ov) {post : St1 → Prop} {x : Int64}
    (h : ∀ a1' a5' us' en', mv_Mv a1' a2 a4 a5' us' ro mk en' →
      (∀ v, v < 96 → (us v = true → (en' v = en v ∨ (mv_ov (mv_bs C) (mv_bs R) (en v) ∧ en' v = 0)) ∧ (¬ us' v = true → mv_dd (mv_bs C) (mv_bs R) (fun t => mv_bs (a7 t)) io (mk v) (en' v))) ∧
        (us' v = true → us v = true ∧ ¬ mv_dd (mv_bs C) (mv_bs R) (fun t => mv_bs (a7 t)) io (mk v) (en' v) ∧ ¬ mv_ov (mv_bs C) (mv_bs R) (en' v))) →
      ∃ fu, wX_tidy_90 post fu x 0 C R a1' a2 a3 a4 a5' a6 a7 a8 a9 a10 a11 a12) : ∃ n, wX_tidy_28 post x C R n 0 a1 a2 a3 a4 a5 a6 a7 a8 a9 a10 a11 a12 := by
  refine pk_loop (σ := (Nat → Int32) × (Nat → Int32)) (fun n i s => wX_tidy_28 post x C R n (nI i) (s.1) a2 a3 a4 (s.2) a6 a7 a8 a9 a10 a11 a12)
    (fun i s => ∃ us' en', mv_Mv s.1 a2 a4 s.2 us' ro mk en' ∧ (∀ v, i ≤ v → us' v = us v ∧ en' v = en v) ∧
      (∀ v, v < i → v < 96 → (us v = true → (en' v = en v ∨ (mv_ov (mv_bs C) (mv_bs R) (en v) ∧ en' v = 0)) ∧ (¬ us' v = true → mv_dd (mv_bs C) (mv_bs R) (fun t => mv_bs (a7 t)) io (mk v) (en' v))) ∧
        (us' v = true → us v = true ∧ ¬ mv_dd (mv_bs C) (mv_bs R) (fun t => mv_bs (a7 t)) io (mk v) (en' v) ∧ ¬ mv_ov (mv_bs C) (mv_bs R) (en' v)))) 96 0 (a1, a5) (by omega) ?_ ?_ ?_
  · exact ⟨us, en, hM, fun v _ => ⟨rfl, rfl⟩, fun v hv => absurd hv (by omega)⟩
  · intro n s ⟨us', en', k1, k2, k3⟩
    exact pk_le 96 96 (fun _ => h s.1 s.2 us' en' k1 (fun v hv => k3 v hv hv)) (fun z => absurd z (by omega))
  · intro n i s hi hI hw
    obtain ⟨b1, b5⟩ := s
    obtain ⟨us', en', k1, k2, k3⟩ := hI
    dsimp only at k1
    obtain ⟨m1, m2, m3, m4, m5, m6, m7⟩ := k1 i hi
    obtain ⟨q1, q2⟩ := k2 i (Nat.le_refl _)
    refine pk_le 96 i (fun z => absurd z (by omega)) (fun _ => ?_)
    dsimp only
    rw [nI_clamp (n := i) (by omega)]
    refine ⟨pk_in i 96 hi, br_c (fun z => nm_r (nI_1 i) (hw (b1, b5) ⟨us', en', k1, fun v hv => k2 v (by omega), fun v hv hv' => ?_⟩)) (fun z => ⟨pk_in i 96 hi, ?_⟩)⟩
    · by_cases e : v = i
      · subst e
        have hu := m1.mp z
        rw [← q1]
        exact ⟨fun y => absurd (y.symm.trans hu) (by decide), fun y => absurd (y.symm.trans hu) (by decide)⟩
      · exact k3 v (by omega) hv'
    · have hu' := mv_nt (fun y => z (m1.mpr y))
      have hu : us i = true := q1.symm.trans hu'
      -- what both roads share: the ender is e', then the version is kept or not
      have go : ∀ (b5' : Nat → Int32) (e' : Nat), e' < 63 → mv_Mv b1 a2 a4 b5' us' ro mk (mv_up en' i e') → (e' = en i ∨ (mv_ov (mv_bs C) (mv_bs R) (en i) ∧ e' = 0)) → ¬ mv_ov (mv_bs C) (mv_bs R) e' →
          wX_tidy_63 post (wX_tidy_28 post x C R n) x (nI i) C R b1 a2 a3 a4 b5' a6 a7 a8 a9 a10 a11 a12 := by
        intro b5' e' he' hMv hor hnov
        have fin : ∀ (b1' : Nat → Int32) (b : Bool), mv_Mv b1' a2 a4 b5' (mv_up us' i b) ro mk (mv_up en' i e') → (b = true ↔ ¬ mv_dd (mv_bs C) (mv_bs R) (fun t => mv_bs (a7 t)) io (mk i) e') → wX_tidy_28 post x C R n (nI (i + 1)) b1' a2 a3 a4 b5' a6 a7 a8 a9 a10 a11 a12 := by
          intro b1' b hMv' hb
          refine hw (b1', b5') ⟨mv_up us' i b, mv_up en' i e', hMv', fun v hv => ?_, fun v hv hv' => ?_⟩
          · rw [mv_un (by omega), mv_un (by omega)]
            exact k2 v (by omega)
          · by_cases e : v = i
            · subst e
              rw [mv_us, mv_us]
              exact ⟨fun _ => ⟨hor, fun y => Classical.byContradiction (fun w => y (hb.mpr w))⟩, fun y => ⟨hu, hb.mp y, hnov⟩⟩
            · rw [mv_un e, mv_un e]
              exact k3 v (by omega) hv'
        refine mv_t63 hMv hT hi (fun y => ?_) (fun y => ?_)
        · rw [mv_us] at y
          exact fin _ false (mv_Mv1 hMv (by decide)) ⟨fun w => absurd w (by decide), fun w => absurd y w⟩
        · rw [mv_us] at y
          exact fin _ true (mv_Mv1 hMv (by decide)) ⟨fun _ => y, fun _ => rfl⟩
      rw [m6]
      refine mv_w_over m7 (fun y => br_f (by decide) ⟨pk_in i 96 hi, nm_e ?_⟩) (fun y => br_t rfl ?_)
      · rw [q2] at y
        exact go _ 0 (by omega) (mv_Mv5 k1 (n := 0) (by omega)) (Or.inr ⟨y, rfl⟩) (fun w => w.1 rfl)
      · have e : mv_up en' i (en' i) = en' := by
          funext j
          by_cases ej : j = i
          · subst ej; exact mv_us
          · exact mv_un ej
        exact go b5 (en' i) m7 (by rw [e]; exact k1) (Or.inl q2) y
theorem mv_w_tidy (hM : mv_Mv a1 a2 a4 a5 us ro mk en) (hT : mv_Mt a6 a8 a9 a10 a11 io lv nm tc ov) (hI : mv_I us ro a3 mk en (mv_bs C) (mv_bs R) (fun t => mv_bs (a7 t)) nm io lv tc ov cm vw) {post : St1 → Prop}
    (h : ∀ C' a1' a4' a5' a7' a12' us' mk' en', mv_Mv a1' a2 a4' a5' us' ro mk' en' → mv_I us' ro a3 mk' en' (mv_bs C') (mv_bs R) (fun t => mv_bs (a7' t)) nm io lv tc ov cm vw →
      (∃ n, mv_fr (mv_bs C') (mv_bs R) us' mk' en' n) → (∃ v, v < 96 ∧ ¬ us' v = true) → post (C', R, a1', a2, a3, a4', a5', a6, a7', a8, a9, a10, a11, a12')) : wpX_tidy post (C, R, a1, a2, a3, a4, a5, a6, a7, a8, a9, a10, a11, a12) := by
  refine pk_loop (fun n i s => wX_tidy_2 post C R n (nI i) a1 a2 a3 a4 a5 a6 a7 a8 a9 a10 a11 s) (fun i s => ∀ p, p < i → s p = 0) 16 0 a12 (by omega) (fun p hp => absurd hp (by omega)) ?_ ?_
  · intro n b12 h12
    refine pk_le 16 16 (fun _ => ?_) (fun z => absurd z (by omega))
    refine mv_t28 hM hT (fun a1' a5' us' en' hM1 hk => ?_)
    have hI1 : mv_I us' ro a3 mk en' (mv_bs C) (mv_bs R) (fun t => mv_bs (a7 t)) nm io lv tc ov cm vw :=
      mv_ph1 hI (fun v hv hu => ((hk v hv).1 hu).1) (fun v hv hu => ((hk v hv).2 hu).1) (fun v hv hu hu' => ((hk v hv).1 hu).2 hu')
    have hd : ∀ v, v < 96 → us' v = true → ¬ mv_dd (mv_bs C) (mv_bs R) (fun t => mv_bs (a7 t)) io (mk v) (en' v) := fun v hv hu => ((hk v hv).2 hu).2.1
    have he : ∀ v, v < 96 → us' v = true → ¬ mv_ov (mv_bs C) (mv_bs R) (en' v) := fun v hv hu => ((hk v hv).2 hu).2.2
    refine mv_t90 hM1 hT h12 (fun x a4' a5'' a12' mk' en'' al hM2 hst hx => ?_)
    refine mv_t179 (fun a7' h7 => ?_)
    have hC' : ∀ n, mv_bs (C &&& x) n ↔ (mv_bs C n ∧ mv_bs x n) := by
      intro n
      show mv_B (C &&& x) n = true ↔ _
      rw [mv_B_and, Bool.and_eq_true]
      exact Iff.rfl
    have hsn : ∀ t, t < 4 → ∀ n, mv_bs (a7' t) n ↔ (mv_bs (a7 t) n ∧ mv_bs x n) := by
      intro t ht n
      show mv_B (a7' t) n = true ↔ _
      rw [h7 t ht, mv_B_and, Bool.and_eq_true]
      exact Iff.rfl
    refine h (C &&& x) a1' a4' a5'' a7' a12' us' mk' en'' hM2 ?_ ?_ ?_
    · exact mv_ph2 hI1 hd mv_p1 mv_p2 hst (fun v hv hu => ⟨(hx _).mpr (Or.inr ⟨v, hv, hu, Or.inl rfl⟩), (hx _).mpr (Or.inr ⟨v, hv, hu, Or.inr rfl⟩)⟩) hC' hsn
    · exact mv_cntN hI1.1 hd he hst hC' (fun n z => (hx n).mp z)
    · exact mv_cntV hI1 hd he (fun v hv => (hM v hv).2.2.1)
  · intro n i s hi hs hw
    refine pk_le 16 i (fun z => absurd z (by omega)) (fun _ => ?_)
    rw [nI_clamp (n := i) (by omega)]
    refine ⟨pk_in i 16 hi, nm_e (nm_r (nI_1 i) (hw _ (lt_s (fun p hp => ?_) pk_us)))⟩
    rw [pk_un (by omega)]
    exact hs p hp
theorem mv_w_flush (hM : mv_Mv a1 a2 a4 a5 us ro mk en) (hI : mv_I us ro a3 mk en (mv_bs C) (mv_bs R) (fun t => mv_bs (a7 t)) nm io lv tc ov cm vw) {post : St1 → Prop}
    (h : ∀ a5' en', mv_Mv a1 a2 a4 a5' us ro mk en' → mv_I us ro a3 mk en' (mv_bs C) (mv_bs R) (fun t => mv_bs (a7 t)) nm io lv tc ov cm vw → post (C, R, a1, a2, a3, a4, a5', a6, a7, a8, a9, a10, a11, a12)) : wpX_flush post (C, R, a1, a2, a3, a4, a5, a6, a7, a8, a9, a10, a11, a12) := by
  refine pk_loop (fun n i s => wX_flush_2 post C R n (nI i) a1 a2 a3 a4 s a6 a7 a8 a9 a10 a11 a12) (fun i s => ∃ en', mv_Mv a1 a2 a4 s us ro mk en' ∧ (∀ v, i ≤ v → en' v = en v) ∧ ∀ v, v < i → us v = true → (en' v = en v ∨ (mv_ov (mv_bs C) (mv_bs R) (en v) ∧ en' v = 0))) 96 0 a5 (by omega) ?_ ?_ ?_
  · exact ⟨en, hM, fun v _ => rfl, fun v hv => absurd hv (by omega)⟩
  · intro n s ⟨en', k1, k2, k3⟩
    exact pk_le 96 96 (fun _ => h s en' k1 (mv_ph1 hI k3 (fun v hv hu => hu) (fun v hv hu hu' => absurd hu hu'))) (fun z => absurd z (by omega))
  · intro n i s hi hI' hw
    obtain ⟨en', k1, k2, k3⟩ := hI'
    obtain ⟨m1, m2, m3, m4, m5, m6, m7⟩ := k1 i hi
    have q2 := k2 i (Nat.le_refl _)
    refine pk_le 96 i (fun z => absurd z (by omega)) (fun _ => ?_)
    rw [nI_clamp (n := i) (by omega), m6]
    refine ⟨pk_in i 96 hi, br_c (fun z => nm_r (nI_1 i) (hw s ⟨en', k1, fun v hv => k2 v (by omega), lt_s k3 (fun _ => Or.inl q2)⟩)) (fun z => ⟨pk_in i 96 hi, ?_⟩)⟩
    refine mv_w_over m7 (fun y => br_f (by decide) ⟨pk_in i 96 hi, nm_e (nm_r (nI_1 i) (hw _ ⟨mv_up en' i 0, mv_Mv5 k1 (n := 0) (by omega), fun v hv => ?_, lt_s (fun v hv hu => ?_) (fun _ => Or.inr ⟨?_, mv_us⟩)⟩))⟩) (fun y => br_t rfl (nm_r (nI_1 i) (hw s ⟨en', k1, fun v hv => k2 v (by omega), lt_s k3 (fun _ => Or.inl q2)⟩)))
    · rw [mv_un (by omega)]; exact k2 v (by omega)
    · rw [mv_un (by omega)]; exact k3 v hv hu
    · rw [← q2]; exact y
theorem mv_w_nn (hM : mv_Mv a1 a2 a4 a5 us ro mk en) (hT : mv_Mt a6 a8 a9 a10 a11 io lv nm tc ov) (hI : mv_I us ro a3 mk en (mv_bs C) (mv_bs R) (fun t => mv_bs (a7 t)) nm io lv tc ov cm vw) {post : Int32 → St1 → Prop}
    (h : ∀ n C' R' a1' a4' a5' a7' a12' us' mk' en', mv_Mv a1' a2 a4' a5' us' ro mk' en' → mv_I us' ro a3 mk' en' (mv_bs C') (mv_bs R) (fun t => mv_bs (a7' t)) nm io lv tc ov cm vw →
      mv_fr (mv_bs C') (mv_bs R) us' mk' en' n → (∀ m, mv_bs R' m ↔ (mv_bs R m ∨ m = n)) → post (nI n) (C', R', a1', a2, a3, a4', a5', a6, a7', a8, a9, a10, a11, a12')) : wpX_newNumber post (C, R, a1, a2, a3, a4, a5, a6, a7, a8, a9, a10, a11, a12) := by
  have last : ∀ n C' a1' a4' a5' a7' a12' us' mk' en', mv_Mv a1' a2 a4' a5' us' ro mk' en' → mv_I us' ro a3 mk' en' (mv_bs C') (mv_bs R) (fun t => mv_bs (a7' t)) nm io lv tc ov cm vw →
      mv_fr (mv_bs C') (mv_bs R) us' mk' en' n → wX_newNumber_18 post (nI n) C' R a1' a2 a3 a4' a5' a6 a7' a8 a9 a10 a11 a12' := by
    intro n C' a1' a4' a5' a7' a12' us' mk' en' k1 k2 k3
    refine mv_w_bit k3.2.1 (fun x hx => nm_e (h n C' _ a1' a4' a5' a7' a12' us' mk' en' k1 k2 k3 (fun m => ?_)))
    show mv_B (R ||| x) m = true ↔ _
    rw [mv_B_or, Bool.or_eq_true, hx]
    exact Iff.rfl
  unfold wpX_newNumber
  dsimp only
  refine mv_w_fn hM (fun n hn => br_f (nI_ne0 (by have := hn.1; omega) (by have := hn.2.1; omega)) (last n C a1 a4 a5 a7 a12 us mk en hM hI hn)) (fun _ => br_t rfl ?_)
  refine mv_w_tidy hM hT hI (fun C' a1' a4' a5' a7' a12' us' mk' en' k1 k2 k3 k4 => ?_)
  exact mv_w_fn k1 (fun n hn => last n C' a1' a4' a5' a7' a12' us' mk' en' k1 k2 hn) (fun z => absurd k3 (fun ⟨n, hn⟩ => z n hn))
end
end
section
/-! 11: the walks of the methods that begin, save, go back -/
def mv_szf (x : Int32) : Nat → Int32
  | 0 => 0
  | k + 1 => mv_szf x k + ((x >>> (nI k &&& 31)) &&& 1)
theorem mv_szf_n (x : Int32) (k : Nat) (hk : k ≤ 32) : ∃ j, j ≤ k ∧ mv_szf x k = nI j := by
  induction k with
  | zero => exact ⟨0, Nat.le_refl _, rfl⟩
  | succ k ih =>
    obtain ⟨j, hj, e⟩ := ih (by omega)
    show ∃ j, j ≤ k + 1 ∧ mv_szf x k + ((x >>> (nI k &&& 31)) &&& 1) = nI j
    rw [e, mv_b_bit x (by omega)]
    by_cases z : mv_b x k = true
    · rw [if_pos z]
      exact ⟨j + 1, by omega, nI_1 j⟩
    · rw [if_neg z]
      exact ⟨j, by omega, Int32.add_zero _⟩
def mv_crf (io : Nat → Bool) : Nat → Int32
  | 0 => 0
  | k + 1 => if io k = true then mv_crf io k + 1 else mv_crf io k
/-- another running transaction has changed row r -/
def mv_bz (io : Nat → Bool) (lv : Nat → Nat) (tc : Nat → Int32) (t r : Nat) : Prop := ∃ u, u < 4 ∧ u ≠ t ∧ io u = true ∧ mv_b (mv_cf tc (4 * u) (lv u + 1)) r = true
def mv_tch (tc : Nat → Int32) (lv : Nat → Nat) (t r : Nat) : Nat → Int32 := upd tc (4 * t + lv t) (tc (4 * t + lv t) ||| ((1 : Int32) <<< (nI r &&& 31)))
theorem mv_i4 {t : Nat} : nI t * 4 = nI (4 * t) := by
  show nI t * nI 4 = _
  rw [pk_mul, Nat.mul_comm]
section
variable {C R : Int64} {a1 a2 a3 a4 a5 a6 : Nat → Int32} {a7 : Nat → Int64} {a8 a9 a10 a11 a12 : Nat → Int32} {us : Nat → Bool} {ro mk en : Nat → Nat} {nm : Nat → Nat} {io : Nat → Bool} {lv : Nat → Nat} {tc ov : Nat → Int32} {cm : Nat → Option Int32} {vw : Nat → Nat → Nat → Option Int32}
theorem mv_w_cur (hT : mv_Mt a6 a8 a9 a10 a11 io lv nm tc ov) {post : Int32 → Prop} {t : Nat} (ht : t < 4) (h : post (nI (4 * t + lv t))) : wpX_current post (C, R, a1, a2, a3, a4, a5, a6, a7, a8, a9, a10, a11, a12) (nI t) := by
  refine ⟨pk_in t 4 ht, ?_⟩
  rw [nI_clamp (n := t) (by omega), (hT.1 t ht).2.1, mv_ix]
  exact h
theorem mv_w_blk (hT : mv_Mt a6 a8 a9 a10 a11 io lv nm tc ov) {post : Int32 → Prop} {t r : Nat} (ht : t < 4) (hr : r < 8)
    (hb : mv_bz io lv tc t r → post (-4)) (hs : ¬ mv_bz io lv tc t r → mv_b (ov t) r = true → post (-5)) (h0 : ¬ mv_bz io lv tc t r → ¬ mv_b (ov t) r = true → post 0) : wpX_blocked post (C, R, a1, a2, a3, a4, a5, a6, a7, a8, a9, a10, a11, a12) (nI t) (nI r) := by
  obtain ⟨e6, e8, e8', e11⟩ := hT.1 t ht
  refine pk_loop (σ := Unit) (fun n i _ => wX_blocked_2 post (nI t) (nI r) C R a1 a2 a3 a4 a5 a6 a7 a8 a9 a10 a11 a12 n (nI i)) (fun i _ => ∀ u, u < i → u ≠ t → io u = true → ¬ mv_b (mv_cf tc (4 * u) (lv u + 1)) r = true) 4 0 () (by omega) (fun u hu => absurd hu (by omega)) ?_ ?_
  · intro n _ h
    have hz : ¬ mv_bz io lv tc t r := fun ⟨u, hu, hne, ho, z⟩ => h u hu hne ho z
    refine pk_le 4 4 (fun _ => ⟨pk_in t 4 ht, ?_⟩) (fun z => absurd z (by omega))
    rw [nI_clamp (n := t) (by omega), e11]
    exact br_c (fun z => hs hz ((mv_b_t _ (by omega)).mp z)) (fun z => h0 hz (fun y => z ((mv_b_t _ (by omega)).mpr y)))
  · intro n i _ hi h hw
    have go : (i ≠ t → io i = true → ¬ mv_b (mv_cf tc (4 * i) (lv i + 1)) r = true) → wX_blocked_2 post (nI t) (nI r) C R a1 a2 a3 a4 a5 a6 a7 a8 a9 a10 a11 a12 n (nI (i + 1)) := fun k => hw () (lt_s h k)
    obtain ⟨d6, _⟩ := hT.1 i hi
    refine pk_le 4 i (fun z => absurd z (by omega)) (fun _ => ?_)
    rw [nI_clamp (n := i) (by omega)]
    refine pk_eq i t (fun e => nm_r (nI_1 i) (go (fun y => absurd e y))) (fun e => ⟨pk_in i 4 hi, br_c (fun z => nm_r (nI_1 i) (go (fun _ y => absurd (y.symm.trans (d6.mp z)) (by decide)))) (fun z => mv_w_cb hT hi ?_)⟩)
    have ho := mv_nt (fun y => z (d6.mpr y))
    exact br_c (fun y => hb ⟨i, hi, e, ho, (mv_b_t _ (by omega)).mp y⟩) (fun y => nm_r (nI_1 i) (go (fun _ _ x => y ((mv_b_t _ (by omega)).mpr x))))
theorem mv_w_sz {post : Int32 → Prop} {x : Int32} (h : post (mv_szf x 8)) : wpX_sizeOf post (C, R, a1, a2, a3, a4, a5, a6, a7, a8, a9, a10, a11, a12) x := by
  refine pk_loop (σ := Unit) (fun n i _ => wX_sizeOf_4 post x C R a1 a2 a3 a4 a5 a6 a7 a8 a9 a10 a11 a12 n (mv_szf x i) (nI i)) (fun _ _ => True) 8 0 () (by omega) trivial ?_ ?_
  · intro n _ _
    exact pk_le 8 8 (fun _ => h) (fun z => absurd z (by omega))
  · intro n i _ hi _ hw
    exact pk_le 8 i (fun z => absurd z (by omega)) (fun _ => nm_e (nm_r (nI_1 i) (hw () trivial)))
end
section
variable {c : St1} {io : Nat → Bool} {lv : Nat → Nat} {tc ov : Nat → Int32} {cm : Nat → Option Int32} {vw : Nat → Nat → Nat → Option Int32}
theorem mv_o_open (hQ : mv_R c io lv tc ov cm vw) {post : Int32 → St1 → Prop} {t : Nat} (ht : t < 4)
    (h1 : io t = true → post (-2) c)
    (h0 : io t = false → ∀ c', mv_R c' (mv_up io t true) (mv_up lv t 0) (upd tc (4 * t) 0) (upd ov t 0) cm (mv_up vw t (fun _ => cm)) → post 0 c') : wpX_open post c (nI t) := by
  obtain ⟨C, R, a1, a2, a3, a4, a5, a6, a7, a8, a9, a10, a11, a12⟩ := c
  obtain ⟨us, ro, mk, en, nm, hM, hT, hI⟩ := hQ
  unfold wpX_open
  dsimp only
  rw [mv_i4, nI_clamp (n := t) (by omega), nI_clamp (n := 4 * t) (by omega)]
  refine mv_w_ref hT ht (fun z => br_t rfl ?_) (fun z => br_f (by decide) (br_f (by decide) (h1 z)))
  refine mv_w_nn hM hT hI (fun n C' R' b1 b4 b5 b7 b12 us' mk' en' k1 k2 k3 k4 => ?_)
  refine ⟨pk_in t 4 ht, nm_e ⟨pk_in t 4 ht, nm_e ⟨pk_in t 4 ht, nm_e ⟨pk_in (4 * t) 16 (by omega), nm_e ⟨pk_in (4 * t) 16 (by omega), nm_e ⟨pk_in t 4 ht, nm_e (h0 z _ ?_)⟩⟩⟩⟩⟩⟩
  obtain ⟨f1, f2, f3, f4, f5⟩ := k3
  refine ⟨us', ro, mk', en', mv_up nm (4 * t) n, k1, ⟨fun u hu => ?_, fun i hi => ?_⟩, mv_open k2 ht z f1 f2 f3 f4 f5 k4 ?_ ?_⟩
  · by_cases e : u = t
    · subst e
      rw [pk_us, pk_us, pk_us, pk_us, mv_us, mv_us]
      exact ⟨by decide, rfl, by omega, rfl⟩
    · rw [pk_un e, pk_un e, pk_un e, pk_un e, mv_un e, mv_un e]
      exact hT.1 u hu
  · by_cases e : i = 4 * t
    · subst e
      rw [pk_us, pk_us, pk_us, mv_us]
      exact ⟨rfl, f2, rfl⟩
    · rw [pk_un e, pk_un e, pk_un e, mv_un e]
      exact hT.2 i hi
  · show mv_bs (vp_updL b7 t C' t) = _
    rw [pk_uLs]
  · intro u hu
    show mv_bs (vp_updL b7 t C' u) = _
    rw [pk_uLn hu]
theorem mv_o_save (hQ : mv_R c io lv tc ov cm vw) {post : Int32 → St1 → Prop} {t : Nat} (ht : t < 4)
    (hc : io t = false → post (-2) c) (hf : io t = true → lv t = 3 → post (-6) c)
    (h0 : io t = true → lv t < 3 → ∀ c', mv_R c' io (mv_up lv t (lv t + 1)) (upd tc (4 * t + (lv t + 1)) 0) ov cm (mv_up vw t (mv_up (vw t) (lv t + 1) (vw t (lv t)))) → post (nI (lv t + 1)) c') : wpX_save post c (nI t) := by
  obtain ⟨C, R, a1, a2, a3, a4, a5, a6, a7, a8, a9, a10, a11, a12⟩ := c
  obtain ⟨us, ro, mk, en, nm, hM, hT, hI⟩ := hQ
  obtain ⟨e6, e8, e8', e11⟩ := hT.1 t ht
  unfold wpX_save
  dsimp only
  rw [nI_clamp (n := t) (by omega), e8]
  refine mv_w_ref hT ht (fun z => br_f (by decide) (hc z)) (fun z => br_t (by decide) ⟨pk_in t 4 ht, pk_eq (lv t) 3 (fun e => hf z e) (fun e => ?_)⟩)
  refine mv_w_nn hM hT hI (fun n C' R' b1 b4 b5 b7 b12 us' mk' en' k1 k2 k3 k4 => ?_)
  obtain ⟨f1, f2, f3, f4, f5⟩ := k3
  have hT1 : mv_Mt a6 (upd a8 t (nI (lv t + 1))) a9 a10 a11 io (mv_up lv t (lv t + 1)) nm tc ov := by
    refine ⟨fun u hu => ?_, hT.2⟩
    by_cases eu : u = t
    · subst eu
      rw [pk_us, mv_us]
      exact ⟨e6, rfl, by omega, e11⟩
    · rw [pk_un eu, mv_un eu]
      exact hT.1 u hu
  have hT2 : mv_Mt a6 (upd a8 t (nI (lv t + 1))) (upd a9 (4 * t + (lv t + 1)) (nI n)) a10 a11 io (mv_up lv t (lv t + 1)) (mv_up nm (4 * t + (lv t + 1)) n) tc ov := by
    refine ⟨hT1.1, fun i hi => ?_⟩
    by_cases ei : i = 4 * t + (lv t + 1)
    · subst ei
      rw [pk_us, mv_us]
      exact ⟨rfl, f2, (hT.2 _ hi).2.2⟩
    · rw [pk_un ei, mv_un ei]
      exact hT.2 i hi
  have hT3 : mv_Mt a6 (upd a8 t (nI (lv t + 1))) (upd a9 (4 * t + (lv t + 1)) (nI n)) (upd a10 (4 * t + (lv t + 1)) 0) a11 io (mv_up lv t (lv t + 1)) (mv_up nm (4 * t + (lv t + 1)) n) (upd tc (4 * t + (lv t + 1)) 0) ov := by
    refine ⟨hT1.1, fun i hi => ?_⟩
    obtain ⟨x1, x2, x3⟩ := hT2.2 i hi
    refine ⟨x1, x2, ?_⟩
    by_cases ei : i = 4 * t + (lv t + 1)
    · subst ei
      rw [pk_us, pk_us]
    · rw [pk_un ei, pk_un ei]
      exact x3
  dsimp only
  rw [e8]
  refine ⟨pk_in t 4 ht, pk_in t 4 ht, nm_r (by rw [nI_1]) ?_⟩
  refine mv_w_cur hT1 ht ?_
  rw [mv_us]
  refine ⟨pk_in (4 * t + (lv t + 1)) 16 (by omega), nm_r (by rw [nI_clamp (n := 4 * t + (lv t + 1)) (by omega)]) ?_⟩
  refine mv_w_cur hT2 ht ?_
  rw [mv_us]
  refine ⟨pk_in (4 * t + (lv t + 1)) 16 (by omega), nm_r (by rw [nI_clamp (n := 4 * t + (lv t + 1)) (by omega)]) ⟨pk_in t 4 ht, ?_⟩⟩
  rw [pk_us]
  exact h0 z (by omega) _ ⟨us', ro, mk', en', _, k1, hT3, mv_save k2 ht z (by omega) f1 f2 f3 f4 f5 k4⟩
theorem mv_o_back (hQ : mv_R c io lv tc ov cm vw) {post : Int32 → St1 → Prop} {t : Nat} (ht : t < 4)
    (hc : io t = false → post (-2) c) (hf : io t = true → lv t = 0 → post (-3) c)
    (h0 : io t = true → 0 < lv t → ∀ c', mv_R c' io (mv_up lv t (lv t - 1)) tc ov cm vw → post (nI (lv t - 1)) c') : wpX_back post c (nI t) := by
  obtain ⟨C, R, a1, a2, a3, a4, a5, a6, a7, a8, a9, a10, a11, a12⟩ := c
  obtain ⟨us, ro, mk, en, nm, hM, hT, hI⟩ := hQ
  obtain ⟨e6, e8, e8', e11⟩ := hT.1 t ht
  unfold wpX_back
  dsimp only
  rw [nI_clamp (n := t) (by omega), e8]
  refine mv_w_ref hT ht (fun z => br_f (by decide) (hc z)) (fun z => br_t (by decide) ⟨pk_in t 4 ht, pk_eq (lv t) 0 (fun e => hf z e) (fun e => ?_)⟩)
  refine mv_w_cur hT ht ⟨pk_in (4 * t + lv t) 16 (by omega), ?_⟩
  obtain ⟨e9, e9', e10⟩ := hT.2 (4 * t + lv t) (by omega)
  rw [nI_clamp (by omega), e9]
  refine mv_w_bit e9' (fun x hx => nm_e ⟨pk_in t 4 ht, pk_in t 4 ht, nm_r (by rw [show lv t = (lv t - 1) + 1 by omega, nI_pred]) ⟨pk_in t 4 ht, ?_⟩⟩)
  rw [pk_us]
  have hT1 : mv_Mt a6 (upd a8 t (nI (lv t - 1))) a9 a10 a11 io (mv_up lv t (lv t - 1)) nm tc ov := by
    refine ⟨fun u hu => ?_, hT.2⟩
    by_cases eu : u = t
    · subst eu
      rw [pk_us, mv_us]
      exact ⟨e6, rfl, by omega, e11⟩
    · rw [pk_un eu, mv_un eu]
      exact hT.1 u hu
  refine h0 z (by omega) _ ⟨us, ro, mk, en, nm, hM, hT1, mv_shrink hI (fun u hu => (hT1.1 u hu).2.2.1) (fun u hu ho => ⟨ho, ?_⟩) (fun n => ?_)⟩
  · by_cases eu : u = t
    · subst eu
      rw [mv_us]; omega
    · rw [mv_un eu]; exact Nat.le_refl _
  · show mv_B (R &&& (x ^^^ (-1))) n = true ↔ _
    rw [mv_B_not, Bool.and_eq_true, Bool.not_eq_true', ← Bool.not_eq_true, hx]
    have hn := (hI.1.2.1 n)
    have n4 := hI.1.2.2.2.1
    constructor
    · intro ⟨y1, y2⟩
      obtain ⟨u, k, ⟨l1, l2, l3⟩, ek⟩ := hn.mp y1
      refine ⟨u, k, ⟨l1, l2, ?_⟩, ek⟩
      by_cases eu : u = t
      · subst eu
        rw [mv_us]
        by_cases ek' : k = lv u
        · subst ek'; exact absurd ek.symm y2
        · omega
      · rw [mv_un eu]; exact l3
    · intro ⟨u, k, ⟨l1, l2, l3⟩, ek⟩
      have l3' : k ≤ lv u := by
        by_cases eu : u = t
        · subst eu
          rw [mv_us] at l3; omega
        · rw [mv_un eu] at l3; exact l3
      refine ⟨hn.mpr ⟨u, k, ⟨l1, l2, l3'⟩, ek⟩, fun y => ?_⟩
      obtain ⟨q1, q2⟩ := n4 u k t (lv t) ⟨l1, l2, l3'⟩ ⟨ht, z, Nat.le_refl _⟩ (ek.trans y)
      subst q1
      rw [mv_us] at l3
      omega
end
end
section
/-! 12: commit, abort, crash, vacuum, flush over represented states -/
/-- what is committed after t's commit -/
def mv_cmc (lv : Nat → Nat) (tc : Nat → Int32) (cm : Nat → Option Int32) (vw : Nat → Nat → Nat → Option Int32) (t : Nat) : Nat → Option Int32 :=
  fun r => if mv_b (mv_cf tc (4 * t) (lv t + 1)) r = true then vw t (lv t) r else cm r
section
variable {c : St1} {io : Nat → Bool} {lv : Nat → Nat} {tc ov : Nat → Int32} {cm : Nat → Option Int32} {vw : Nat → Nat → Nat → Option Int32}
theorem mv_Mt6 {a6 a8 a9 a10 a11 : Nat → Int32} {nm : Nat → Nat} (hT : mv_Mt a6 a8 a9 a10 a11 io lv nm tc ov) {t : Nat} : mv_Mt (upd a6 t 0) a8 a9 a10 a11 (mv_up io t false) lv nm tc ov := by
  refine ⟨fun u hu => ?_, hT.2⟩
  obtain ⟨x1, x2⟩ := hT.1 u hu
  by_cases eu : u = t
  · subst eu
    rw [pk_us, mv_us]
    exact ⟨by decide, x2⟩
  · rw [pk_un eu, mv_un eu]
    exact ⟨x1, x2⟩
theorem mv_closeR {C R x : Int64} {us : Nat → Bool} {ro : Nat → Nat} {vl : Nat → Int32} {mk en : Nat → Nat} {sn : Nat → Nat → Prop} {nm : Nat → Nat} (hI : mv_I us ro vl mk en (mv_bs C) (mv_bs R) sn nm io lv tc ov cm vw) {t : Nat}
    (hx : ∀ n, mv_B x n = true ↔ ∃ j, j < lv t + 1 ∧ nm (4 * t + j) = n) (n : Nat) : mv_bs (R &&& (x ^^^ (-1))) n ↔ (mv_bs R n ∧ ¬ ∃ j, j < lv t + 1 ∧ nm (4 * t + j) = n) := by
  show mv_B (R &&& (x ^^^ (-1))) n = true ↔ _
  rw [mv_B_not, Bool.and_eq_true, Bool.not_eq_true', ← Bool.not_eq_true, hx]
  exact Iff.rfl
theorem mv_o_abort (hQ : mv_R c io lv tc ov cm vw) {post : Int32 → St1 → Prop} {t : Nat} (ht : t < 4)
    (hc : io t = false → post (-2) c)
    (h0 : io t = true → ∀ c', mv_R c' (mv_up io t false) lv tc ov cm vw → post (mv_szf (mv_cf tc (4 * t) (lv t + 1)) 8) c') : wpX_abort post c (nI t) := by
  obtain ⟨C, R, a1, a2, a3, a4, a5, a6, a7, a8, a9, a10, a11, a12⟩ := c
  obtain ⟨us, ro, mk, en, nm, hM, hT, hI⟩ := hQ
  unfold wpX_abort
  dsimp only
  refine mv_w_ref hT ht (fun z => br_f (by decide) (hc z)) (fun z => br_t (by decide) ?_)
  unfold wpX_close
  dsimp only
  rw [nI_clamp (n := t) (by omega)]
  refine mv_w_cb hT ht (mv_w_own hT ht (fun x hx => nm_e ⟨pk_in t 4 ht, nm_e (br_t rfl (mv_w_sz ?_))⟩))
  have hR := mv_closeR hI hx
  refine h0 z _ ⟨us, ro, mk, en, nm, hM, mv_Mt6 hT, mv_shrink hI (fun u hu => (hT.1 u hu).2.2.1) (fun u hu ho => ?_) (fun n => ?_)⟩
  · by_cases eu : u = t
    · subst eu
      rw [mv_us] at ho
      exact absurd ho (by decide)
    · rw [mv_un eu] at ho
      exact ⟨ho, Nat.le_refl _⟩
  · rw [hR, hI.1.2.1]
    constructor
    · intro ⟨⟨u, k, ⟨l1, l2, l3⟩, ek⟩, y⟩
      refine ⟨u, k, ⟨l1, ?_, l3⟩, ek⟩
      rw [mv_un]
      · exact l2
      · intro eu
        subst eu
        exact y ⟨k, by omega, ek⟩
    · intro ⟨u, k, ⟨l1, l2, l3⟩, ek⟩
      have eu : u ≠ t := by
        intro eu
        subst eu
        rw [mv_us] at l2
        exact absurd l2 (by decide)
      rw [mv_un eu] at l2
      refine ⟨⟨u, k, ⟨l1, l2, l3⟩, ek⟩, fun ⟨j, hj, y⟩ => ?_⟩
      exact eu (hI.1.2.2.2.1 u k t j ⟨l1, l2, l3⟩ ⟨ht, z, by omega⟩ (ek.trans y.symm)).1
theorem mv_o_commit (hQ : mv_R c io lv tc ov cm vw) {post : Int32 → St1 → Prop} {t : Nat} (ht : t < 4)
    (hc : io t = false → post (-2) c)
    (h0 : io t = true → ∀ c', mv_R c' (mv_up io t false) lv tc (fun u => ov u ||| mv_cf tc (4 * t) (lv t + 1)) (mv_cmc lv tc cm vw t) vw → post (mv_szf (mv_cf tc (4 * t) (lv t + 1)) 8) c') : wpX_commit post c (nI t) := by
  obtain ⟨C, R, a1, a2, a3, a4, a5, a6, a7, a8, a9, a10, a11, a12⟩ := c
  obtain ⟨us, ro, mk, en, nm, hM, hT, hI⟩ := hQ
  unfold wpX_commit
  dsimp only
  refine mv_w_ref hT ht (fun z => br_f (by decide) (hc z)) (fun z => br_t (by decide) ?_)
  unfold wpX_close
  dsimp only
  rw [nI_clamp (n := t) (by omega)]
  refine mv_w_cb hT ht (mv_w_own hT ht (fun x hx => nm_e ⟨pk_in t 4 ht, nm_e (br_f (by decide) (nm_e ?_))⟩))
  have hR := mv_closeR hI hx
  have hT6 := mv_Mt6 hT (t := t)
  refine pk_loop (fun n i s => wX_close_53 _ (mv_cf tc (4 * t) (lv t + 1)) (C ||| x) (R &&& (x ^^^ (-1))) n (nI i) a1 a2 a3 a4 a5 (upd a6 t 0) a7 a8 a9 a10 s a12) (fun i s => ∀ u, u < 4 → (u < i → s u = ov u ||| mv_cf tc (4 * t) (lv t + 1)) ∧ (i ≤ u → s u = ov u)) 4 0 a11 (by omega) (fun u hu => ⟨fun y => absurd y (by omega), fun _ => (hT.1 u hu).2.2.2⟩) ?_ ?_
  · intro n s hs
    refine pk_le 4 4 (fun _ => mv_w_sz ?_) (fun z => absurd z (by omega))
    refine h0 z _ ⟨us, ro, mk, en, nm, hM, ⟨fun u hu => ?_, hT6.2⟩, mv_commit hI ht z (fun i => ?_) (fun n => ?_) hR (fun u hu i => ?_) (fun r hr => rfl) (fun v hv => (hM v hv).2.2.1)⟩
    · obtain ⟨x1, x2, x3, x4⟩ := hT6.1 u hu
      exact ⟨x1, x2, x3, (hs u hu).1 hu⟩
    · rw [mv_cf_b]
      constructor
      · intro ⟨j, hj, y⟩; exact ⟨j, by omega, y⟩
      · intro ⟨j, hj, y⟩; exact ⟨j, by omega, y⟩
    · show mv_B (C ||| x) n = true ↔ _
      rw [mv_B_or, Bool.or_eq_true, hx]
      exact Iff.rfl
    · rw [mv_b_or, Bool.or_eq_true]
  · intro n i s hi hs hw
    refine pk_le 4 i (fun z => absurd z (by omega)) (fun _ => ?_)
    rw [nI_clamp (n := i) (by omega)]
    refine ⟨pk_in i 4 hi, pk_in i 4 hi, nm_e (nm_r (nI_1 i) (hw _ ?_))⟩
    intro u hu
    by_cases e : u = i
    · subst e
      rw [pk_us, (hs u hu).2 (Nat.le_refl _)]
      exact ⟨fun _ => rfl, fun y => absurd y (by omega)⟩
    · rw [pk_un e]
      exact ⟨fun y => (hs u hu).1 (by omega), fun y => (hs u hu).2 (by omega)⟩
theorem mv_o_crash (hQ : mv_R c io lv tc ov cm vw) {post : Int32 → St1 → Prop}
    (h0 : ∀ c', mv_R c' (fun _ => false) lv tc ov cm vw → post (mv_crf io 4) c') : wpX_crash post c := by
  obtain ⟨C, R, a1, a2, a3, a4, a5, a6, a7, a8, a9, a10, a11, a12⟩ := c
  obtain ⟨us, ro, mk, en, nm, hM, hT, hI⟩ := hQ
  refine pk_loop (fun n i s => wX_crash_4 post C R n (mv_crf io i) (nI i) a1 a2 a3 a4 a5 s a7 a8 a9 a10 a11 a12) (fun i s => ∀ u, u < 4 → (u < i → s u = 0) ∧ (i ≤ u → s u = a6 u)) 4 0 a6 (by omega) (fun u hu => ⟨fun y => absurd y (by omega), fun _ => rfl⟩) ?_ ?_
  · intro n s hs
    refine pk_le 4 4 (fun _ => h0 _ ⟨us, ro, mk, en, nm, hM, ⟨fun u hu => ?_, hT.2⟩, mv_shrink hI (fun u hu => (hT.1 u hu).2.2.1) (fun u hu ho => absurd ho (by decide)) (fun m => ?_)⟩) (fun z => absurd z (by omega))
    · exact ⟨⟨fun _ => rfl, fun _ => (hs u hu).1 hu⟩, (hT.1 u hu).2⟩
    · show mv_B 0 m = true ↔ _
      rw [mv_B_0]
      exact ⟨fun y => absurd y (by decide), fun ⟨u, k, l, _⟩ => absurd (show false = true from l.2.1) (by decide)⟩
  · intro n i s hi hs hw
    obtain ⟨e6, _⟩ := hT.1 i hi
    have q := (hs i hi).2 (Nat.le_refl _)
    have hup : ∀ u, u < 4 → (u < i + 1 → upd s i 0 u = 0) ∧ (i + 1 ≤ u → upd s i 0 u = a6 u) := by
      intro u hu
      by_cases e : u = i
      · subst e
        rw [pk_us]
        exact ⟨fun _ => rfl, fun y => absurd y (by omega)⟩
      · rw [pk_un e]
        exact ⟨fun y => (hs u hu).1 (by omega), fun y => (hs u hu).2 (by omega)⟩
    have hw' : wX_crash_4 post C R n (if io i = true then mv_crf io i + 1 else mv_crf io i) (nI (i + 1)) a1 a2 a3 a4 a5 (upd s i 0) a7 a8 a9 a10 a11 a12 := hw _ hup
    refine pk_le 4 i (fun z => absurd z (by omega)) (fun _ => ?_)
    rw [nI_clamp (n := i) (by omega), q]
    refine ⟨pk_in i 4 hi, br_c (fun z => ⟨pk_in i 4 hi, nm_e (nm_r (nI_1 i) ?_)⟩) (fun z => nm_e ⟨pk_in i 4 hi, nm_e (nm_r (nI_1 i) ?_)⟩)⟩
    · rw [e6.mp z, if_neg (by decide)] at hw'
      exact hw'
    · rw [mv_nt (fun y => z (e6.mpr y)), if_pos rfl] at hw'
      exact hw'
theorem mv_o_vac (hQ : mv_R c io lv tc ov cm vw) {post : St1 → Prop} (h0 : ∀ c', mv_R c' io lv tc ov cm vw → post c') : wpX_vacuum post c := by
  obtain ⟨C, R, a1, a2, a3, a4, a5, a6, a7, a8, a9, a10, a11, a12⟩ := c
  obtain ⟨us, ro, mk, en, nm, hM, hT, hI⟩ := hQ
  unfold wpX_vacuum
  dsimp only
  exact mv_w_tidy hM hT hI (fun C' b1 b4 b5 b7 b12 us' mk' en' k1 k2 _ _ => h0 _ ⟨us', ro, mk', en', nm, k1, hT, k2⟩)
theorem mv_o_flush (hQ : mv_R c io lv tc ov cm vw) {post : St1 → Prop} (h0 : ∀ c', mv_R c' io lv tc ov cm vw → post c') : wpX_flush post c := by
  obtain ⟨C, R, a1, a2, a3, a4, a5, a6, a7, a8, a9, a10, a11, a12⟩ := c
  obtain ⟨us, ro, mk, en, nm, hM, hT, hI⟩ := hQ
  exact mv_w_flush hM hI (fun b5 en' k1 k2 => h0 _ ⟨us, ro, mk, en', nm, k1, hT, k2⟩)
end
end
section
/-! 13: makeVersion, write; put, add, drop over represented states -/
section
variable {C R : Int64} {a1 a2 a3 a4 a5 a6 : Nat → Int32} {a7 : Nat → Int64} {a8 a9 a10 a11 a12 : Nat → Int32} {us : Nat → Bool} {ro mk en : Nat → Nat} {nm : Nat → Nat} {io : Nat → Bool} {lv : Nat → Nat} {tc ov : Nat → Int32} {cm : Nat → Option Int32} {vw : Nat → Nat → Nat → Option Int32}
theorem mv_w_mv (hM : mv_Mv a1 a2 a4 a5 us ro mk en) (hT : mv_Mt a6 a8 a9 a10 a11 io lv nm tc ov) (hI : mv_I us ro a3 mk en (mv_bs C) (mv_bs R) (fun t => mv_bs (a7 t)) nm io lv tc ov cm vw)
    {post : St1 → Prop} {t r : Nat} {x : Int32} (ht : t < 4) (ho : io t = true) (hr : r < 8) (hb : mv_b (tc (4 * t + lv t)) r = true) (hno : vw t (lv t) r = none)
    (h : ∀ c', mv_R c' io lv tc ov cm (mv_set vw t (lv t) r (some x)) → post c') : wpX_makeVersion post (C, R, a1, a2, a3, a4, a5, a6, a7, a8, a9, a10, a11, a12) (nI r) x (nI (nm (4 * t + lv t))) := by
  have hl := (hT.1 t ht).2.2.1
  have hn := (hT.2 (4 * t + lv t) (by omega)).2.1
  have last : ∀ v C' a1' a4' a5' a7' a12' us' mk' en', v < 96 → ¬ us' v = true → mv_Mv a1' a2 a4' a5' us' ro mk' en' → mv_I us' ro a3 mk' en' (mv_bs C') (mv_bs R) (fun t => mv_bs (a7' t)) nm io lv tc ov cm vw →
      wX_makeVersion_21 post (nI r) x (nI (nm (4 * t + lv t))) (nI v) C' R a1' a2 a3 a4' a5' a6 a7' a8 a9 a10 a11 a12' := by
    intro v C' a1' a4' a5' a7' a12' us' mk' en' hv hu k1 k2
    unfold wX_makeVersion_21
    rw [nI_clamp (n := v) (by omega)]
    refine ⟨pk_in v 96 hv, nm_e ⟨pk_in v 96 hv, nm_e ⟨pk_in v 96 hv, nm_e ⟨pk_in v 96 hv, nm_e ⟨pk_in v 96 hv, nm_e (h _ ?_)⟩⟩⟩⟩⟩
    exact ⟨_, _, _, _, nm, mv_Mv5 (mv_Mv4 (mv_Mv2 (mv_Mv1 k1 (v := v) (x := 1) (b := true) (by decide)) hr) hn) (n := 0) (by omega), hT, mv_ins k2 ht ho hv hu hr hb hno⟩
  unfold wpX_makeVersion
  dsimp only
  refine mv_w_fv hM (fun v hv hu => br_t (nI_pos' (by omega)) (last v C a1 a4 a5 a7 a12 us mk en hv hu hM hI)) (fun _ => br_f (by decide) ?_)
  refine mv_w_tidy hM hT hI (fun C' a1' a4' a5' a7' a12' us' mk' en' k1 k2 k3 k4 => ?_)
  exact mv_w_fv k1 (fun v hv hu => last v C' a1' a4' a5' a7' a12' us' mk' en' hv hu k1 k2) (fun z => absurd k4 (fun ⟨v, hv, hu⟩ => hu (z v hv)))
theorem mv_Mt10 (hT : mv_Mt a6 a8 a9 a10 a11 io lv nm tc ov) {i : Nat} (hi : i < 16) {x : Int32} : mv_Mt a6 a8 a9 (upd a10 i (a10 i ||| x)) a11 io lv nm (upd tc i (tc i ||| x)) ov := by
  refine ⟨hT.1, fun j hj => ?_⟩
  obtain ⟨x1, x2, x3⟩ := hT.2 j hj
  refine ⟨x1, x2, ?_⟩
  by_cases e : j = i
  · subst e
    rw [pk_us, pk_us, x3]
  · rw [pk_un e, pk_un e, x3]
theorem mv_tchI (hI : mv_I us ro a3 mk en (mv_bs C) (mv_bs R) (fun t => mv_bs (a7 t)) nm io lv tc ov cm vw) {t r : Nat} (ht : t < 4) (ho : io t = true) (hr : r < 8) (hz : ¬ mv_bz io lv tc t r) (hov : ¬ mv_b (ov t) r = true) :
    mv_I us ro a3 mk en (mv_bs C) (mv_bs R) (fun t => mv_bs (a7 t)) nm io lv (mv_tch tc lv t r) ov cm vw ∧ mv_b (mv_tch tc lv t r (4 * t + lv t)) r = true := by
  have hb := fun i => mv_b_put (tc (4 * t + lv t)) (s := r) (by omega) i
  refine ⟨mv_touch hI ht ho (r := r) (fun u j a hne z => hz ⟨u, a.1, hne, a.2.1, (mv_cf_b _ _ _ _).mpr ⟨j, by have := a.2.2; omega, z⟩⟩) hov (fun i hi => pk_un hi) (fun i => ?_), ?_⟩
  · unfold mv_tch
    rw [pk_us]
    exact hb i
  · unfold mv_tch
    rw [pk_us]
    exact (hb r).mpr (Or.inr rfl)
theorem mv_set_2 {t k r : Nat} {o o' : Option Int32} : mv_set (mv_set vw t k r o) t k r o' = mv_set vw t k r o' := by
  funext u j s
  by_cases e : u = t ∧ j = k
  · obtain ⟨e1, e2⟩ := e
    subst e1; subst e2
    by_cases es : s = r
    · subst es; rw [mv_set_s, mv_set_s]
    · rw [mv_set_r es, mv_set_r es, mv_set_r es]
  · rw [mv_set_n e, mv_set_n e, mv_set_n e]
theorem mv_w_write (hM : mv_Mv a1 a2 a4 a5 us ro mk en) (hT : mv_Mt a6 a8 a9 a10 a11 io lv nm tc ov) (hI : mv_I us ro a3 mk en (mv_bs C) (mv_bs R) (fun t => mv_bs (a7 t)) nm io lv tc ov cm vw)
    {post : St1 → Prop} {t r : Nat} {p x : Int32} (ht : t < 4) (ho : io t = true) (hr : r < 8) (hz : ¬ mv_bz io lv tc t r) (hov : ¬ mv_b (ov t) r = true)
    (hp : (p = -1 ∧ vw t (lv t) r = none) ∨ ∃ v, v < 96 ∧ p = nI v ∧ us v = true ∧ ro v = r ∧ mv_se (mv_vs (fun t => mv_bs (a7 t)) nm t (lv t + 1)) (mk v) (en v))
    (h : ∀ c', mv_R c' io lv (mv_tch tc lv t r) ov cm (mv_set vw t (lv t) r (some x)) → post c') : wpX_write post (C, R, a1, a2, a3, a4, a5, a6, a7, a8, a9, a10, a11, a12) (nI t) (nI r) p x := by
  have hl := (hT.1 t ht).2.2.1
  obtain ⟨e9, hn, e10⟩ := hT.2 (4 * t + lv t) (by omega)
  obtain ⟨hI1, hb⟩ := mv_tchI hI ht ho hr hz hov
  have hT1 : mv_Mt a6 a8 a9 (upd a10 (4 * t + lv t) (a10 (4 * t + lv t) ||| ((1 : Int32) <<< (nI r &&& 31)))) a11 io lv nm (mv_tch tc lv t r) ov := mv_Mt10 hT (by omega)
  unfold wpX_write
  dsimp only
  refine mv_w_cur hT ht ⟨pk_in (4 * t + lv t) 16 (by omega), nm_r (by rw [nI_clamp (n := 4 * t + lv t) (by omega), e9]) ?_⟩
  refine mv_w_cur hT ht (mv_w_cur hT ht ⟨pk_in (4 * t + lv t) 16 (by omega), pk_in (4 * t + lv t) 16 (by omega), nm_r (by rw [nI_clamp (n := 4 * t + lv t) (by omega)]) ?_⟩)
  rcases hp with ⟨ep, hno⟩ | ⟨v, hv, ep, hu, hro, hse⟩
  · subst ep
    refine br_t (by decide) (br_t (by decide) ?_)
    exact mv_w_mv hM hT1 hI1 ht ho hr hb hno h
  · subst ep
    obtain ⟨m1, m2, m3, m4, m5, m6, m7⟩ := hM v hv
    refine br_f (nI_pos (by omega)) ⟨pk_in v 96 hv, ?_⟩
    rw [nI_clamp (n := v) (by omega), m4]
    subst hro
    refine pk_eq (mk v) (nm (4 * t + lv t)) (fun e => ⟨pk_in v 96 hv, nm_e ?_⟩) (fun e => br_f (nI_pos (by omega)) ⟨pk_in v 96 hv, nm_e ?_⟩)
    · exact h _ ⟨us, ro, mk, en, nm, hM, hT1, mv_over hI1 ht ho hv hu e hse⟩
    · rw [nI_clamp (n := v) (by omega)]
      have hI2 := mv_end hI1 ht ho hv hu hb hse
      refine mv_w_mv (mv_Mv5 hM hn) hT1 hI2 ht ho hr hb mv_set_s (fun c' hc' => ?_)
      rw [mv_set_2] at hc'
      exact h c' hc'
end
section
variable {c : St1} {io : Nat → Bool} {lv : Nat → Nat} {tc ov : Nat → Int32} {cm : Nat → Option Int32} {vw : Nat → Nat → Nat → Option Int32}
theorem mv_o_put (hQ : mv_R c io lv tc ov cm vw) {post : Int32 → St1 → Prop} {t r : Nat} {x : Int32} (ht : t < 4) (hr : r < 8)
    (hc : io t = false → post (-2) c) (hz : io t = true → mv_bz io lv tc t r → post (-4) c) (hs : io t = true → ¬ mv_bz io lv tc t r → mv_b (ov t) r = true → post (-5) c)
    (h0 : io t = true → ¬ mv_bz io lv tc t r → ¬ mv_b (ov t) r = true → ∀ c', mv_R c' io lv (mv_tch tc lv t r) ov cm (mv_set vw t (lv t) r (some x)) → post (if (vw t (lv t) r).isSome = true then 1 else 0) c') : wpX_put post c (nI t) (nI r) x := by
  obtain ⟨C, R, a1, a2, a3, a4, a5, a6, a7, a8, a9, a10, a11, a12⟩ := c
  obtain ⟨us, ro, mk, en, nm, hM, hT, hI⟩ := hQ
  unfold wpX_put
  dsimp only
  refine mv_w_refr hT ht hr (fun z => br_f (by decide) (hc z)) (fun z => br_t (by decide) ?_)
  refine mv_w_blk hT ht hr (fun y => br_f (by decide) (hz z y)) (fun y y' => br_f (by decide) (hs z y y')) (fun y y' => br_t (by decide) ?_)
  refine mv_w_vo hM hT hI ht z hr (fun w => ?_) (fun v hv hu hro hse w => ?_)
  · refine mv_w_write hM hT hI ht z hr y y' (Or.inl ⟨rfl, w⟩) (fun c' hc' => ?_)
    have := h0 z y y' c' hc'
    rw [w, if_neg (by decide)] at this
    exact br_f (by decide) this
  · refine mv_w_write hM hT hI ht z hr y y' (Or.inr ⟨v, hv, rfl, hu, hro, hse⟩) (fun c' hc' => ?_)
    have := h0 z y y' c' hc'
    rw [w, if_pos (by rfl)] at this
    exact br_t (nI_pos' (by omega)) this
theorem mv_o_add (hQ : mv_R c io lv tc ov cm vw) {post : Int32 → St1 → Prop} {t r : Nat} {d : Int32} (ht : t < 4) (hr : r < 8)
    (hc : io t = false → post (-2) c) (hn : io t = true → vw t (lv t) r = none → post (-3) c)
    (hz : ∀ x, io t = true → vw t (lv t) r = some x → mv_bz io lv tc t r → post (-4) c) (hs : ∀ x, io t = true → vw t (lv t) r = some x → ¬ mv_bz io lv tc t r → mv_b (ov t) r = true → post (-5) c)
    (h0 : ∀ x, io t = true → vw t (lv t) r = some x → ¬ mv_bz io lv tc t r → ¬ mv_b (ov t) r = true → ∀ c', mv_R c' io lv (mv_tch tc lv t r) ov cm (mv_set vw t (lv t) r (some (x + d))) → post 0 c') : wpX_add post c (nI t) (nI r) d := by
  obtain ⟨C, R, a1, a2, a3, a4, a5, a6, a7, a8, a9, a10, a11, a12⟩ := c
  obtain ⟨us, ro, mk, en, nm, hM, hT, hI⟩ := hQ
  unfold wpX_add
  dsimp only
  refine mv_w_refr hT ht hr (fun z => br_f (by decide) (hc z)) (fun z => br_t (by decide) ?_)
  refine mv_w_vo hM hT hI ht z hr (fun w => br_f (by decide) (hn z w)) (fun v hv hu hro hse w => br_t (nI_pos' (by omega)) ?_)
  refine mv_w_blk hT ht hr (fun y => br_f (by decide) (hz _ z w y)) (fun y y' => br_f (by decide) (hs _ z w y y')) (fun y y' => br_t (by decide) ⟨pk_in v 96 hv, ?_⟩)
  rw [nI_clamp (n := v) (by omega)]
  exact mv_w_write hM hT hI ht z hr y y' (Or.inr ⟨v, hv, rfl, hu, hro, hse⟩) (fun c' hc' => h0 _ z w y y' c' hc')
theorem mv_o_drop (hQ : mv_R c io lv tc ov cm vw) {post : Int32 → St1 → Prop} {t r : Nat} (ht : t < 4) (hr : r < 8)
    (hc : io t = false → post (-2) c) (hn : io t = true → vw t (lv t) r = none → post (-3) c)
    (hz : ∀ x, io t = true → vw t (lv t) r = some x → mv_bz io lv tc t r → post (-4) c) (hs : ∀ x, io t = true → vw t (lv t) r = some x → ¬ mv_bz io lv tc t r → mv_b (ov t) r = true → post (-5) c)
    (h0 : ∀ x, io t = true → vw t (lv t) r = some x → ¬ mv_bz io lv tc t r → ¬ mv_b (ov t) r = true → ∀ c', mv_R c' io lv (mv_tch tc lv t r) ov cm (mv_set vw t (lv t) r none) → post 0 c') : wpX_drop post c (nI t) (nI r) := by
  obtain ⟨C, R, a1, a2, a3, a4, a5, a6, a7, a8, a9, a10, a11, a12⟩ := c
  obtain ⟨us, ro, mk, en, nm, hM, hT, hI⟩ := hQ
  have hl := (hT.1 t ht).2.2.1
  obtain ⟨e9, hn9, e10⟩ := hT.2 (4 * t + lv t) (by omega)
  unfold wpX_drop
  dsimp only
  refine mv_w_refr hT ht hr (fun z => br_f (by decide) (hc z)) (fun z => br_t (by decide) ?_)
  refine mv_w_vo hM hT hI ht z hr (fun w => br_f (by decide) (hn z w)) (fun v hv hu hro hse w => br_t (nI_pos' (by omega)) ?_)
  refine mv_w_blk hT ht hr (fun y => br_f (by decide) (hz _ z w y)) (fun y y' => br_f (by decide) (hs _ z w y y')) (fun y y' => br_t (by decide) ?_)
  obtain ⟨hI1, hb⟩ := mv_tchI hI ht z hr y y'
  have hT1 : mv_Mt a6 a8 a9 (upd a10 (4 * t + lv t) (a10 (4 * t + lv t) ||| ((1 : Int32) <<< (nI r &&& 31)))) a11 io lv nm (mv_tch tc lv t r) ov := mv_Mt10 hT (by omega)
  refine mv_w_cur hT ht (mv_w_cur hT ht ⟨pk_in (4 * t + lv t) 16 (by omega), pk_in (4 * t + lv t) 16 (by omega), nm_r (by rw [nI_clamp (n := 4 * t + lv t) (by omega)]) ?_⟩)
  refine mv_w_cur hT1 ht ⟨pk_in (4 * t + lv t) 16 (by omega), pk_in v 96 hv, nm_r (by rw [nI_clamp (n := 4 * t + lv t) (by omega), nI_clamp (n := v) (by omega), e9]) ?_⟩
  subst hro
  exact h0 _ z w y y' _ ⟨us, ro, mk, _, nm, mv_Mv5 hM hn9, hT1, mv_end hI1 ht z hv hu hb hse⟩
end
end
section
/-! 14: one turn of the law, over any state that represents an abstract one -/
def mv_G (io : Nat → Bool) (lv : Nat → Nat) (vw : Nat → Nat → Nat → Option Int32) (io' : Nat → Bool) (lv' : Nat → Nat) (vw' : Nat → Nat → Nat → Option Int32) (t : Nat) : Prop :=
  ∀ u, u ≠ t → io' u = io u ∧ lv' u = lv u ∧ vw' u (lv u) = vw u (lv u)
section
variable {io : Nat → Bool} {lv : Nat → Nat} {tc ov : Nat → Int32} {cm : Nat → Option Int32} {vw : Nat → Nat → Nat → Option Int32} {t r : Nat} {x : Int32}
theorem mv_G0 : mv_G io lv vw io lv vw t := fun u _ => ⟨rfl, rfl, rfl⟩
theorem mv_tf {b : Bool} {P : Prop} (h : b = true) (h' : b = false) : P := absurd (h.symm.trans h') (by decide)
theorem mv_x_open (ht : t < 4) : ∃ res io' lv' tc' ov' cm' vw', (∀ c post, mv_R c io lv tc ov cm vw → (∀ c', mv_R c' io' lv' tc' ov' cm' vw' → post res c') → wpX_open post c (nI t)) ∧ mv_G io lv vw io' lv' vw' t ∧ cm' = cm := by
  by_cases ho : io t = true
  · exact ⟨-2, io, lv, tc, ov, cm, vw, fun c post hQ h => mv_o_open hQ ht (fun _ => h c hQ) (fun z => mv_tf ho z), mv_G0, rfl⟩
  · exact ⟨0, _, _, _, _, _, _, fun c post hQ h => mv_o_open hQ ht (fun z => absurd z ho) (fun _ c' hc' => h c' hc'), fun u hu => ⟨mv_un hu, mv_un hu, by rw [mv_un hu]⟩, rfl⟩
theorem mv_x_save (ht : t < 4) : ∃ res io' lv' tc' ov' cm' vw', (∀ c post, mv_R c io lv tc ov cm vw → (∀ c', mv_R c' io' lv' tc' ov' cm' vw' → post res c') → wpX_save post c (nI t)) ∧ mv_G io lv vw io' lv' vw' t ∧ cm' = cm := by
  by_cases ho : io t = true
  · by_cases h3 : lv t = 3
    · exact ⟨-6, io, lv, tc, ov, cm, vw, fun c post hQ h => mv_o_save hQ ht (fun z => mv_tf ho z) (fun _ _ => h c hQ) (fun _ z => absurd h3 (by omega)), mv_G0, rfl⟩
    · exact ⟨_, _, _, _, _, _, _, fun c post hQ h => mv_o_save hQ ht (fun z => mv_tf ho z) (fun _ z => absurd z h3) (fun _ _ c' hc' => h c' hc'), fun u hu => ⟨rfl, mv_un hu, by rw [mv_un hu]⟩, rfl⟩
  · exact ⟨-2, io, lv, tc, ov, cm, vw, fun c post hQ h => mv_o_save hQ ht (fun _ => h c hQ) (fun z => absurd z ho) (fun z => absurd z ho), mv_G0, rfl⟩
theorem mv_x_back (ht : t < 4) : ∃ res io' lv' tc' ov' cm' vw', (∀ c post, mv_R c io lv tc ov cm vw → (∀ c', mv_R c' io' lv' tc' ov' cm' vw' → post res c') → wpX_back post c (nI t)) ∧ mv_G io lv vw io' lv' vw' t ∧ cm' = cm := by
  by_cases ho : io t = true
  · by_cases h3 : lv t = 0
    · exact ⟨-3, io, lv, tc, ov, cm, vw, fun c post hQ h => mv_o_back hQ ht (fun z => mv_tf ho z) (fun _ _ => h c hQ) (fun _ z => absurd h3 (by omega)), mv_G0, rfl⟩
    · exact ⟨_, _, _, _, _, _, _, fun c post hQ h => mv_o_back hQ ht (fun z => mv_tf ho z) (fun _ z => absurd z h3) (fun _ _ c' hc' => h c' hc'), fun u hu => ⟨rfl, mv_un hu, rfl⟩, rfl⟩
  · exact ⟨-2, io, lv, tc, ov, cm, vw, fun c post hQ h => mv_o_back hQ ht (fun _ => h c hQ) (fun z => absurd z ho) (fun z => absurd z ho), mv_G0, rfl⟩
theorem mv_Gs {o : Option Int32} {k : Nat} : mv_G io lv vw io lv (mv_set vw t k r o) t := fun u hu => ⟨rfl, rfl, mv_set_n (fun z => hu z.1)⟩
theorem mv_x_put (ht : t < 4) (hr : r < 8) : ∃ res io' lv' tc' ov' cm' vw', (∀ c post, mv_R c io lv tc ov cm vw → (∀ c', mv_R c' io' lv' tc' ov' cm' vw' → post res c') → wpX_put post c (nI t) (nI r) x) ∧ mv_G io lv vw io' lv' vw' t ∧ cm' = cm := by
  by_cases ho : io t = true
  · by_cases hz : mv_bz io lv tc t r
    · exact ⟨-4, io, lv, tc, ov, cm, vw, fun c post hQ h => mv_o_put hQ ht hr (fun z => mv_tf ho z) (fun _ _ => h c hQ) (fun _ z => absurd hz z) (fun _ z => absurd hz z), mv_G0, rfl⟩
    · by_cases hs : mv_b (ov t) r = true
      · exact ⟨-5, io, lv, tc, ov, cm, vw, fun c post hQ h => mv_o_put hQ ht hr (fun z => mv_tf ho z) (fun _ z => absurd z hz) (fun _ _ _ => h c hQ) (fun _ _ z => absurd hs z), mv_G0, rfl⟩
      · exact ⟨_, _, _, _, _, _, _, fun c post hQ h => mv_o_put hQ ht hr (fun z => mv_tf ho z) (fun _ z => absurd z hz) (fun _ _ z => absurd z hs) (fun _ _ _ c' hc' => h c' hc'), mv_Gs, rfl⟩
  · exact ⟨-2, io, lv, tc, ov, cm, vw, fun c post hQ h => mv_o_put hQ ht hr (fun _ => h c hQ) (fun z => absurd z ho) (fun z => absurd z ho) (fun z => absurd z ho), mv_G0, rfl⟩
theorem mv_x_add (ht : t < 4) (hr : r < 8) : ∃ res io' lv' tc' ov' cm' vw', (∀ c post, mv_R c io lv tc ov cm vw → (∀ c', mv_R c' io' lv' tc' ov' cm' vw' → post res c') → wpX_add post c (nI t) (nI r) x) ∧ mv_G io lv vw io' lv' vw' t ∧ cm' = cm := by
  by_cases ho : io t = true
  · cases hv : vw t (lv t) r with
    | none => exact ⟨-3, io, lv, tc, ov, cm, vw, fun c post hQ h => mv_o_add hQ ht hr (fun z => mv_tf ho z) (fun _ _ => h c hQ) (fun y _ z => absurd (hv.symm.trans z) (by simp)) (fun y _ z => absurd (hv.symm.trans z) (by simp)) (fun y _ z => absurd (hv.symm.trans z) (by simp)), mv_G0, rfl⟩
    | some v =>
      have hno : ∀ {P : Prop}, vw t (lv t) r = none → P := fun z => absurd (hv.symm.trans z) (by simp)
      by_cases hz : mv_bz io lv tc t r
      · exact ⟨-4, io, lv, tc, ov, cm, vw, fun c post hQ h => mv_o_add hQ ht hr (fun z => mv_tf ho z) (fun _ z => hno z) (fun _ _ _ _ => h c hQ) (fun _ _ _ z => absurd hz z) (fun _ _ _ z => absurd hz z), mv_G0, rfl⟩
      · by_cases hs : mv_b (ov t) r = true
        · exact ⟨-5, io, lv, tc, ov, cm, vw, fun c post hQ h => mv_o_add hQ ht hr (fun z => mv_tf ho z) (fun _ z => hno z) (fun _ _ _ z => absurd z hz) (fun _ _ _ _ _ => h c hQ) (fun _ _ _ _ z => absurd hs z), mv_G0, rfl⟩
        · refine ⟨0, io, lv, mv_tch tc lv t r, ov, cm, mv_set vw t (lv t) r (some (v + x)), fun c post hQ h => mv_o_add hQ ht hr (fun z => mv_tf ho z) (fun _ z => hno z) (fun _ _ _ z => absurd z hz) (fun _ _ _ _ z => absurd z hs) (fun y _ e _ _ c' hc' => ?_), mv_Gs, rfl⟩
          have e' : v = y := by simpa using hv.symm.trans e
          subst e'
          exact h c' hc'
  · exact ⟨-2, io, lv, tc, ov, cm, vw, fun c post hQ h => mv_o_add hQ ht hr (fun _ => h c hQ) (fun z => absurd z ho) (fun _ z => absurd z ho) (fun _ z => absurd z ho) (fun _ z => absurd z ho), mv_G0, rfl⟩
theorem mv_x_drop (ht : t < 4) (hr : r < 8) : ∃ res io' lv' tc' ov' cm' vw', (∀ c post, mv_R c io lv tc ov cm vw → (∀ c', mv_R c' io' lv' tc' ov' cm' vw' → post res c') → wpX_drop post c (nI t) (nI r)) ∧ mv_G io lv vw io' lv' vw' t ∧ cm' = cm := by
  by_cases ho : io t = true
  · cases hv : vw t (lv t) r with
    | none => exact ⟨-3, io, lv, tc, ov, cm, vw, fun c post hQ h => mv_o_drop hQ ht hr (fun z => mv_tf ho z) (fun _ _ => h c hQ) (fun y _ z => absurd (hv.symm.trans z) (by simp)) (fun y _ z => absurd (hv.symm.trans z) (by simp)) (fun y _ z => absurd (hv.symm.trans z) (by simp)), mv_G0, rfl⟩
    | some v =>
      have hno : ∀ {P : Prop}, vw t (lv t) r = none → P := fun z => absurd (hv.symm.trans z) (by simp)
      by_cases hz : mv_bz io lv tc t r
      · exact ⟨-4, io, lv, tc, ov, cm, vw, fun c post hQ h => mv_o_drop hQ ht hr (fun z => mv_tf ho z) (fun _ z => hno z) (fun _ _ _ _ => h c hQ) (fun _ _ _ z => absurd hz z) (fun _ _ _ z => absurd hz z), mv_G0, rfl⟩
      · by_cases hs : mv_b (ov t) r = true
        · exact ⟨-5, io, lv, tc, ov, cm, vw, fun c post hQ h => mv_o_drop hQ ht hr (fun z => mv_tf ho z) (fun _ z => hno z) (fun _ _ _ z => absurd z hz) (fun _ _ _ _ _ => h c hQ) (fun _ _ _ _ z => absurd hs z), mv_G0, rfl⟩
        · exact ⟨0, _, _, _, _, _, _, fun c post hQ h => mv_o_drop hQ ht hr (fun z => mv_tf ho z) (fun _ z => hno z) (fun _ _ _ z => absurd z hz) (fun _ _ _ _ z => absurd z hs) (fun y _ e _ _ c' hc' => h c' hc'), mv_Gs, rfl⟩
  · exact ⟨-2, io, lv, tc, ov, cm, vw, fun c post hQ h => mv_o_drop hQ ht hr (fun _ => h c hQ) (fun z => absurd z ho) (fun _ z => absurd z ho) (fun _ z => absurd z ho) (fun _ z => absurd z ho), mv_G0, rfl⟩
theorem mv_x_abort (ht : t < 4) : ∃ res io' lv' tc' ov' cm' vw', (∀ c post, mv_R c io lv tc ov cm vw → (∀ c', mv_R c' io' lv' tc' ov' cm' vw' → post res c') → wpX_abort post c (nI t)) ∧ mv_G io lv vw io' lv' vw' t ∧ cm' = cm := by
  by_cases ho : io t = true
  · exact ⟨_, _, _, _, _, _, _, fun c post hQ h => mv_o_abort hQ ht (fun z => mv_tf ho z) (fun _ c' hc' => h c' hc'), fun u hu => ⟨mv_un hu, rfl, rfl⟩, rfl⟩
  · exact ⟨-2, io, lv, tc, ov, cm, vw, fun c post hQ h => mv_o_abort hQ ht (fun _ => h c hQ) (fun z => absurd z ho), mv_G0, rfl⟩
theorem mv_x_commit (ht : t < 4) : ∃ res io' lv' tc' ov' cm' vw', (∀ c post, mv_R c io lv tc ov cm vw → (∀ c', mv_R c' io' lv' tc' ov' cm' vw' → post res c') → wpX_commit post c (nI t)) ∧ mv_G io lv vw io' lv' vw' t ∧
    ((¬ res < 0 ∧ ∀ row, (cm' row).getD 0 = if mv_b (mv_ach io lv tc t) row = true then mv_aget io lv vw t row else (cm row).getD 0) ∨ (res < 0 ∧ cm' = cm)) := by
  by_cases ho : io t = true
  · refine ⟨_, _, _, _, _, _, _, fun c post hQ h => mv_o_commit hQ ht (fun z => mv_tf ho z) (fun _ c' hc' => h c' hc'), fun u hu => ⟨mv_un hu, rfl, rfl⟩, Or.inl ⟨?_, fun row => ?_⟩⟩
    · obtain ⟨j, hj, e⟩ := mv_szf_n (mv_cf tc (4 * t) (lv t + 1)) 8 (by omega)
      rw [e]
      exact nI_pos (by omega)
    · unfold mv_cmc mv_ach mv_aget
      rw [if_pos ho, if_pos ho]
      by_cases hb : mv_b (mv_cf tc (4 * t) (lv t + 1)) row = true
      · rw [if_pos hb, if_pos hb]
      · rw [if_neg hb, if_neg hb]
  · exact ⟨-2, io, lv, tc, ov, cm, vw, fun c post hQ h => mv_o_commit hQ ht (fun _ => h c hQ) (fun z => absurd z ho), mv_G0, Or.inr ⟨by decide, rfl⟩⟩
theorem mv_w_turn {c : St1} {post : Int32 → St1 → Prop} {op p : Int32} {o : Nat} (eo : op &&& 31 = nI o) (ho : o < 32) (et : p &&& 3 = nI t) (er : (p >>> ((2 : Int32) &&& 31)) &&& 7 = nI r) (hr : r < 8)
    (k1 : o < 6 → wpX_open post c (nI t)) (k2 : 6 ≤ o → o < 13 → wpX_put post c (nI t) (nI r) (p >>> ((5 : Int32) &&& 31))) (k3 : 13 ≤ o → o < 16 → wpX_add post c (nI t) (nI r) (p >>> ((5 : Int32) &&& 31)))
    (k4 : 16 ≤ o → o < 19 → wpX_drop post c (nI t) (nI r)) (k5 : 19 ≤ o → o < 21 → wpX_save post c (nI t)) (k6 : 21 ≤ o → o < 23 → wpX_back post c (nI t)) (k7 : 23 ≤ o → o < 28 → wpX_commit post c (nI t))
    (k8 : o = 28 → wpX_abort post c (nI t)) (k9 : o = 29 → r = 0 → wpX_crash post c) (k9' : o = 29 → r ≠ 0 → wpX_commit post c (nI t)) (k10 : o = 30 → wpX_vacuum (post 0) c) (k11 : o = 31 → wpX_flush (post 0) c) : wpL_turn post c op p := by
  obtain ⟨C, R, a1, a2, a3, a4, a5, a6, a7, a8, a9, a10, a11, a12⟩ := c
  refine nm_r eo (nm_r et (nm_r er ?_))
  refine pk_le 6 o (fun z1 => ?_) (fun z1 => k1 (by omega))
  refine pk_le 13 o (fun z2 => ?_) (fun z2 => k2 z1 z2)
  refine pk_le 16 o (fun z3 => ?_) (fun z3 => k3 z2 z3)
  refine pk_le 19 o (fun z4 => ?_) (fun z4 => k4 z3 z4)
  refine pk_le 21 o (fun z5 => ?_) (fun z5 => k5 z4 z5)
  refine pk_le 23 o (fun z6 => ?_) (fun z6 => k6 z5 z6)
  refine pk_le 28 o (fun z7 => ?_) (fun z7 => k7 z6 z7)
  refine pk_eq o 28 (fun z8 => k8 z8) (fun z8 => ?_)
  refine pk_eq o 29 (fun z9 => ?_) (fun z9 => ?_)
  · exact pk_eq r 0 (fun y => k9 z9 y) (fun y => k9' z9 y)
  · exact pk_eq o 30 (fun z10 => k10 z10) (fun z10 => k11 (by omega))
/-- a turn: its answer and the new abstract state depend on the old abstract state alone -/
theorem mv_turn (ht : t < 4) (hr : r < 8) {op p : Int32} {o : Nat} (eo : op &&& 31 = nI o) (ho : o < 32) (et : p &&& 3 = nI t) (er : (p >>> ((2 : Int32) &&& 31)) &&& 7 = nI r) :
    ∃ res io' lv' tc' ov' cm' vw', (∀ c post, mv_R c io lv tc ov cm vw → (∀ c', mv_R c' io' lv' tc' ov' cm' vw' → post res c') → wpL_turn post c op p) ∧
      (¬ (o = 29 ∧ r = 0) → mv_G io lv vw io' lv' vw' t) ∧
      ((23 ≤ o ∧ o < 30 ∧ o ≠ 28 ∧ ¬ (o = 29 ∧ r = 0) ∧ ¬ res < 0) → ∀ row, (cm' row).getD 0 = if mv_b (mv_ach io lv tc t) row = true then mv_aget io lv vw t row else (cm row).getD 0) ∧
      (¬ (23 ≤ o ∧ o < 30 ∧ o ≠ 28 ∧ ¬ (o = 29 ∧ r = 0) ∧ ¬ res < 0) → cm' = cm) := by
  by_cases c1 : o < 6
  · obtain ⟨res, io', lv', tc', ov', cm', vw', h1, h2, h3⟩ := mv_x_open (io := io) (lv := lv) (tc := tc) (ov := ov) (cm := cm) (vw := vw) ht
    exact ⟨res, io', lv', tc', ov', cm', vw', fun c post hQ h => mv_w_turn eo ho et er hr (fun _ => h1 c post hQ h) (fun z => by omega) (fun z => by omega) (fun z => by omega) (fun z => by omega) (fun z => by omega) (fun z => by omega) (fun z => by omega) (fun z => by omega) (fun z => by omega) (fun z => by omega) (fun z => by omega), fun _ => h2, fun z => by omega, fun _ => h3⟩
  by_cases c2 : o < 13
  · obtain ⟨res, io', lv', tc', ov', cm', vw', h1, h2, h3⟩ := mv_x_put (io := io) (lv := lv) (tc := tc) (ov := ov) (cm := cm) (vw := vw) (x := p >>> ((5 : Int32) &&& 31)) ht hr
    exact ⟨res, io', lv', tc', ov', cm', vw', fun c post hQ h => mv_w_turn eo ho et er hr (fun z => by omega) (fun _ _ => h1 c post hQ h) (fun z => by omega) (fun z => by omega) (fun z => by omega) (fun z => by omega) (fun z => by omega) (fun z => by omega) (fun z => by omega) (fun z => by omega) (fun z => by omega) (fun z => by omega), fun _ => h2, fun z => by omega, fun _ => h3⟩
  by_cases c3 : o < 16
  · obtain ⟨res, io', lv', tc', ov', cm', vw', h1, h2, h3⟩ := mv_x_add (io := io) (lv := lv) (tc := tc) (ov := ov) (cm := cm) (vw := vw) (x := p >>> ((5 : Int32) &&& 31)) ht hr
    exact ⟨res, io', lv', tc', ov', cm', vw', fun c post hQ h => mv_w_turn eo ho et er hr (fun z => by omega) (fun _ z => by omega) (fun _ _ => h1 c post hQ h) (fun z => by omega) (fun z => by omega) (fun z => by omega) (fun z => by omega) (fun z => by omega) (fun z => by omega) (fun z => by omega) (fun z => by omega) (fun z => by omega), fun _ => h2, fun z => by omega, fun _ => h3⟩
  by_cases c4 : o < 19
  · obtain ⟨res, io', lv', tc', ov', cm', vw', h1, h2, h3⟩ := mv_x_drop (io := io) (lv := lv) (tc := tc) (ov := ov) (cm := cm) (vw := vw) ht hr
    exact ⟨res, io', lv', tc', ov', cm', vw', fun c post hQ h => mv_w_turn eo ho et er hr (fun z => by omega) (fun _ z => by omega) (fun _ z => by omega) (fun _ _ => h1 c post hQ h) (fun z => by omega) (fun z => by omega) (fun z => by omega) (fun z => by omega) (fun z => by omega) (fun z => by omega) (fun z => by omega) (fun z => by omega), fun _ => h2, fun z => by omega, fun _ => h3⟩
  by_cases c5 : o < 21
  · obtain ⟨res, io', lv', tc', ov', cm', vw', h1, h2, h3⟩ := mv_x_save (io := io) (lv := lv) (tc := tc) (ov := ov) (cm := cm) (vw := vw) ht
    exact ⟨res, io', lv', tc', ov', cm', vw', fun c post hQ h => mv_w_turn eo ho et er hr (fun z => by omega) (fun _ z => by omega) (fun _ z => by omega) (fun _ z => by omega) (fun _ _ => h1 c post hQ h) (fun z => by omega) (fun z => by omega) (fun z => by omega) (fun z => by omega) (fun z => by omega) (fun z => by omega) (fun z => by omega), fun _ => h2, fun z => by omega, fun _ => h3⟩
  by_cases c6 : o < 23
  · obtain ⟨res, io', lv', tc', ov', cm', vw', h1, h2, h3⟩ := mv_x_back (io := io) (lv := lv) (tc := tc) (ov := ov) (cm := cm) (vw := vw) ht
    exact ⟨res, io', lv', tc', ov', cm', vw', fun c post hQ h => mv_w_turn eo ho et er hr (fun z => by omega) (fun _ z => by omega) (fun _ z => by omega) (fun _ z => by omega) (fun _ z => by omega) (fun _ _ => h1 c post hQ h) (fun z => by omega) (fun z => by omega) (fun z => by omega) (fun z => by omega) (fun z => by omega) (fun z => by omega), fun _ => h2, fun z => by omega, fun _ => h3⟩
  by_cases c7 : o < 28 ∨ (o = 29 ∧ r ≠ 0)
  · obtain ⟨res, io', lv', tc', ov', cm', vw', h1, h2, h3⟩ := mv_x_commit (io := io) (lv := lv) (tc := tc) (ov := ov) (cm := cm) (vw := vw) ht
    refine ⟨res, io', lv', tc', ov', cm', vw', fun c post hQ h => mv_w_turn eo ho et er hr (fun z => by omega) (fun _ z => by omega) (fun _ z => by omega) (fun _ z => by omega) (fun _ z => by omega) (fun _ z => by omega) (fun _ _ => h1 c post hQ h) (fun z => by omega) (fun z z' => by omega) (fun _ _ => h1 c post hQ h) (fun z => by omega) (fun z => by omega), fun _ => h2, fun z => ?_, fun z => ?_⟩
    · rcases h3 with h3 | h3
      · exact h3.2
      · exact absurd h3.1 z.2.2.2.2
    · rcases h3 with h3 | h3
      · exact absurd ⟨by omega, by omega, by omega, by omega, h3.1⟩ z
      · exact h3.2
  by_cases c8 : o = 28
  · obtain ⟨res, io', lv', tc', ov', cm', vw', h1, h2, h3⟩ := mv_x_abort (io := io) (lv := lv) (tc := tc) (ov := ov) (cm := cm) (vw := vw) ht
    exact ⟨res, io', lv', tc', ov', cm', vw', fun c post hQ h => mv_w_turn eo ho et er hr (fun z => by omega) (fun _ z => by omega) (fun _ z => by omega) (fun _ z => by omega) (fun _ z => by omega) (fun _ z => by omega) (fun _ z => by omega) (fun _ => h1 c post hQ h) (fun z => by omega) (fun z => by omega) (fun z => by omega) (fun z => by omega), fun _ => h2, fun z => by omega, fun _ => h3⟩
  by_cases c9 : o = 29
  · have hr0 : r = 0 := by omega
    exact ⟨_, _, _, _, _, _, _, fun c post hQ h => mv_w_turn eo ho et er hr (fun z => by omega) (fun _ z => by omega) (fun _ z => by omega) (fun _ z => by omega) (fun _ z => by omega) (fun _ z => by omega) (fun _ z => by omega) (fun z => by omega) (fun _ _ => mv_o_crash hQ (fun c' hc' => h c' hc')) (fun _ z => absurd hr0 z) (fun z => by omega) (fun z => by omega), fun z => absurd ⟨c9, hr0⟩ z, fun z => absurd ⟨c9, hr0⟩ z.2.2.2.1, fun _ => rfl⟩
  by_cases c10 : o = 30
  · exact ⟨0, io, lv, tc, ov, cm, vw, fun c post hQ h => mv_w_turn eo ho et er hr (fun z => by omega) (fun _ z => by omega) (fun _ z => by omega) (fun _ z => by omega) (fun _ z => by omega) (fun _ z => by omega) (fun _ z => by omega) (fun z => by omega) (fun z => by omega) (fun z => by omega) (fun _ => mv_o_vac hQ (fun c' hc' => h c' hc')) (fun z => by omega), fun _ => mv_G0, fun z => by omega, fun _ => rfl⟩
  · exact ⟨0, io, lv, tc, ov, cm, vw, fun c post hQ h => mv_w_turn eo ho et er hr (fun z => by omega) (fun _ z => by omega) (fun _ z => by omega) (fun _ z => by omega) (fun _ z => by omega) (fun _ z => by omega) (fun _ z => by omega) (fun z => by omega) (fun z => by omega) (fun z => by omega) (fun z => by omega) (fun _ => mv_o_flush hQ (fun c' hc' => h c' hc')), fun _ => mv_G0, fun z => by omega, fun _ => rfl⟩
end
end
section
/-! 15: the law's pieces -/
section
variable {C : Int64} {R : Int64} {a1 : Nat → Int32} {a2 : Nat → Int32} {a3 : Nat → Int32} {a4 : Nat → Int32} {a5 : Nat → Int32} {a6 : Nat → Int32} {a7 : Nat → Int64} {a8 : Nat → Int32} {a9 : Nat → Int32} {a10 : Nat → Int32} {a11 : Nat → Int32} {a12 : Nat → Int32} {D : Int64} {E : Int64} {b1 : Nat → Int32} {b2 : Nat → Int32} {b3 : Nat → Int32} {b4 : Nat → Int32} {b5 : Nat → Int32} {b6 : Nat → Int32} {b7 : Nat → Int64} {b8 : Nat → Int32} {b9 : Nat → Int32} {b10 : Nat → Int32} {b11 : Nat → Int32} {b12 : Nat → Int32} {io : Nat → Bool} {lv : Nat → Nat} {tc ov : Nat → Int32} {cm : Nat → Option Int32} {vw : Nat → Nat → Nat → Option Int32} {post : Int32 → Prop} {L : Nat} {xs : Nat → Int32} {kc ks : Nat} {J : Int32 → Int64 → Int64 → (Nat → Int32) → (Nat → Int32) → (Nat → Int32) → (Nat → Int32) → (Nat → Int32) → (Nat → Int32) → (Nat → Int64) → (Nat → Int32) → (Nat → Int32) → (Nat → Int32) → (Nat → Int32) → (Nat → Int32) → Int64 → Int64 → (Nat → Int32) → (Nat → Int32) → (Nat → Int32) → (Nat → Int32) → (Nat → Int32) → (Nat → Int32) → (Nat → Int64) → (Nat → Int32) → (Nat → Int32) → (Nat → Int32) → (Nat → Int32) → (Nat → Int32) → Prop}
theorem mv_sees (hm : mv_R (C, R, a1, a2, a3, a4, a5, a6, a7, a8, a9, a10, a11, a12) io lv tc ov cm vw) (hn : mv_R (D, E, b1, b2, b3, b4, b5, b6, b7, b8, b9, b10, b11, b12) io lv tc ov cm vw) {t : Nat} (ht : t < 4) (h : post 1) : wpL_sees post (C, R, a1, a2, a3, a4, a5, a6, a7, a8, a9, a10, a11, a12, D, E, b1, b2, b3, b4, b5, b6, b7, b8, b9, b10, b11, b12) (nI t) := by
  refine pk_loop (σ := Unit) (fun n i _ => wL_sees_2 post (nI t) C R a1 a2 a3 a4 a5 a6 a7 a8 a9 a10 a11 a12 D E b1 b2 b3 b4 b5 b6 b7 b8 b9 b10 b11 b12 n (nI i)) (fun _ _ => True) 8 0 () (by omega) trivial ?_ ?_
  · intro n _ _
    refine pk_le 8 8 (fun _ => ?_) (fun z => absurd z (by omega))
    exact mv_r_cnt hm ht (mv_r_cnt hn ht (br_t rfl (mv_r_ch hm ht (mv_r_ch hn ht (br_t rfl h)))))
  · intro n i _ hi _ hw
    refine pk_le 8 i (fun z => absurd z (by omega)) (fun _ => ?_)
    exact mv_r_has hm ht hi (mv_r_has hn ht hi (br_t rfl (mv_r_get hm ht hi (mv_r_get hn ht hi (br_t rfl (nm_r (nI_1 i) (hw () trivial)))))))
theorem mv_equal (hm : mv_R (C, R, a1, a2, a3, a4, a5, a6, a7, a8, a9, a10, a11, a12) io lv tc ov cm vw) (hn : mv_R (D, E, b1, b2, b3, b4, b5, b6, b7, b8, b9, b10, b11, b12) io lv tc ov cm vw) (h : post 1) : wpL_equal post (C, R, a1, a2, a3, a4, a5, a6, a7, a8, a9, a10, a11, a12, D, E, b1, b2, b3, b4, b5, b6, b7, b8, b9, b10, b11, b12) := by
  refine pk_loop (σ := Unit) (fun n i _ => wL_equal_2 post C R a1 a2 a3 a4 a5 a6 a7 a8 a9 a10 a11 a12 D E b1 b2 b3 b4 b5 b6 b7 b8 b9 b10 b11 b12 n (nI i)) (fun _ _ => True) 8 0 () (by omega) trivial ?_ ?_
  · intro n _ _
    refine pk_le 8 8 (fun _ => ?_) (fun z => absurd z (by omega))
    exact mv_r_rows hm (mv_r_rows hn (br_t rfl h))
  · intro n i _ hi _ hw
    refine pk_le 8 i (fun z => absurd z (by omega)) (fun _ => ?_)
    refine mv_r_cm hm hi (mv_r_cm hn hi (br_t rfl ?_))
    rw [pk_andN (n := i) (by omega) (m := 3) 2 (by decide)]
    exact mv_sees hm hn (Nat.mod_lt _ (by omega)) (br_f (by decide) (nm_r (nI_1 i) (hw () trivial)))
theorem mv_l329 {x3 x4 x5 : Int32} (hm : mv_R (C, R, a1, a2, a3, a4, a5, a6, a7, a8, a9, a10, a11, a12) io lv tc ov cm vw) (hJ : J (x5 + 2) C R a1 a2 a3 a4 a5 a6 a7 a8 a9 a10 a11 a12 D E b1 b2 b3 b4 b5 b6 b7 b8 b9 b10 b11 b12) : ∃ n, wL_law_329 post L xs J x3 x4 x5 kc ks C R a1 a2 a3 a4 a5 a6 a7 a8 a9 a10 a11 a12 D E b1 b2 b3 b4 b5 b6 b7 b8 b9 b10 b11 b12 n 0 0 := by
  have hD : mv_D io lv tc ov := by
    obtain ⟨us, ro, mk, en, nm, hM, hT, hI⟩ := hm
    exact hI.2.2.2.2.1
  refine pk_loop (fun n i s => wL_law_329 post L xs J x3 x4 x5 kc ks C R a1 a2 a3 a4 a5 a6 a7 a8 a9 a10 a11 a12 D E b1 b2 b3 b4 b5 b6 b7 b8 b9 b10 b11 b12 n s (nI i)) (fun i s => ∀ b, mv_b s b = true → ∃ u, u < i ∧ io u = true ∧ mv_b (mv_cf tc (4 * u) (lv u + 1)) b = true) 4 0 0 (by omega) ?_ ?_ ?_
  · intro b z
    rw [mv_b_0] at z
    exact absurd z (by decide)
  · intro n s hs
    exact pk_le 4 4 (fun _ => nm_e hJ) (fun z => absurd z (by omega))
  · intro n i s hi hs hw
    have none0 : wL_law_354 post L xs J (wL_law_329 post L xs J x3 x4 x5 kc ks C R a1 a2 a3 a4 a5 a6 a7 a8 a9 a10 a11 a12 D E b1 b2 b3 b4 b5 b6 b7 b8 b9 b10 b11 b12 n) x3 x4 x5 s (nI i) 0 kc ks C R a1 a2 a3 a4 a5 a6 a7 a8 a9 a10 a11 a12 D E b1 b2 b3 b4 b5 b6 b7 b8 b9 b10 b11 b12 := by
      refine br_t (by rw [Int32.and_zero]) (nm_e (nm_r (nI_1 i) (hw _ (fun b z => ?_))))
      rw [Int32.or_zero] at z
      obtain ⟨u, hu, y⟩ := hs b z
      exact ⟨u, by omega, y⟩
    refine pk_le 4 i (fun z => absurd z (by omega)) (fun _ => mv_r_ch hm hi ?_)
    refine br_c (fun z => mv_r_ch hm hi ?_) (fun _ => none0)
    unfold mv_ach at z ⊢
    by_cases ho : io i = true
    · rw [if_pos ho]
      refine br_t ?_ (nm_e (nm_r (nI_1 i) (hw _ (fun b y => ?_))))
      · apply mv_b_ext
        intro b hb
        rw [mv_b_and, mv_b_0]
        apply mv_nf
        intro y
        rw [Bool.and_eq_true] at y
        obtain ⟨u, hu, ho', y1⟩ := hs b y.1
        obtain ⟨j, hj, y1⟩ := (mv_cf_b _ _ _ _).mp y1
        obtain ⟨k, hk, y2⟩ := (mv_cf_b _ _ _ _).mp y.2
        exact hD.1 u j i k b ⟨by omega, ho', by omega⟩ ⟨hi, ho, by omega⟩ (by omega) y1 y2
      · rw [mv_b_or, Bool.or_eq_true] at y
        rcases y with y | y
        · obtain ⟨u, hu, w⟩ := hs b y
          exact ⟨u, by omega, w⟩
        · exact ⟨i, by omega, ho, y⟩
    · rw [if_neg ho] at z
      exact absurd z (by decide)
theorem mv_l318 {x3 x4 x5 z1 z2 : Int32} (hm : mv_R (C, R, a1, a2, a3, a4, a5, a6, a7, a8, a9, a10, a11, a12) io lv tc ov cm vw) (hJ : J (x5 + 2) C R a1 a2 a3 a4 a5 a6 a7 a8 a9 a10 a11 a12 D E b1 b2 b3 b4 b5 b6 b7 b8 b9 b10 b11 b12) (e : z2 = z1) : wL_law_318 post L xs J x3 x4 x5 z1 z2 kc ks C R a1 a2 a3 a4 a5 a6 a7 a8 a9 a10 a11 a12 D E b1 b2 b3 b4 b5 b6 b7 b8 b9 b10 b11 b12 :=
  br_t e (mv_l329 hm hJ)
theorem mv_l289 {x3 x5 x11 x12 x13 x17 : Int32} {row : Nat} (hr : row < 8) (hm : mv_R (C, R, a1, a2, a3, a4, a5, a6, a7, a8, a9, a10, a11, a12) io lv tc ov cm vw) (hJ : J (x5 + 2) C R a1 a2 a3 a4 a5 a6 a7 a8 a9 a10 a11 a12 D E b1 b2 b3 b4 b5 b6 b7 b8 b9 b10 b11 b12)
    (h0 : x17 = 0 → (cm row).getD 0 = x11) (h1 : ¬ x17 = 0 → (cm row).getD 0 = if mv_b x12 row = true then x13 else x11) : wL_law_289 post L xs J x3 (nI row) x5 x11 x12 x13 x17 kc ks C R a1 a2 a3 a4 a5 a6 a7 a8 a9 a10 a11 a12 D E b1 b2 b3 b4 b5 b6 b7 b8 b9 b10 b11 b12 := by
  refine mv_r_cm hm hr (br_c (fun z => mv_l318 hm hJ (h0 z)) (fun z => br_c (fun y => mv_l318 hm hJ ?_) (fun y => mv_l318 hm hJ ?_)))
  · rw [h1 z, if_pos ((mv_b_t _ (by omega)).mp y)]
  · rw [h1 z, if_neg (fun w => y ((mv_b_t _ (by omega)).mpr w))]
theorem mv_l247 {x3 x5 x7 x8 x9 x10 x11 x12 x13 x16 x17 : Int32} {row u : Nat} (hr : row < 8) (hu : u < 4) (eu : x7 ^^^ 1 = nI u) (hm : mv_R (C, R, a1, a2, a3, a4, a5, a6, a7, a8, a9, a10, a11, a12) io lv tc ov cm vw) (hJ : J (x5 + 2) C R a1 a2 a3 a4 a5 a6 a7 a8 a9 a10 a11 a12 D E b1 b2 b3 b4 b5 b6 b7 b8 b9 b10 b11 b12)
    (h0 : x17 = 0 → (cm row).getD 0 = x11) (h1 : ¬ x17 = 0 → (cm row).getD 0 = if mv_b x12 row = true then x13 else x11)
    (h2 : x16 = 0 → mv_asum io lv vw u = x9 ∧ mv_aget io lv vw u row = x10) : wL_law_247 post L xs J x3 (nI row) x5 x7 x8 x9 x10 x11 x12 x13 x16 x17 kc ks C R a1 a2 a3 a4 a5 a6 a7 a8 a9 a10 a11 a12 D E b1 b2 b3 b4 b5 b6 b7 b8 b9 b10 b11 b12 := by
  have h := mv_l289 (post := post) (L := L) (xs := xs) (kc := kc) (ks := ks) (x3 := x3) hr hm hJ h0 h1
  refine br_c (fun _ => h) (fun _ => br_c (fun z => ?_) (fun _ => h))
  rw [eu]
  exact mv_r_sum hm hu (br_t (h2 z).1 (mv_r_get hm hu hr (br_t (h2 z).2 h)))
theorem mv_l209 {x3 x5 x7 x8 x9 x10 x11 x12 x13 x14 z0 : Int32} {row u o : Nat} (ho : o < 32) (hr : row < 8) (hu : u < 4) (eu : x7 ^^^ 1 = nI u) (hm : mv_R (C, R, a1, a2, a3, a4, a5, a6, a7, a8, a9, a10, a11, a12) io lv tc ov cm vw) (hJ : J (x5 + 2) C R a1 a2 a3 a4 a5 a6 a7 a8 a9 a10 a11 a12 D E b1 b2 b3 b4 b5 b6 b7 b8 b9 b10 b11 b12)
    (h0 : ¬ (23 ≤ o ∧ o < 30 ∧ o ≠ 28 ∧ z0 = 0 ∧ ¬ x14 < 0) → (cm row).getD 0 = x11) (h1 : (23 ≤ o ∧ o < 30 ∧ o ≠ 28 ∧ z0 = 0 ∧ ¬ x14 < 0) → (cm row).getD 0 = if mv_b x12 row = true then x13 else x11)
    (h2 : z0 = 0 → mv_asum io lv vw u = x9 ∧ mv_aget io lv vw u row = x10) : wL_law_209 post L xs J x3 (nI row) x5 (nI o) x7 x8 x9 x10 x11 x12 x13 x14 z0 kc ks C R a1 a2 a3 a4 a5 a6 a7 a8 a9 a10 a11 a12 D E b1 b2 b3 b4 b5 b6 b7 b8 b9 b10 b11 b12 := by
  have no : ¬ (23 ≤ o ∧ o < 30 ∧ o ≠ 28 ∧ z0 = 0 ∧ ¬ x14 < 0) → wL_law_246 post L xs J x3 (nI row) x5 x7 x8 x9 x10 x11 x12 x13 z0 kc ks C R a1 a2 a3 a4 a5 a6 a7 a8 a9 a10 a11 a12 D E b1 b2 b3 b4 b5 b6 b7 b8 b9 b10 b11 b12 :=
    fun z => mv_l247 hr hu eu hm hJ (fun _ => h0 z) (fun y => absurd rfl y) h2
  refine pk_le o 22 (fun z => no (fun y => by omega)) (fun z1 => pk_le 30 o (fun z => no (fun y => by omega)) (fun z2 => pk_eq o 28 (fun z => no (fun y => y.2.2.1 z)) (fun z3 => br_c (fun z4 => br_c (fun z => no (fun y => y.2.2.2.2 z)) (fun z5 => ?_)) (fun z => no (fun y => z y.2.2.2.1)))))
  exact mv_l247 hr hu eu hm hJ (fun y => absurd y (by decide)) (fun _ => h1 ⟨by omega, by omega, z3, z4, z5⟩) h2
end
end
section
/-! 16: one round of the law's loop, and what stands behind the loop -/
theorem mv_x1 : ∀ t, t < 4 → nI t ^^^ 1 = nI (t ^^^ 1) ∧ t ^^^ 1 < 4 ∧ t ^^^ 1 ≠ t := by decide +kernel
def mv_wf (cm : Nat → Option Int32) : Nat → Int32
  | 0 => 0
  | k + 1 => mv_wf cm k + (cm k).getD 0 * (nI k + 1)
section
variable {C : Int64} {R : Int64} {a1 : Nat → Int32} {a2 : Nat → Int32} {a3 : Nat → Int32} {a4 : Nat → Int32} {a5 : Nat → Int32} {a6 : Nat → Int32} {a7 : Nat → Int64} {a8 : Nat → Int32} {a9 : Nat → Int32} {a10 : Nat → Int32} {a11 : Nat → Int32} {a12 : Nat → Int32} {D : Int64} {E : Int64} {b1 : Nat → Int32} {b2 : Nat → Int32} {b3 : Nat → Int32} {b4 : Nat → Int32} {b5 : Nat → Int32} {b6 : Nat → Int32} {b7 : Nat → Int64} {b8 : Nat → Int32} {b9 : Nat → Int32} {b10 : Nat → Int32} {b11 : Nat → Int32} {b12 : Nat → Int32} {io : Nat → Bool} {lv : Nat → Nat} {tc ov : Nat → Int32} {cm : Nat → Option Int32} {vw : Nat → Nat → Nat → Option Int32} {post : Int32 → Prop} {L : Nat} {xs : Nat → Int32} {kc ks : Nat} {J : Int32 → Int64 → Int64 → (Nat → Int32) → (Nat → Int32) → (Nat → Int32) → (Nat → Int32) → (Nat → Int32) → (Nat → Int32) → (Nat → Int64) → (Nat → Int32) → (Nat → Int32) → (Nat → Int32) → (Nat → Int32) → (Nat → Int32) → Int64 → Int64 → (Nat → Int32) → (Nat → Int32) → (Nat → Int32) → (Nat → Int32) → (Nat → Int32) → (Nat → Int32) → (Nat → Int64) → (Nat → Int32) → (Nat → Int32) → (Nat → Int32) → (Nat → Int32) → (Nat → Int32) → Prop}
theorem mv_l84 {x3 z0 : Int32} {row k t r o : Nat} (hr : row < 8) (hk : k + 1 < L) (hL : L ≤ 260) (ht : t < 4) (hr' : r < 8) (ho : o < 32)
    (eo : xs k &&& 31 = nI o) (et : xs (k + 1) &&& 3 = nI t) (er : (xs (k + 1) >>> ((2 : Int32) &&& 31)) &&& 7 = nI r)
    (hm : mv_R (C, R, a1, a2, a3, a4, a5, a6, a7, a8, a9, a10, a11, a12) io lv tc ov cm vw) (hn : mv_R (D, E, b1, b2, b3, b4, b5, b6, b7, b8, b9, b10, b11, b12) io lv tc ov cm vw)
    (hJ : ∀ io' lv' tc' ov' cm' vw', ∀ c c' : St1, mv_R c io' lv' tc' ov' cm' vw' → mv_R c' io' lv' tc' ov' cm' vw' → J (nI (k + 2)) c.1 c.2.1 c.2.2.1 c.2.2.2.1 c.2.2.2.2.1 c.2.2.2.2.2.1 c.2.2.2.2.2.2.1 c.2.2.2.2.2.2.2.1 c.2.2.2.2.2.2.2.2.1 c.2.2.2.2.2.2.2.2.2.1 c.2.2.2.2.2.2.2.2.2.2.1 c.2.2.2.2.2.2.2.2.2.2.2.1 c.2.2.2.2.2.2.2.2.2.2.2.2.1 c.2.2.2.2.2.2.2.2.2.2.2.2.2 c'.1 c'.2.1 c'.2.2.1 c'.2.2.2.1 c'.2.2.2.2.1 c'.2.2.2.2.2.1 c'.2.2.2.2.2.2.1 c'.2.2.2.2.2.2.2.1 c'.2.2.2.2.2.2.2.2.1 c'.2.2.2.2.2.2.2.2.2.1 c'.2.2.2.2.2.2.2.2.2.2.1 c'.2.2.2.2.2.2.2.2.2.2.2.1 c'.2.2.2.2.2.2.2.2.2.2.2.2.1 c'.2.2.2.2.2.2.2.2.2.2.2.2.2) :
    wL_law_84 post L xs J x3 (nI row) (nI k) (nI o) (nI t) z0 kc ks C R a1 a2 a3 a4 a5 a6 a7 a8 a9 a10 a11 a12 D E b1 b2 b3 b4 b5 b6 b7 b8 b9 b10 b11 b12 := by
  obtain ⟨eu, hu, hne⟩ := mv_x1 t ht
  obtain ⟨res, io', lv', tc', ov', cm', vw', T, g1, g2, g3⟩ := mv_turn (io := io) (lv := lv) (tc := tc) (ov := ov) (cm := cm) (vw := vw) ht hr' eo ho et er
  have e2 : nI k + 2 = nI (k + 2) := nI_add k 2
  unfold wL_law_84
  rw [nI_1, nI_clamp (n := k) (by omega), nI_clamp (n := k + 1) (by omega), eu, er]
  refine mv_r_sum hm hu (mv_r_get hm hu hr (mv_r_cm hm hr (mv_r_ch hm ht (mv_r_get hm ht hr ⟨pk_in k L (by omega), pk_in (k + 1) L hk, T _ _ hm (fun c hc => ?_)⟩))))
  obtain ⟨C', R', p1, p2, p3, p4, p5, p6, p7, p8, p9, p10, p11, p12⟩ := c
  refine ⟨pk_in k L (by omega), pk_in (k + 1) L hk, T _ _ hn (fun c' hc' => ?_)⟩
  refine mv_o_vac hc' (fun c2 hc2 => ?_)
  refine mv_o_flush hc2 (fun c3 hc3 => ?_)
  obtain ⟨D', E', q1, q2, q3, q4, q5, q6, q7, q8, q9, q10, q11, q12⟩ := c3
  have hJ' : J (nI k + 2) C' R' p1 p2 p3 p4 p5 p6 p7 p8 p9 p10 p11 p12 D' E' q1 q2 q3 q4 q5 q6 q7 q8 q9 q10 q11 q12 := by
    rw [e2]
    exact hJ io' lv' tc' ov' cm' vw' _ _ hc hc3
  have plain : ¬ (o = 29 ∧ r = 0) → wL_law_208 post L xs J x3 (nI row) (nI k) (nI o) (nI t) z0 (mv_asum io lv vw (t ^^^ 1)) (mv_aget io lv vw (t ^^^ 1) row) ((cm row).getD 0) (mv_ach io lv tc t) (mv_aget io lv vw t row) res kc ks C' R' p1 p2 p3 p4 p5 p6 p7 p8 p9 p10 p11 p12 D' E' q1 q2 q3 q4 q5 q6 q7 q8 q9 q10 q11 q12 := by
    intro nc
    obtain ⟨y1, y2, y3⟩ := g1 nc (t ^^^ 1) hne
    refine mv_l209 ho hr hu eu hc hJ' (fun z => ?_) (fun z => ?_) (fun _ => ⟨?_, ?_⟩)
    · rw [g3 (fun y => z ⟨y.1, y.2.1, y.2.2.1, rfl, y.2.2.2.2⟩)]
    · exact g2 ⟨z.1, z.2.1, z.2.2.1, nc, z.2.2.2.2⟩ row
    · unfold mv_asum
      rw [y1, y2, y3]
    · unfold mv_aget
      rw [y1, y2, y3]
  refine br_t rfl (pk_eq o 29 (fun e => ⟨pk_in (k + 1) L hk, pk_eq r 0 (fun e' => ?_) (fun e' => plain (fun y => e' y.2))⟩) (fun e => plain (fun y => e y.1)))
  refine mv_l209 ho hr hu eu hc hJ' (fun z => ?_) (fun z => absurd z.2.2.2.1 (by decide)) (fun z => absurd z (by decide))
  rw [g3 (fun y => y.2.2.2.1 ⟨e, e'⟩)]
theorem mv_l446 (hm : mv_R (C, R, a1, a2, a3, a4, a5, a6, a7, a8, a9, a10, a11, a12) (fun _ => false) lv tc ov cm vw) {io' : Nat → Bool} {lv' : Nat → Nat} {tc' ov' : Nat → Int32} {vw' : Nat → Nat → Nat → Option Int32} (hn : mv_R (D, E, b1, b2, b3, b4, b5, b6, b7, b8, b9, b10, b11, b12) io' lv' tc' ov' cm vw') (h : post 1) : ∃ n, wL_law_446 post L xs kc ks C R a1 a2 a3 a4 a5 a6 a7 a8 a9 a10 a11 a12 D E b1 b2 b3 b4 b5 b6 b7 b8 b9 b10 b11 b12 n (mv_wf cm 8) 0 := by
  refine pk_loop (fun n i s => wL_law_446 post L xs kc ks C R a1 a2 a3 a4 a5 a6 a7 a8 a9 a10 a11 a12 D E b1 b2 b3 b4 b5 b6 b7 b8 b9 b10 b11 b12 n s (nI i)) (fun i s => s + mv_wf cm i = mv_wf cm 8) 8 0 (mv_wf cm 8) (by omega) (Int32.add_zero _) ?_ ?_
  · intro n s hs
    have hs0 : s = 0 := by
      have : s + mv_wf cm 8 = mv_wf cm 8 := hs
      grind
    refine pk_le 8 8 (fun _ => br_t hs0 ?_) (fun z => absurd z (by omega))
    refine mv_r_rows hm (mv_r_rows hn (br_t rfl ?_))
    refine mv_r_cnt (t := 0) hm (by omega) (br_t rfl ?_)
    refine mv_o_open (t := 0) hm (by omega) (fun z => absurd (show false = true from z) (by decide)) (fun _ c hc => ?_)
    obtain ⟨C', R', p1, p2, p3, p4, p5, p6, p7, p8, p9, p10, p11, p12⟩ := c
    refine br_t rfl (mv_r_cnt (t := 0) hc (by omega) (mv_r_rows hc (br_t ?_ h)))
    unfold mv_acnt
    rw [mv_us, if_pos rfl, mv_us]
  · intro n i s hi hs hw
    refine pk_le 8 i (fun z => absurd z (by omega)) (fun _ => mv_r_cm hm hi (nm_e (nm_r (nI_1 i) (hw _ ?_))))
    show s - (cm i).getD 0 * (nI i + 1) + (mv_wf cm i + (cm i).getD 0 * (nI i + 1)) = mv_wf cm 8
    have : s + mv_wf cm i = mv_wf cm 8 := hs
    grind
theorem mv_l401 {x3 : Int32} {t : Nat} (ht : t < 4) (et : x3 &&& 3 = nI t) (hm : mv_R (C, R, a1, a2, a3, a4, a5, a6, a7, a8, a9, a10, a11, a12) io lv tc ov cm vw) (hn : mv_R (D, E, b1, b2, b3, b4, b5, b6, b7, b8, b9, b10, b11, b12) io lv tc ov cm vw) (h : post 1) : ∃ n, wL_law_401 post L xs x3 kc ks C R a1 a2 a3 a4 a5 a6 a7 a8 a9 a10 a11 a12 D E b1 b2 b3 b4 b5 b6 b7 b8 b9 b10 b11 b12 n 0 0 := by
  refine pk_loop (σ := Unit) (fun n i _ => wL_law_401 post L xs x3 kc ks C R a1 a2 a3 a4 a5 a6 a7 a8 a9 a10 a11 a12 D E b1 b2 b3 b4 b5 b6 b7 b8 b9 b10 b11 b12 n (mv_wf cm i) (nI i)) (fun _ _ => True) 8 0 () (by omega) trivial ?_ ?_
  · intro n _ _
    refine pk_le 8 8 (fun _ => ?_) (fun z => absurd z (by omega))
    rw [et]
    have fin : ∀ c io', mv_R c io' lv tc ov cm vw → wpX_crash (fun r_136 u => match u with | (fm0_committedSet_137, fm0_runningSet_138, am4391_141, am4392_144, am4393_147, am4394_150, am4395_153, am4396_156, am4397_159, am4398_162, am4399_165, am43910_168, am43911_171, am43912_174) => (∃ fu446 : Nat, wL_law_446 post L xs kc ks fm0_committedSet_137 fm0_runningSet_138 am4391_141 am4392_144 am4393_147 am4394_150 am4395_153 am4396_156 am4397_159 am4398_162 am4399_165 am43910_168 am43911_171 am43912_174 D E b1 b2 b3 b4 b5 b6 b7 b8 b9 b10 b11 b12 fu446 (mv_wf cm 8) 0)) c := by
      intro c io' hc
      refine mv_o_crash hc (fun c' hc' => ?_)
      obtain ⟨C', R', p1, p2, p3, p4, p5, p6, p7, p8, p9, p10, p11, p12⟩ := c'
      exact mv_l446 hc' hn h
    exact mv_o_abort hm ht (fun _ => fin _ io hm) (fun _ c hc => fin c _ hc)
  · intro n i _ hi _ hw
    exact pk_le 8 i (fun z => absurd z (by omega)) (fun _ => mv_r_cm hm hi (nm_e (nm_r (nI_1 i) (hw () trivial))))
end
end
section
/-! 17: the law's loop and the owed statement -/
theorem mv_l40 {post : Int32 → Prop} {L : Nat} {xs : Nat → Int32} {kc ks : Nat} {x3 : Int32} {row t0 : Nat} (hL : L ≤ 260) (hr : row < 8) (ht : t0 < 4) (et : x3 &&& 3 = nI t0) (h : post 1) (s : Nat × St1 × St1)
    (hs : s.1 ≤ 300 ∧ ∃ io lv tc ov cm vw, mv_R s.2.1 io lv tc ov cm vw ∧ mv_R s.2.2 io lv tc ov cm vw) : ∃ n, wL_law_40 post L xs x3 (nI row) kc ks n (nI s.1) s.2.1.1 s.2.1.2.1 s.2.1.2.2.1 s.2.1.2.2.2.1 s.2.1.2.2.2.2.1 s.2.1.2.2.2.2.2.1 s.2.1.2.2.2.2.2.2.1 s.2.1.2.2.2.2.2.2.2.1 s.2.1.2.2.2.2.2.2.2.2.1 s.2.1.2.2.2.2.2.2.2.2.2.1 s.2.1.2.2.2.2.2.2.2.2.2.2.1 s.2.1.2.2.2.2.2.2.2.2.2.2.2.1 s.2.1.2.2.2.2.2.2.2.2.2.2.2.2.1 s.2.1.2.2.2.2.2.2.2.2.2.2.2.2.2 s.2.2.1 s.2.2.2.1 s.2.2.2.2.1 s.2.2.2.2.2.1 s.2.2.2.2.2.2.1 s.2.2.2.2.2.2.2.1 s.2.2.2.2.2.2.2.2.1 s.2.2.2.2.2.2.2.2.2.1 s.2.2.2.2.2.2.2.2.2.2.1 s.2.2.2.2.2.2.2.2.2.2.2.1 s.2.2.2.2.2.2.2.2.2.2.2.2.1 s.2.2.2.2.2.2.2.2.2.2.2.2.2.1 s.2.2.2.2.2.2.2.2.2.2.2.2.2.2.1 s.2.2.2.2.2.2.2.2.2.2.2.2.2.2.2 := by
  refine loop_m (fun n s => wL_law_40 post L xs x3 (nI row) kc ks n (nI s.1) s.2.1.1 s.2.1.2.1 s.2.1.2.2.1 s.2.1.2.2.2.1 s.2.1.2.2.2.2.1 s.2.1.2.2.2.2.2.1 s.2.1.2.2.2.2.2.2.1 s.2.1.2.2.2.2.2.2.2.1 s.2.1.2.2.2.2.2.2.2.2.1 s.2.1.2.2.2.2.2.2.2.2.2.1 s.2.1.2.2.2.2.2.2.2.2.2.2.1 s.2.1.2.2.2.2.2.2.2.2.2.2.2.1 s.2.1.2.2.2.2.2.2.2.2.2.2.2.2.1 s.2.1.2.2.2.2.2.2.2.2.2.2.2.2.2 s.2.2.1 s.2.2.2.1 s.2.2.2.2.1 s.2.2.2.2.2.1 s.2.2.2.2.2.2.1 s.2.2.2.2.2.2.2.1 s.2.2.2.2.2.2.2.2.1 s.2.2.2.2.2.2.2.2.2.1 s.2.2.2.2.2.2.2.2.2.2.1 s.2.2.2.2.2.2.2.2.2.2.2.1 s.2.2.2.2.2.2.2.2.2.2.2.2.1 s.2.2.2.2.2.2.2.2.2.2.2.2.2.1 s.2.2.2.2.2.2.2.2.2.2.2.2.2.2.1 s.2.2.2.2.2.2.2.2.2.2.2.2.2.2.2) (fun s => s.1 ≤ 300 ∧ ∃ io lv tc ov cm vw, mv_R s.2.1 io lv tc ov cm vw ∧ mv_R s.2.2 io lv tc ov cm vw) (fun s => 300 - s.1) ?_ s hs
  intro n s hI hw
  obtain ⟨k, ⟨C, R, a1, a2, a3, a4, a5, a6, a7, a8, a9, a10, a11, a12⟩, ⟨D, E, b1, b2, b3, b4, b5, b6, b7, b8, b9, b10, b11, b12⟩⟩ := s
  obtain ⟨hk, io, lv, tc, ov, cm, vw, hm, hn⟩ := hI
  dsimp only at hk
  refine pk_le L (k + 1) (fun z => ?_) (fun z => ?_) rfl (nI_1 k) (by omega) (by omega)
  · exact mv_equal hm hn (br_f (by decide) (mv_l401 ht et hm hn h))
  · obtain ⟨o, ho, eo⟩ := pk_andE (xs k) (m := 31) 5 (by decide)
    obtain ⟨t, ht', et'⟩ := pk_andE (xs (k + 1)) (m := 3) 2 (by decide)
    obtain ⟨r, hr', er⟩ := pk_andE (xs (k + 1) >>> ((2 : Int32) &&& 31)) (m := 7) 3 (by decide)
    obtain ⟨eu, hu, hne⟩ := mv_x1 t ht'
    have go : ∀ z0, wL_law_84 post L xs (wL_law_40 post L xs x3 (nI row) kc ks n) x3 (nI row) (nI k) (nI o) (nI t) z0 kc ks C R a1 a2 a3 a4 a5 a6 a7 a8 a9 a10 a11 a12 D E b1 b2 b3 b4 b5 b6 b7 b8 b9 b10 b11 b12 := by
      intro z0
      refine mv_l84 hr z hL ht' hr' ho eo et' er hm hn (fun io' lv' tc' ov' cm' vw' c c' hc hc' => ?_)
      exact hw (k + 2, c, c') ⟨by show k + 2 ≤ 300; omega, io', lv', tc', ov', cm', vw', hc, hc'⟩ (by show 300 - (k + 2) < 300 - k; omega)
    dsimp only
    rw [nI_1, nI_clamp (n := k) (by omega), nI_clamp (n := k + 1) (by omega)]
    refine ⟨pk_in k L (by omega), nm_r eo ⟨pk_in (k + 1) L z, nm_r et' ?_⟩⟩
    rw [eu]
    exact mv_r_ch hm hu (br_c (fun _ => go 1) (fun _ => go 0))
theorem mv_init : mv_R (0, 0, (fun _ => 0), (fun _ => 0), (fun _ => 0), (fun _ => 0), (fun _ => 0), (fun _ => 0), (fun _ => 0), (fun _ => 0), (fun _ => 0), (fun _ => 0), (fun _ => 0), (fun _ => 0)) (fun _ => false) (fun _ => 0) (fun _ => 0) (fun _ => 0) (fun _ => none) (fun _ _ _ => none) := by
  have nA : ∀ {t k : Nat} {P : Prop}, mv_A (fun _ => false) (fun _ => 0) t k → P := fun a => absurd (show false = true from a.2.1) (by decide)
  have nF : ∀ {P : Prop}, false = true → P := fun z => absurd z (by decide)
  refine ⟨fun _ => false, fun _ => 0, fun _ => 0, fun _ => 0, fun _ => 0, fun v hv => ⟨⟨fun _ => rfl, fun _ => rfl⟩, rfl, by show 0 < 8; omega, rfl, by show 0 < 63; omega, rfl, by show 0 < 63; omega⟩, ⟨fun t ht => ⟨⟨fun _ => rfl, fun _ => rfl⟩, rfl, by show 0 ≤ 3; omega, rfl⟩, fun i hi => ⟨rfl, by show 0 < 63; omega, rfl⟩⟩, ?_⟩
  refine ⟨⟨fun t ht => by show 0 ≤ 3; omega, fun n => ⟨fun z => ?_, fun ⟨t, k, a, _⟩ => nA a⟩, fun t k a => nA a, fun t k t' k' a => nA a, fun t n ht z => nF z⟩, fun v hv z => nF z, fun q hq v w hv hw z => nF z, fun t ht z => nF z, ⟨fun t k u j i a => nA a, fun t k i a => nA a⟩, fun r hr => ⟨fun x hx => ?_, fun _ v hv z => nF z⟩, fun t k a => nA a⟩
  · have z' : mv_B 0 n = true := z
    rw [mv_B_0] at z'
    exact nF z'
  · exact absurd (show (none : Option Int32) = some x from hx) (by simp)
theorem mv_wi {post : St1 → Prop} (h : post (0, 0, (fun _ => 0), (fun _ => 0), (fun _ => 0), (fun _ => 0), (fun _ => 0), (fun _ => 0), (fun _ => 0), (fun _ => 0), (fun _ => 0), (fun _ => 0), (fun _ => 0), (fun _ => 0))) : wpX_init post 12 544 (0, 0) := by
  refine ⟨by omega, by omega, by omega, by omega, by omega, by omega, by omega, by omega, by omega, by omega, by omega, by omega, by omega, by omega, by omega, by omega, by omega, by omega, by omega, by omega, by omega, by omega, by omega, by omega, h⟩
theorem i_vc (xs : Nat → Int32) (L : Nat) (hL : L ≤ 260) : wpL_law (fun r => r = 1) L xs := by
  have go : ∀ z0 kc ks, wL_law_28 (fun r => r = 1) L xs z0 kc ks 0 0 (fun _ => 0) (fun _ => 0) (fun _ => 0) (fun _ => 0) (fun _ => 0) (fun _ => 0) (fun _ => 0) (fun _ => 0) (fun _ => 0) (fun _ => 0) (fun _ => 0) (fun _ => 0) 0 0 (fun _ => 0) (fun _ => 0) (fun _ => 0) (fun _ => 0) (fun _ => 0) (fun _ => 0) (fun _ => 0) (fun _ => 0) (fun _ => 0) (fun _ => 0) (fun _ => 0) (fun _ => 0) := by
    intro z0 kc ks
    obtain ⟨t, ht, et⟩ := pk_andE z0 (m := 3) 2 (by decide)
    obtain ⟨row, hr, er⟩ := pk_andE (z0 >>> ((2 : Int32) &&& 31)) (m := 7) 3 (by decide)
    refine nm_r er ?_
    exact mv_l40 (post := fun r => r = 1) hL hr ht et rfl (1, _, _) ⟨by show 1 ≤ 300; omega, _, _, _, _, _, _, mv_init, mv_init⟩
  refine ⟨12, 544, by omega, by omega, mv_wi ⟨by omega, by omega, 12, 544, by omega, by omega, mv_wi ?_⟩⟩
  refine pk_le L 0 (fun _ => go _ _ _) (fun z => ⟨pk_in 0 L z, go _ _ _⟩)
end
