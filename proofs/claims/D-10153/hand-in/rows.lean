section
/-! bits of an Int32 (began as kit/laws/BITS.to-paste, names turned to td_) -/
def td_b (x : Int32) (i : Nat) : Bool := x.toBitVec.getLsbD i
theorem td_ext {x y : Int32} (h : ∀ i, i < 32 → td_b x i = td_b y i) : x = y := Int32.toBitVec_inj.mp (BitVec.eq_of_getLsbD_eq (fun i hi => h i hi))
theorem td_or (x y : Int32) (i : Nat) : td_b (x ||| y) i = (td_b x i || td_b y i) := by unfold td_b; rw [Int32.toBitVec_or, BitVec.getLsbD_or]
theorem td_and (x y : Int32) (i : Nat) : td_b (x &&& y) i = (td_b x i && td_b y i) := by unfold td_b; rw [Int32.toBitVec_and, BitVec.getLsbD_and]
theorem td_xor (x y : Int32) (i : Nat) : td_b (x ^^^ y) i = (td_b x i ^^ td_b y i) := by unfold td_b; rw [Int32.toBitVec_xor, BitVec.getLsbD_xor]
theorem td_big {x : Int32} {i : Nat} (h : 32 ≤ i) : td_b x i = false := BitVec.getLsbD_of_ge _ _ h
theorem td_m1 : ∀ i, i < 32 → td_b (-1) i = true := by decide +kernel
theorem td_0 (i : Nat) : td_b 0 i = false := BitVec.getLsbD_zero
theorem td_sl : ∀ n, n < 32 → ((nI n &&& 31).toBitVec.smod 32).toNat = n := by decide +kernel
theorem td_shl (n : Nat) (hn : n < 32) (x : Int32) {i : Nat} (hi : i < 32) : td_b (x <<< (nI n &&& 31)) i = (decide (n ≤ i) && td_b x (i - n)) := by
  unfold td_b
  rw [Int32.toBitVec_shiftLeft]
  show (x.toBitVec <<< ((nI n &&& 31).toBitVec.smod 32).toNat).getLsbD i = _
  rw [td_sl n hn, BitVec.getLsbD_shiftLeft]
  rcases Nat.lt_or_ge i n with h | h
  · simp [h, Nat.not_le.mpr h]
  · simp [hi, h, Nat.not_lt.mpr h]
theorem td_sshr (n : Nat) (hn : n < 32) (x : Int32) {i : Nat} (hi : i < 32) : td_b (x >>> (nI n &&& 31)) i = if n + i < 32 then td_b x (n + i) else td_b x 31 := by
  unfold td_b
  rw [Int32.toBitVec_shiftRight]
  show (x.toBitVec.sshiftRight ((nI n &&& 31).toBitVec.smod 32).toNat).getLsbD i = _
  rw [td_sl n hn, BitVec.getLsbD_sshiftRight, BitVec.msb_eq_getLsbD_last]
  simp [hi]
/-! masks -/
theorem td_odd (i : Nat) : td_b 43690 i = decide (i < 17 ∧ i % 2 = 1) := by
  rcases Nat.lt_or_ge i 32 with h | h
  · exact (by decide +kernel : ∀ i, i < 32 → td_b 43690 i = decide (i < 17 ∧ i % 2 = 1)) i h
  · rw [td_big h, decide_eq_false (by omega)]
theorem td_even (i : Nat) : td_b 87381 i = decide (i < 17 ∧ i % 2 = 0) := by
  rcases Nat.lt_or_ge i 32 with h | h
  · exact (by decide +kernel : ∀ i, i < 32 → td_b 87381 i = decide (i < 17 ∧ i % 2 = 0)) i h
  · rw [td_big h, decide_eq_false (by omega)]
theorem td_all (i : Nat) : td_b 131071 i = decide (i < 17) := by
  rcases Nat.lt_or_ge i 32 with h | h
  · exact (by decide +kernel : ∀ i, i < 32 → td_b 131071 i = decide (i < 17)) i h
  · rw [td_big h, decide_eq_false (by omega)]
theorem td_ends (i : Nat) : td_b 65537 i = decide (i = 0 ∨ i = 16) := by
  rcases Nat.lt_or_ge i 32 with h | h
  · exact (by decide +kernel : ∀ i, i < 32 → td_b 65537 i = decide (i = 0 ∨ i = 16)) i h
  · rw [td_big h, decide_eq_false (by omega)]
theorem td_andn (x y : Int32) (i : Nat) : td_b (x &&& (y ^^^ (-1))) i = (td_b x i && !td_b y i) := by
  rw [td_and, td_xor]
  rcases Nat.lt_or_ge i 32 with h | h
  · rw [td_m1 i h]; simp
  · rw [td_big h]; simp
/-- seventeen bits -/
def td_17 (x : Int32) : Prop := ∀ i, 17 ≤ i → td_b x i = false
theorem td_17_lt {x : Int32} (h : td_17 x) {i : Nat} (hi : td_b x i = true) : i < 17 := by
  rcases Nat.lt_or_ge i 17 with z | z
  · exact z
  · rw [h i z] at hi; exact absurd hi (by decide)
theorem td_17_0 : td_17 0 := fun i _ => td_0 i
theorem td_l1 {x : Int32} (h : td_17 x) (i : Nat) : td_b (x <<< ((1 : Int32) &&& 31)) i = (decide (1 ≤ i) && td_b x (i - 1)) := by
  rcases Nat.lt_or_ge i 32 with z | z
  · exact td_shl 1 (by decide) x z
  · rw [td_big z, h (i - 1) (by omega)]; simp
theorem td_r1 {x : Int32} (h : td_17 x) (i : Nat) : td_b (x >>> ((1 : Int32) &&& 31)) i = td_b x (i + 1) := by
  rcases Nat.lt_or_ge i 32 with z | z
  · have e : td_b (x >>> ((1 : Int32) &&& 31)) i = if 1 + i < 32 then td_b x (1 + i) else td_b x 31 := td_sshr 1 (by decide) x z
    rw [e]
    split
    · rw [Nat.add_comm]
    · rw [h 31 (by omega), h (i + 1) (by omega)]
  · rw [td_big z, h (i + 1) (by omega)]
theorem td_eq0 {x : Int32} : x = 0 ↔ ∀ i, td_b x i = false := by
  constructor
  · intro h i; rw [h]; exact td_0 i
  · intro h; exact td_ext (fun i _ => by rw [h i, td_0])
theorem td_ne0 {x : Int32} : ¬ x = 0 ↔ ∃ i, td_b x i = true := by
  rw [td_eq0]
  constructor
  · intro h
    apply Classical.byContradiction
    intro g
    apply h
    intro i
    cases e : td_b x i
    · rfl
    · exact absurd ⟨i, e⟩ g
  · rintro ⟨i, hi⟩ h
    rw [h i] at hi
    exact absurd hi (by decide)
theorem td_least {x : Int32} (h : ¬ x = 0) : ∃ l, td_b x l = true ∧ ∀ c, c < l → td_b x c = false := by
  obtain ⟨k, h1, h2⟩ := pk_least (fun i => td_b x i = true) (td_ne0.mp h)
  refine ⟨k, h1, fun c hc => ?_⟩
  cases e : td_b x c
  · rfl
  · exact absurd e (h2 c hc)
theorem td_neg {x : Int32} {l : Nat} (h : td_b x l = true) (hl : ∀ c, c < l → td_b x c = false) (i : Nat) : td_b (-x) i = (td_b x i ^^ decide (i < 32 ∧ l < i)) := by
  show (-x).toBitVec.getLsbD i = _
  rw [Int32.toBitVec_neg, BitVec.getLsbD_neg]
  have e : (decide (i < 32) && decide (∃ j, j < i ∧ x.toBitVec.getLsbD j = true)) = decide (i < 32 ∧ l < i) := by
    rw [← Bool.decide_and]
    refine decide_eq_decide.mpr ?_
    constructor
    · rintro ⟨h1, j, h2, h3⟩
      refine ⟨h1, ?_⟩
      rcases Nat.lt_or_ge j l with z | z
      · have := hl j z
        unfold td_b at this
        rw [this] at h3
        exact absurd h3 (by decide)
      · omega
    · rintro ⟨h1, h2⟩
      exact ⟨h1, l, h2, h⟩
  rw [e]
  rfl
theorem td_low {x : Int32} {l : Nat} (h : td_b x l = true) (hl : ∀ c, c < l → td_b x c = false) (i : Nat) : td_b (x &&& (-x)) i = decide (i = l) := by
  rw [td_and, td_neg h hl]
  rcases Nat.lt_trichotomy i l with z | z | z
  · rw [hl i z, decide_eq_false (show ¬ i = l by omega)]; rfl
  · subst z
    rw [h, decide_eq_false (by omega)]; simp
  · rw [decide_eq_false (show ¬ i = l by omega)]
    rcases Nat.lt_or_ge i 32 with y | y
    · rw [decide_eq_true (show i < 32 ∧ l < i from ⟨y, z⟩)]
      cases td_b x i <;> rfl
    · rw [td_big y]; rfl
theorem td_drop {x : Int32} {l : Nat} (h : td_b x l = true) (hl : ∀ c, c < l → td_b x c = false) (i : Nat) : td_b (x &&& (x - 1)) i = (td_b x i && decide (i ≠ l)) := by
  have e : x - 1 = (-x) ^^^ (-1) := by
    apply Int32.toBitVec_inj.mp
    rw [Int32.toBitVec_sub, Int32.toBitVec_xor, Int32.toBitVec_neg, show (-1 : Int32).toBitVec = BitVec.allOnes 32 by decide, BitVec.xor_allOnes, BitVec.not_neg]
    rfl
  rw [e, td_andn, td_neg h hl]
  rcases Nat.lt_trichotomy i l with z | z | z
  · rw [hl i z]; rfl
  · subst z
    rw [h, decide_eq_false (by omega)]; simp
  · rw [decide_eq_true (show i ≠ l by omega)]
    rcases Nat.lt_or_ge i 32 with y | y
    · rw [decide_eq_true (show i < 32 ∧ l < i from ⟨y, z⟩)]
      cases td_b x i <;> rfl
    · rw [td_big y]; rfl
/-! counts -/
def td_cnt (f : Nat → Bool) : Nat → Nat
  | 0 => 0
  | n + 1 => td_cnt f n + (if f n = true then 1 else 0)
theorem td_cnt_le (f : Nat → Bool) (n : Nat) : td_cnt f n ≤ n := by
  induction n with
  | zero => exact Nat.le_refl 0
  | succ n ih =>
    show td_cnt f n + (if f n = true then 1 else 0) ≤ n + 1
    split <;> omega
theorem td_cnt_0 {f : Nat → Bool} {n : Nat} : td_cnt f n = 0 ↔ ∀ i, i < n → f i = false := by
  induction n with
  | zero => exact ⟨fun _ i hi => absurd hi (by omega), fun _ => rfl⟩
  | succ n ih =>
    show td_cnt f n + (if f n = true then 1 else 0) = 0 ↔ _
    constructor
    · intro h i hi
      rcases Nat.lt_or_ge i n with z | z
      · exact ih.mp (by omega) i z
      · have e : i = n := by omega
        subst e
        cases g : f i
        · rfl
        · rw [if_pos g] at h; omega
    · intro h
      rw [h n (by omega), ih.mpr (fun i hi => h i (by omega))]
      rfl
theorem td_cnt_mono {f g : Nat → Bool} {n : Nat} (h : ∀ i, i < n → f i = true → g i = true) : td_cnt f n ≤ td_cnt g n := by
  induction n with
  | zero => exact Nat.le_refl 0
  | succ n ih =>
    show td_cnt f n + (if f n = true then 1 else 0) ≤ td_cnt g n + (if g n = true then 1 else 0)
    have h1 := ih (fun i hi => h i (by omega))
    have h2 := h n (by omega)
    by_cases z : f n = true
    · rw [if_pos z, if_pos (h2 z)]; omega
    · rw [if_neg z]; omega
theorem td_cnt_lt {f g : Nat → Bool} {n l : Nat} (h : ∀ i, i < n → f i = true → g i = true) (hl : l < n) (h1 : f l = false) (h2 : g l = true) : td_cnt f n < td_cnt g n := by
  induction n with
  | zero => omega
  | succ n ih =>
    show td_cnt f n + (if f n = true then 1 else 0) < td_cnt g n + (if g n = true then 1 else 0)
    have hm := td_cnt_mono (n := n) (fun i hi => h i (by omega))
    rcases Nat.lt_or_ge l n with z | z
    · have h1 := ih (fun i hi => h i (by omega)) z
      have h2 := h n (by omega)
      by_cases z : f n = true
      · rw [if_pos z, if_pos (h2 z)]; omega
      · rw [if_neg z]; omega
    · have e : l = n := by omega
      subst e
      rw [h1, if_pos h2, if_neg (by decide)]; omega
theorem td_cnt_rm {f g : Nat → Bool} {n l : Nat} (hl : l < n) (h : f l = true) (hg : ∀ i, g i = (f i && decide (i ≠ l))) : td_cnt f n = td_cnt g n + 1 := by
  induction n with
  | zero => omega
  | succ n ih =>
    show td_cnt f n + (if f n = true then 1 else 0) = td_cnt g n + (if g n = true then 1 else 0) + 1
    rcases Nat.lt_or_ge l n with z | z
    · rw [ih z, hg n, decide_eq_true (show n ≠ l by omega), Bool.and_true]; omega
    · have e : l = n := by omega
      subst e
      have e2 : ∀ m, m ≤ l → td_cnt f m = td_cnt g m := by
        intro m
        induction m with
        | zero => intro _; rfl
        | succ m ihm =>
          intro hm
          show td_cnt f m + (if f m = true then 1 else 0) = td_cnt g m + (if g m = true then 1 else 0)
          rw [ihm (by omega), hg m, decide_eq_true (show m ≠ l by omega), Bool.and_true]
      rw [e2 l (Nat.le_refl l), hg l, h, decide_eq_false (by omega)]
      rfl
def td_sum (f : Nat → Nat) : Nat → Nat
  | 0 => 0
  | n + 1 => td_sum f n + f n
theorem td_sum_le {f : Nat → Nat} {n k : Nat} (h : ∀ i, i < n → f i ≤ k) : td_sum f n ≤ n * k := by
  induction n with
  | zero => exact Nat.zero_le _
  | succ n ih =>
    show td_sum f n + f n ≤ (n + 1) * k
    have h1 := ih (fun i hi => h i (by omega))
    have h2 := h n (by omega)
    rw [Nat.succ_mul]
    omega
theorem td_sum_0 {f : Nat → Nat} {n : Nat} : td_sum f n = 0 ↔ ∀ i, i < n → f i = 0 := by
  induction n with
  | zero => exact ⟨fun _ i hi => absurd hi (by omega), fun _ => rfl⟩
  | succ n ih =>
    show td_sum f n + f n = 0 ↔ _
    constructor
    · intro h i hi
      rcases Nat.lt_or_ge i n with z | z
      · exact ih.mp (by omega) i z
      · rw [show i = n by omega]; omega
    · intro h
      rw [h n (by omega), ih.mpr (fun i hi => h i (by omega))]
theorem td_sum_mono {f g : Nat → Nat} {n : Nat} (h : ∀ i, i < n → f i ≤ g i) : td_sum f n ≤ td_sum g n := by
  induction n with
  | zero => exact Nat.le_refl 0
  | succ n ih =>
    show td_sum f n + f n ≤ td_sum g n + g n
    have h1 := ih (fun i hi => h i (by omega))
    have h2 := h n (by omega)
    omega
theorem td_sum_lt {f g : Nat → Nat} {n l : Nat} (h : ∀ i, i < n → f i ≤ g i) (hl : l < n) (h1 : f l < g l) : td_sum f n < td_sum g n := by
  induction n with
  | zero => omega
  | succ n ih =>
    show td_sum f n + f n < td_sum g n + g n
    have hm := td_sum_mono (n := n) (fun i hi => h i (by omega))
    rcases Nat.lt_or_ge l n with z | z
    · have h1 := ih (fun i hi => h i (by omega)) z
      have h2 := h n (by omega)
      omega
    · have e : l = n := by omega
      subst e
      omega
theorem td_sum_congr {f g : Nat → Nat} {n : Nat} (h : ∀ i, i < n → f i = g i) : td_sum f n = td_sum g n := by
  induction n with
  | zero => rfl
  | succ n ih =>
    show td_sum f n + f n = td_sum g n + g n
    rw [ih (fun i hi => h i (by omega)), h n (by omega)]
def td_pc (x : Int32) : Nat := td_cnt (td_b x) 17
theorem td_pc_le (x : Int32) : td_pc x ≤ 17 := td_cnt_le _ _
theorem td_pc_0 {x : Int32} (h : td_17 x) : td_pc x = 0 ↔ x = 0 := by
  unfold td_pc
  rw [td_cnt_0, td_eq0]
  constructor
  · intro g i
    rcases Nat.lt_or_ge i 17 with z | z
    · exact g i z
    · exact h i z
  · intro g i _; exact g i
theorem td_pc_drop {x : Int32} (h : td_17 x) (hx : ¬ x = 0) : td_17 (x &&& (x - 1)) ∧ td_pc x = td_pc (x &&& (x - 1)) + 1 := by
  obtain ⟨l, h1, h2⟩ := td_least hx
  have e := td_drop h1 h2
  refine ⟨fun i hi => by rw [e, h i hi]; rfl, ?_⟩
  exact td_cnt_rm (td_17_lt h h1) h1 e
/-- the number of elements of seventeen rows -/
def td_gc (a : Nat → Int32) : Nat := td_sum (fun j => td_pc (a j)) 17
theorem td_gc_le (a : Nat → Int32) : td_gc a ≤ 289 := td_sum_le (n := 17) (k := 17) (fun i _ => td_pc_le (a i))
theorem td_gc_congr {a c : Nat → Int32} (h : ∀ j, j < 17 → a j = c j) : td_gc a = td_gc c := td_sum_congr (fun j hj => by rw [h j hj])
theorem td_gc_0 {a : Nat → Int32} (h : ∀ j, j < 17 → td_17 (a j)) : td_gc a = 0 ↔ ∀ j, j < 17 → a j = 0 := by
  unfold td_gc
  rw [td_sum_0]
  exact ⟨fun g j hj => (td_pc_0 (h j hj)).mp (g j hj), fun g j hj => (td_pc_0 (h j hj)).mpr (g j hj)⟩
theorem td_gc_mono {a c : Nat → Int32} (h : ∀ j i, j < 17 → td_b (a j) i = true → td_b (c j) i = true) : td_gc a ≤ td_gc c :=
  td_sum_mono (fun j hj => td_cnt_mono (fun i _ => h j i hj))
theorem td_gc_lt {a c : Nat → Int32} (h : ∀ j i, j < 17 → td_b (a j) i = true → td_b (c j) i = true) {j i : Nat} (hj : j < 17) (hi : i < 17) (h1 : td_b (a j) i = false) (h2 : td_b (c j) i = true) : td_gc a < td_gc c :=
  td_sum_lt (l := j) (fun j hj => td_cnt_mono (fun i _ => h j i hj)) hj (td_cnt_lt (fun i _ => h j i hj) hi h1 h2)
end
section
/-! points (row, column), closed sets, pieces -/
def td_adj (p q : Nat × Nat) : Prop := (p.1 = q.1 ∧ (p.2 + 1 = q.2 ∨ q.2 + 1 = p.2)) ∨ (p.2 = q.2 ∧ (p.1 + 1 = q.1 ∨ q.1 + 1 = p.1))
theorem td_adj_symm {p q : Nat × Nat} (h : td_adj p q) : td_adj q p := by
  unfold td_adj at *
  omega
def td_cl (G C : Nat × Nat → Prop) : Prop := ∀ p q, C p → G q → td_adj p q → C q
def td_conn (G : Nat × Nat → Prop) (p q : Nat × Nat) : Prop := ∀ C : Nat × Nat → Prop, td_cl G C → C p → C q
theorem td_conn_refl (G : Nat × Nat → Prop) (p : Nat × Nat) : td_conn G p p := fun _ _ h => h
theorem td_conn_trans {G : Nat × Nat → Prop} {p q r : Nat × Nat} (h : td_conn G p q) (g : td_conn G q r) : td_conn G p r := fun C hC hp => g C hC (h C hC hp)
theorem td_conn_adj {G : Nat × Nat → Prop} {p q : Nat × Nat} (hq : G q) (h : td_adj p q) : td_conn G p q := fun C hC hp => hC p q hp hq h
theorem td_conn_symm {G : Nat × Nat → Prop} {p q : Nat × Nat} (hp : G p) (h : td_conn G p q) : td_conn G q p := by
  intro C hC hq
  apply Classical.byContradiction
  intro n
  have hD : td_cl G (fun r => G r ∧ ¬ C r) := by
    intro r t hr ht a
    exact ⟨ht, fun ct => hr.2 (hC t r ct hr.1 (td_adj_symm a))⟩
  exact (h _ hD ⟨hp, n⟩).2 hq
theorem td_conn_mono {G G' : Nat × Nat → Prop} (hG : ∀ p, G p → G' p) {p q : Nat × Nat} (h : td_conn G p q) : td_conn G' p q :=
  fun C hC hp => h C (fun r t hr ht a => hC r t hr (hG t ht) a) hp
/-- F is what is come to from S over the ground G -/
def td_fill (G S F : Nat × Nat → Prop) : Prop := (∀ p, S p → F p) ∧ (∀ p, F p → G p) ∧ td_cl G F ∧ (∀ C : Nat × Nat → Prop, (∀ p, S p → C p) → td_cl G C → ∀ p, F p → C p)
theorem td_pig : ∀ (n m : Nat) (f : Nat → Nat), (∀ k, k < m → f k < n) → (∀ k l, k < l → l < m → f k ≠ f l) → m ≤ n := by
  intro n
  induction n with
  | zero =>
    intro m f h _
    rcases Nat.eq_zero_or_pos m with z | z
    · omega
    · have := h 0 z; omega
  | succ n ih =>
    intro m f h1 h2
    cases m with
    | zero => omega
    | succ m =>
      have key : m ≤ n := by
        refine ih m (fun k => if f k = n then f m else f k) ?_ ?_
        · intro k hk
          show (if f k = n then f m else f k) < n
          have a := h1 k (by omega)
          have c := h1 m (by omega)
          have d := h2 k m hk (by omega)
          split <;> omega
        · intro k l hkl hl
          show (if f k = n then f m else f k) ≠ (if f l = n then f m else f l)
          have d1 := h2 k m (by omega) (by omega)
          have d2 := h2 l m (by omega) (by omega)
          have d3 := h2 k l hkl (by omega)
          split <;> split <;> omega
      omega
/-- G falls into n pieces -/
def td_comp (G : Nat × Nat → Prop) (n : Nat) : Prop := ∃ s : Nat → Nat × Nat, (∀ k, k < n → G (s k)) ∧ (∀ k l, k < l → l < n → ¬ td_conn G (s k) (s l)) ∧ (∀ p, G p → ∃ k, k < n ∧ td_conn G (s k) p)
theorem td_comp_0 {G : Nat × Nat → Prop} {n : Nat} (h : td_comp G n) : n = 0 ↔ ∀ p, ¬ G p := by
  obtain ⟨s, h1, _, h3⟩ := h
  constructor
  · intro e p hp
    obtain ⟨k, hk, _⟩ := h3 p hp
    omega
  · intro g
    rcases Nat.eq_zero_or_pos n with z | z
    · exact z
    · exact absurd (h1 0 z) (g _)
theorem td_comp_le {G G' : Nat × Nat → Prop} {n m : Nat} (h : td_comp G n) (h' : td_comp G' m) (hG : ∀ p, G p → G' p) (hc : ∀ p, G' p → ∃ q, G q ∧ td_conn G' p q) : m ≤ n := by
  obtain ⟨s, h1, h2, h3⟩ := h
  obtain ⟨t, g1, g2, g3⟩ := h'
  have ex : ∀ k : Nat, ∃ v : Nat, k < m → v < n ∧ ∃ r, td_conn G' (t k) r ∧ td_conn G (s v) r := by
    intro k
    by_cases z : k < m
    · obtain ⟨r, hr, hr2⟩ := hc (t k) (g1 k z)
      obtain ⟨v, hv, hv2⟩ := h3 r hr
      exact ⟨v, fun _ => ⟨hv, r, hr2, hv2⟩⟩
    · exact ⟨0, fun y => absurd y z⟩
  obtain ⟨f, hf⟩ := Classical.axiomOfChoice ex
  refine td_pig n m f (fun k hk => (hf k hk).1) ?_
  intro k l hkl hl e
  obtain ⟨hv, r, a1, a2⟩ := hf k (by omega)
  obtain ⟨_, r', b1, b2⟩ := hf l hl
  have hs : G' (s (f k)) := hG _ (h1 _ hv)
  rw [← e] at b2
  exact g2 k l hkl hl (td_conn_trans a1 (td_conn_trans (td_conn_symm hs (td_conn_mono hG a2)) (td_conn_trans (td_conn_mono hG b2) (td_conn_symm (g1 l hl) b1))))
/-- n pieces of G0 are taken away, G is left -/
def td_part (G0 G : Nat × Nat → Prop) (n : Nat) : Prop := (∀ p, G p → G0 p) ∧ td_cl G0 G ∧ ∃ s : Nat → Nat × Nat, (∀ k, k < n → G0 (s k) ∧ ¬ G (s k)) ∧ (∀ k l, k < l → l < n → ¬ td_conn G0 (s k) (s l)) ∧ (∀ p, G0 p → ¬ G p → ∃ k, k < n ∧ td_conn G0 (s k) p)
theorem td_part_0 (G : Nat × Nat → Prop) : td_part G G 0 :=
  ⟨fun _ h => h, fun _ _ _ h _ => h, fun _ => (0, 0), fun k h => absurd h (by omega), fun k l _ h => absurd h (by omega), fun p h n => absurd h n⟩
theorem td_part_end {G0 G : Nat × Nat → Prop} {n : Nat} (h : td_part G0 G n) (he : ∀ p, ¬ G p) : td_comp G0 n := by
  obtain ⟨_, _, s, h1, h2, h3⟩ := h
  exact ⟨s, fun k hk => (h1 k hk).1, h2, fun p hp => h3 p hp (he p)⟩
theorem td_part_step {G0 G G' F : Nat × Nat → Prop} {n : Nat} {p : Nat × Nat} (h : td_part G0 G n) (hp : G p) (hF : td_fill G (fun q => q = p) F) (hG : ∀ q, G' q ↔ G q ∧ ¬ F q) : td_part G0 G' (n + 1) := by
  obtain ⟨e1, e2, s, h1, h2, h3⟩ := h
  obtain ⟨f1, f2, f3, f4⟩ := hF
  refine ⟨fun q hq => e1 q ((hG q).mp hq).1, ?_, fun k => if k = n then p else s k, ?_, ?_, ?_⟩
  · intro r t hr ht a
    have hr' := (hG r).mp hr
    have ht' := e2 r t hr'.1 ht a
    exact (hG t).mpr ⟨ht', fun ft => hr'.2 (f3 t r ft hr'.1 (td_adj_symm a))⟩
  · intro k hk
    show G0 (if k = n then p else s k) ∧ ¬ G' (if k = n then p else s k)
    by_cases z : k = n
    · rw [if_pos z]
      exact ⟨e1 p hp, fun g => ((hG p).mp g).2 (f1 p rfl)⟩
    · rw [if_neg z]
      have := h1 k (by omega)
      exact ⟨this.1, fun g => this.2 ((hG _).mp g).1⟩
  · intro k l hkl hl
    show ¬ td_conn G0 (if k = n then p else s k) (if l = n then p else s l)
    rw [if_neg (show ¬ k = n by omega)]
    by_cases z : l = n
    · rw [if_pos z]
      intro c
      have hk := h1 k (by omega)
      exact hk.2 (td_conn_symm hk.1 c G e2 hp)
    · rw [if_neg z]
      exact h2 k l hkl (by omega)
  · intro q hq nq
    by_cases g : G q
    · have fq : F q := Classical.byContradiction (fun nf => nq ((hG q).mpr ⟨g, nf⟩))
      refine ⟨n, by omega, ?_⟩
      show td_conn G0 (if n = n then p else s n) q
      rw [if_pos rfl]
      intro C hC hCp
      exact f4 C (fun r hr => by rw [hr]; exact hCp) (fun r t hr ht a => hC r t hr (e1 t ht) a) q fq
    · obtain ⟨k, hk, hk2⟩ := h3 q hq g
      refine ⟨k, by omega, ?_⟩
      show td_conn G0 (if k = n then p else s k) q
      rw [if_neg (show ¬ k = n by omega)]
      exact hk2
/-! areas: A, the cells (odd, odd); bodies, insides, what lies outside -/
def td_near (p q : Nat × Nat) : Prop := p.1 ≤ q.1 + 1 ∧ q.1 ≤ p.1 + 1 ∧ p.2 ≤ q.2 + 1 ∧ q.2 ≤ p.2 + 1
def td_cell (q : Nat × Nat) : Prop := q.1 % 2 = 1 ∧ q.2 % 2 = 1 ∧ q.1 < 17 ∧ q.2 < 17
def td_body (A : Nat × Nat → Prop) (p : Nat × Nat) : Prop := ∃ q, A q ∧ td_near p q
def td_ins (A : Nat × Nat → Prop) (p : Nat × Nat) : Prop := (1 ≤ p.1 ∧ p.1 ≤ 15 ∧ 1 ≤ p.2 ∧ p.2 ≤ 15) ∧ ∀ q, td_cell q → td_near p q → A q
def td_out (A : Nat × Nat → Prop) (p : Nat × Nat) : Prop := p.1 < 17 ∧ p.2 < 17 ∧ ¬ td_body A p
def td_edge (p : Nat × Nat) : Prop := p.1 = 0 ∨ p.1 = 16 ∨ p.2 = 0 ∨ p.2 = 16
def td_brd (A : Nat × Nat → Prop) (p : Nat × Nat) : Prop := td_out A p ∧ td_edge p
theorem td_cell_eq {p q : Nat × Nat} (hp : td_cell p) (hq : td_cell q) (h : td_near p q) : p = q := by
  unfold td_cell td_near at *
  apply Prod.ext <;> omega
theorem td_adj_or {a b c : Nat} (h : b ≤ c + 1) (g : c ≤ b + 1) : (a, b) = (a, c) ∨ td_adj (a, b) (a, c) := by
  unfold td_adj
  rcases Nat.lt_trichotomy b c with z | z | z
  · right; left; exact ⟨rfl, Or.inl (by show b + 1 = c; omega)⟩
  · left; rw [z]
  · right; left; exact ⟨rfl, Or.inr (by show c + 1 = b; omega)⟩
theorem td_adj_or2 {a b c : Nat} (h : b ≤ c + 1) (g : c ≤ b + 1) : (b, a) = (c, a) ∨ td_adj (b, a) (c, a) := by
  unfold td_adj
  rcases Nat.lt_trichotomy b c with z | z | z
  · right; right; exact ⟨rfl, Or.inl (by show b + 1 = c; omega)⟩
  · left; rw [z]
  · right; right; exact ⟨rfl, Or.inr (by show c + 1 = b; omega)⟩
/-- from a point outside to a cell near it: both steps lie outside -/
theorem td_out_mid {A : Nat × Nat → Prop} (hA : ∀ q, A q → td_cell q) {p q : Nat × Nat} (hp : td_out A p) (hq : td_cell q) (h : td_near p q) : td_out A (p.1, q.2) ∧ td_out A q := by
  obtain ⟨h1, h2, h3⟩ := hp
  refine ⟨⟨h1, hq.2.2.2, ?_⟩, hq.2.2.1, hq.2.2.2, ?_⟩
  · rintro ⟨r, hr, hn⟩
    refine h3 ⟨r, hr, ?_⟩
    have hc := hA r hr
    unfold td_near td_cell at *
    dsimp only at hn
    omega
  · rintro ⟨r, hr, hn⟩
    have e := td_cell_eq hq (hA r hr) hn
    subst e
    exact h3 ⟨q, hr, h⟩
theorem td_cl_mid {G C : Nat × Nat → Prop} (hC : td_cl G C) {p q : Nat × Nat} (hp : C p) (h : td_near p q) (hm : G (p.1, q.2)) (hq : G q) : C q := by
  obtain ⟨a, b⟩ := p
  obtain ⟨c, d⟩ := q
  unfold td_near at h
  dsimp only at h hm
  have h1 : C (a, d) := by
    rcases td_adj_or (a := a) h.2.2.1 h.2.2.2 with e | e
    · rw [← e]; exact hp
    · exact hC _ _ hp hm e
  rcases td_adj_or2 (a := d) h.1 h.2.1 with e | e
  · rw [← e]; exact h1
  · exact hC _ _ h1 hq e
theorem td_cl_mid' {G C : Nat × Nat → Prop} (hC : td_cl G C) {p q : Nat × Nat} (hq : C q) (h : td_near p q) (hm : G (p.1, q.2)) (hp : G p) : C p := by
  obtain ⟨a, b⟩ := p
  obtain ⟨c, d⟩ := q
  unfold td_near at h
  dsimp only at h hm
  have h1 : C (a, d) := by
    rcases td_adj_or2 (a := d) h.1 h.2.1 with e | e
    · rw [e]; exact hq
    · exact hC _ _ hq hm (td_adj_symm e)
  rcases td_adj_or (a := a) h.2.2.1 h.2.2.2 with e | e
  · rw [e]; exact h1
  · exact hC _ _ h1 hp (td_adj_symm e)
/-- the cell beside a point that isn't on the edge -/
theorem td_beside (p : Nat × Nat) (h : 1 ≤ p.1 ∧ p.1 ≤ 15 ∧ 1 ≤ p.2 ∧ p.2 ≤ 15) : ∃ q, td_cell q ∧ td_near p q := by
  refine ⟨(p.1 + (1 - p.1 % 2), p.2 + (1 - p.2 % 2)), ?_, ?_⟩
  · unfold td_cell
    dsimp only
    omega
  · unfold td_near
    dsimp only
    omega
/-- a hole holds a cell near each of its points -/
theorem td_hole_cell {A F : Nat × Nat → Prop} (hA : ∀ q, A q → td_cell q) (hF : td_fill (td_out A) (td_brd A) F) {p : Nat × Nat} (hp : td_out A p) (hn : ¬ F p) : ∃ q, td_cell q ∧ td_near p q ∧ td_out A q ∧ ¬ F q := by
  obtain ⟨f1, f2, f3, f4⟩ := hF
  have hb : ¬ td_edge p := fun e => hn (f1 p ⟨hp, e⟩)
  have h1 := hp.1
  have h2 := hp.2.1
  unfold td_edge at hb
  obtain ⟨q, hq, hnear⟩ := td_beside p (by omega)
  have hm := td_out_mid hA hp hq hnear
  exact ⟨q, hq, hnear, hm.2, fun fq => hn (td_cl_mid' f3 fq hnear hm.1 hp)⟩
/-- the area with its holes filled -/
def td_more (A F : Nat × Nat → Prop) (q : Nat × Nat) : Prop := A q ∨ (td_cell q ∧ td_out A q ∧ ¬ F q)
theorem td_more_cell {A F : Nat × Nat → Prop} (hA : ∀ q, A q → td_cell q) (q : Nat × Nat) (h : td_more A F q) : td_cell q := by
  rcases h with h | h
  · exact hA q h
  · exact h.1
theorem td_out_more {A F : Nat × Nat → Prop} (hA : ∀ q, A q → td_cell q) (hF : td_fill (td_out A) (td_brd A) F) (p : Nat × Nat) : td_out (td_more A F) p ↔ F p := by
  constructor
  · rintro ⟨h1, h2, h3⟩
    have hp : td_out A p := ⟨h1, h2, fun ⟨q, hq, hn⟩ => h3 ⟨q, Or.inl hq, hn⟩⟩
    apply Classical.byContradiction
    intro hn
    obtain ⟨q, g1, g2, g3, g4⟩ := td_hole_cell hA hF hp hn
    exact h3 ⟨q, Or.inr ⟨g1, g3, g4⟩, g2⟩
  · intro hp
    have ho := hF.2.1 p hp
    refine ⟨ho.1, ho.2.1, ?_⟩
    rintro ⟨q, hq, hn⟩
    rcases hq with hq | ⟨g1, g2, g3⟩
    · exact ho.2.2 ⟨q, hq, hn⟩
    · exact g3 (td_cl_mid hF.2.2.1 hp hn (td_out_mid hA ho g1 hn).1 g2)
/-- when the holes are filled, all that lies outside is come to -/
theorem td_no_holes {A F F' : Nat × Nat → Prop} (hA : ∀ q, A q → td_cell q) (hF : td_fill (td_out A) (td_brd A) F) (hF' : td_fill (td_out (td_more A F)) (td_brd (td_more A F)) F') (p : Nat × Nat) (hp : td_out (td_more A F) p) : F' p := by
  have e := td_out_more hA hF
  obtain ⟨g1, g2, g3, g4⟩ := hF'
  refine hF.2.2.2 F' ?_ ?_ p ((e p).mp hp)
  · intro q hq
    exact g1 q ⟨(e q).mpr (hF.1 q hq), hq.2⟩
  · intro r t hr ht a
    exact g3 r t hr ((e t).mpr (hF.2.2.1 r t ((e r).mp (g2 r hr)) ht a)) a
theorem td_ins_cell {A : Nat × Nat → Prop} {q : Nat × Nat} (hc : td_cell q) (hq : A q) : td_ins A q := by
  refine ⟨?_, fun r hr hn => ?_⟩
  · unfold td_cell at hc; omega
  · rw [← td_cell_eq hc hr hn]; exact hq
/-- each point inside is joined to a cell -/
theorem td_ins_conn {A : Nat × Nat → Prop} {p : Nat × Nat} (hp : td_ins A p) : ∃ q, td_cell q ∧ A q ∧ td_conn (td_ins A) p q := by
  obtain ⟨q, hq, hn⟩ := td_beside p hp.1
  have hAq := hp.2 q hq hn
  refine ⟨q, hq, hAq, fun C hC hCp => td_cl_mid hC hCp hn ?_ (td_ins_cell hq hAq)⟩
  refine ⟨?_, fun r hr hnr => hp.2 r hr ?_⟩
  · have := hp.1
    unfold td_cell at hq
    dsimp only
    omega
  · unfold td_near td_cell at *
    dsimp only at hnr
    omega
theorem td_ins_two {A : Nat × Nat → Prop} {j i : Nat} (h1 : td_cell (j, i + 2)) (h2 : td_cell (j, i)) (a1 : A (j, i + 2)) (a2 : A (j, i)) : td_conn (td_ins A) (j, i + 2) (j, i) := by
  have hm : td_ins A (j, i + 1) := by
    unfold td_cell at h1 h2
    dsimp only at h1 h2
    refine ⟨by dsimp only; omega, ?_⟩
    rintro ⟨c, d⟩ hr hn
    unfold td_near at hn
    unfold td_cell at hr
    dsimp only at hr hn
    have e1 : c = j := by omega
    have e2 : d = i ∨ d = i + 2 := by omega
    rw [e1]
    rcases e2 with e | e
    · rw [e]; exact a2
    · rw [e]; exact a1
  exact td_conn_trans (td_conn_adj hm (Or.inl ⟨rfl, Or.inr rfl⟩)) (td_conn_adj (td_ins_cell h2 a2) (Or.inl ⟨rfl, Or.inr rfl⟩))
/-- a filled cell is joined to an old one, to its left -/
theorem td_left {A F : Nat × Nat → Prop} (hA : ∀ q, A q → td_cell q) (hF : td_fill (td_out A) (td_brd A) F) (j : Nat) : ∀ i : Nat, td_cell (j, i) → td_more A F (j, i) → ∃ q, A q ∧ td_conn (td_ins (td_more A F)) (j, i) q := by
  intro i
  induction i using Nat.strongRecOn with
  | ind i ih =>
    intro hc hm
    rcases hm with hm | ⟨_, ho, hn⟩
    · exact ⟨_, hm, td_conn_refl _ _⟩
    · have hnA : ¬ A (j, i) := fun a => ho.2.2 ⟨_, a, by unfold td_near; dsimp only; omega⟩
      have hc' := hc
      unfold td_cell at hc'
      dsimp only at hc'
      rcases Nat.lt_or_ge i 2 with z | z
      · exfalso
        have hi : i = 1 := by omega
        subst hi
        have o0 : td_out A (j, 0) := by
          refine ⟨hc'.2.2.1, by show 0 < 17; omega, ?_⟩
          rintro ⟨⟨c, d⟩, hr, hnr⟩
          have hcr := hA _ hr
          unfold td_near at hnr
          unfold td_cell at hcr
          dsimp only at hcr hnr
          have e1 : c = j := by omega
          have e2 : d = 1 := by omega
          rw [e1, e2] at hr
          exact hnA hr
        exact hn (hF.2.2.1 _ _ (hF.1 _ ⟨o0, Or.inr (Or.inr (Or.inl rfl))⟩) ho (Or.inl ⟨rfl, Or.inl rfl⟩))
      · obtain ⟨k, rfl⟩ : ∃ k, i = k + 2 := ⟨i - 2, by omega⟩
        have hc2 : td_cell (j, k) := by unfold td_cell; dsimp only; omega
        have hm2 : td_more A F (j, k) := by
          by_cases a : A (j, k)
          · exact Or.inl a
          · have oe : td_out A (j, k + 1) := by
              refine ⟨hc'.2.2.1, by show k + 1 < 17; omega, ?_⟩
              rintro ⟨⟨c, d⟩, hr, hnr⟩
              have hcr := hA _ hr
              unfold td_near at hnr
              unfold td_cell at hcr
              dsimp only at hcr hnr
              have e1 : c = j := by omega
              have e2 : d = k ∨ d = k + 2 := by omega
              rw [e1] at hr
              rcases e2 with e | e
              · rw [e] at hr; exact a hr
              · rw [e] at hr; exact hnA hr
            have o2 : td_out A (j, k) := by
              refine ⟨hc'.2.2.1, by show k < 17; omega, ?_⟩
              rintro ⟨r, hr, hnr⟩
              have e := td_cell_eq hc2 (hA r hr) hnr
              rw [← e] at hr
              exact a hr
            refine Or.inr ⟨hc2, o2, fun f => hn ?_⟩
            exact hF.2.2.1 _ _ (hF.2.2.1 _ _ f oe (Or.inl ⟨rfl, Or.inl rfl⟩)) ho (Or.inl ⟨rfl, Or.inl rfl⟩)
        obtain ⟨q, hq, hcq⟩ := ih k (by omega) hc2 hm2
        exact ⟨q, hq, td_conn_trans (td_ins_two hc hc2 (Or.inr ⟨hc, ho, hn⟩) hm2) hcq⟩
theorem td_pieces_le {A F : Nat × Nat → Prop} (hA : ∀ q, A q → td_cell q) (hF : td_fill (td_out A) (td_brd A) F) {n m : Nat} (h : td_comp (td_ins A) n) (h' : td_comp (td_ins (td_more A F)) m) : m ≤ n := by
  refine td_comp_le h h' (fun p hp => ⟨hp.1, fun q hq hn => Or.inl (hp.2 q hq hn)⟩) ?_
  intro p hp
  obtain ⟨⟨j, i⟩, hq, hAq, hc⟩ := td_ins_conn hp
  obtain ⟨r, hr, hc2⟩ := td_left hA hF j i hq hAq
  exact ⟨r, td_ins_cell (hA r hr) hr, td_conn_trans hc hc2⟩
end
section
/-! shapes: seventeen rows R, a kind k; insides and rims -/
def td_dn (R : Nat → Int32) (j : Nat) : Int32 := if j = 0 then 0 else R (j - 1)
def td_wh (R : Nat → Int32) (j : Nat) : Int32 := (((R (j + 1) <<< ((1 : Int32) &&& 31)) &&& (R (j + 1) >>> ((1 : Int32) &&& 31))) &&& (td_dn R j <<< ((1 : Int32) &&& 31))) &&& (td_dn R j >>> ((1 : Int32) &&& 31))
def td_an (R : Nat → Int32) (j : Nat) : Int32 := (((R (j + 1) <<< ((1 : Int32) &&& 31)) ||| (R (j + 1) >>> ((1 : Int32) &&& 31))) ||| (td_dn R j <<< ((1 : Int32) &&& 31))) ||| (td_dn R j >>> ((1 : Int32) &&& 31))
def td_inA (R : Nat → Int32) (j : Nat) : Int32 := if j % 2 = 1 then R j ||| ((R j <<< ((1 : Int32) &&& 31)) &&& (R j >>> ((1 : Int32) &&& 31))) else (R (j + 1) &&& td_dn R j) ||| td_wh R j
def td_rmA (R : Nat → Int32) (j : Nat) : Int32 := if j % 2 = 1 then (R j <<< ((1 : Int32) &&& 31)) ^^^ (R j >>> ((1 : Int32) &&& 31)) else (R (j + 1) ^^^ td_dn R j) ||| (td_an R j &&& (td_wh R j ^^^ (-1)))
def td_un (R : Nat → Int32) (j : Nat) : Int32 := (((R j <<< ((1 : Int32) &&& 31)) ^^^ (R j >>> ((1 : Int32) &&& 31))) ^^^ R (j + 1)) ^^^ td_dn R j
def td_al (R : Nat → Int32) (j : Nat) : Int32 := (((R j <<< ((1 : Int32) &&& 31)) ||| (R j >>> ((1 : Int32) &&& 31))) ||| R (j + 1)) ||| td_dn R j
def td_inL (R : Nat → Int32) (j : Nat) : Int32 := if j % 2 = 0 then R j ||| (td_al R j &&& (td_un R j ^^^ (-1))) else R j
def td_rmL (R : Nat → Int32) (j : Nat) : Int32 := if j % 2 = 0 then td_un R j else 0
def td_in (k : Int32) (R : Nat → Int32) (j : Nat) : Int32 := if k = 3 then td_inA R j else if k = 2 then td_inL R j else R j
def td_rm (k : Int32) (R : Nat → Int32) (j : Nat) : Int32 := if k = 3 then td_rmA R j else if k = 2 then td_rmL R j else 0
def td_bd (k : Int32) (R : Nat → Int32) (j : Nat) : Int32 := td_in k R j ||| td_rm k R j
/-- the bits of a shape of a kind -/
def td_fit (k : Int32) (R : Nat → Int32) : Prop := ∀ j i, td_b (R j) i = true → j < 17 ∧ i < 17 ∧ ((k = 1 ∧ j % 2 = 0 ∧ i % 2 = 0) ∨ (k = 2 ∧ (j + i) % 2 = 1) ∨ (k = 3 ∧ j % 2 = 1 ∧ i % 2 = 1))
def td_ok (k : Int32) (R : Nat → Int32) : Prop := td_fit k R ∧ (k = 0 ∨ ((k = 1 ∨ k = 2 ∨ k = 3) ∧ ∃ j, ¬ R j = 0))
def td_pts (R : Nat → Int32) (q : Nat × Nat) : Prop := td_b (R q.1) q.2 = true
theorem td_fit_17 {k : Int32} {R : Nat → Int32} (h : td_fit k R) (j : Nat) : td_17 (R j) := by
  intro i hi
  cases e : td_b (R j) i
  · rfl
  · have := (h j i e).2.1; omega
theorem td_fit_hi {k : Int32} {R : Nat → Int32} (h : td_fit k R) {j : Nat} (hj : 17 ≤ j) : R j = 0 := by
  rw [td_eq0]
  intro i
  cases e : td_b (R j) i
  · rfl
  · have := (h j i e).1; omega
theorem td_dn_17 {k : Int32} {R : Nat → Int32} (h : td_fit k R) (j : Nat) : td_17 (td_dn R j) := by
  unfold td_dn
  split
  · exact td_17_0
  · exact td_fit_17 h _
theorem td_fit1 {R : Nat → Int32} (h : td_fit 1 R) {j i : Nat} (hb : td_b (R j) i = true) : j % 2 = 0 ∧ i % 2 = 0 ∧ j < 17 ∧ i < 17 := by
  obtain ⟨h1, h2, h3⟩ := h j i hb
  rcases h3 with ⟨_, h3⟩ | ⟨e, _⟩ | ⟨e, _⟩
  · exact ⟨h3.1, h3.2, h1, h2⟩
  · exact absurd e (by decide)
  · exact absurd e (by decide)
theorem td_fit2 {R : Nat → Int32} (h : td_fit 2 R) {j i : Nat} (hb : td_b (R j) i = true) : (j + i) % 2 = 1 ∧ j < 17 ∧ i < 17 := by
  obtain ⟨h1, h2, h3⟩ := h j i hb
  rcases h3 with ⟨e, _⟩ | ⟨_, h3⟩ | ⟨e, _⟩
  · exact absurd e (by decide)
  · exact ⟨h3, h1, h2⟩
  · exact absurd e (by decide)
theorem td_fit3 {R : Nat → Int32} (h : td_fit 3 R) {j i : Nat} (hb : td_b (R j) i = true) : j % 2 = 1 ∧ i % 2 = 1 ∧ j < 17 ∧ i < 17 := by
  obtain ⟨h1, h2, h3⟩ := h j i hb
  rcases h3 with ⟨e, _⟩ | ⟨e, _⟩ | ⟨_, h3⟩
  · exact absurd e (by decide)
  · exact absurd e (by decide)
  · exact ⟨h3.1, h3.2, h1, h2⟩
theorem td_fit0 {R : Nat → Int32} (h : td_fit 0 R) (j : Nat) : R j = 0 := by
  rw [td_eq0]
  intro i
  cases e : td_b (R j) i
  · rfl
  · rcases (h j i e).2.2 with ⟨e, _⟩ | ⟨e, _⟩ | ⟨e, _⟩ <;> exact absurd e (by decide)
theorem td_pts_cell {R : Nat → Int32} (h : td_fit 3 R) (q : Nat × Nat) (hq : td_pts R q) : td_cell q := td_fit3 h hq
theorem td_in3 (R : Nat → Int32) (j : Nat) : td_in 3 R j = td_inA R j := if_pos rfl
theorem td_rm3 (R : Nat → Int32) (j : Nat) : td_rm 3 R j = td_rmA R j := if_pos rfl
theorem td_in2 (R : Nat → Int32) (j : Nat) : td_in 2 R j = td_inL R j := by unfold td_in; rw [if_neg (by decide), if_pos rfl]
theorem td_rm2 (R : Nat → Int32) (j : Nat) : td_rm 2 R j = td_rmL R j := by unfold td_rm; rw [if_neg (by decide), if_pos rfl]
theorem td_in1 (R : Nat → Int32) (j : Nat) : td_in 1 R j = R j := by unfold td_in; rw [if_neg (by decide), if_neg (by decide)]
theorem td_rm1 (R : Nat → Int32) (j : Nat) : td_rm 1 R j = 0 := by unfold td_rm; rw [if_neg (by decide), if_neg (by decide)]
theorem td_t1 : ∀ a l r : Bool, ((a || (l && r)) || (l ^^ r)) = (a || l || r) := by decide
theorem td_t2 : ∀ u d a b c e : Bool, (((u && d) || (((a && b) && c) && e)) || ((u ^^ d) || ((((a || b) || c) || e) && !(((a && b) && c) && e)))) = (u || d || a || b || c || e) := by decide
theorem td_t3 : ∀ a l r u d : Bool, ((a || ((((l || r) || u) || d) && !(((l ^^ r) ^^ u) ^^ d))) || (((l ^^ r) ^^ u) ^^ d)) = (a || l || r || u || d) := by decide
/-- the body of an area -/
theorem td_bdA {R : Nat → Int32} (h : td_fit 3 R) (j i : Nat) : td_b (td_bd 3 R j) i = true ↔ td_body (td_pts R) (j, i) := by
  have h17 := td_fit_17 h
  have d17 := td_dn_17 h
  unfold td_bd
  rw [td_in3, td_rm3]
  unfold td_inA td_rmA
  by_cases z : j % 2 = 1
  · rw [if_pos z, if_pos z]
    simp only [td_or, td_and, td_xor, td_l1 (h17 _), td_r1 (h17 _)]
    rw [td_t1]
    simp only [Bool.or_eq_true, Bool.and_eq_true, decide_eq_true_eq]
    constructor
    · rintro ((g | ⟨g1, g2⟩) | g)
      · exact ⟨(j, i), g, by unfold td_near; dsimp only; omega⟩
      · exact ⟨(j, i - 1), g2, by unfold td_near; dsimp only; omega⟩
      · exact ⟨(j, i + 1), g, by unfold td_near; dsimp only; omega⟩
    · rintro ⟨⟨c, d⟩, hq, hn⟩
      have hc := td_pts_cell h _ hq
      unfold td_cell at hc
      unfold td_near at hn
      unfold td_pts at hq
      dsimp only at hc hn hq
      have e1 : c = j := by omega
      rw [e1] at hq
      rcases (show d = i ∨ (1 ≤ i ∧ d = i - 1) ∨ d = i + 1 by omega) with e | ⟨e0, e⟩ | e
      · left; left; rw [← e]; exact hq
      · left; right; exact ⟨e0, by rw [← e]; exact hq⟩
      · right; rw [← e]; exact hq
  · rw [if_neg z, if_neg z]
    unfold td_wh td_an
    simp only [td_or, td_andn]
    simp only [td_or, td_and, td_xor, td_l1 (h17 _), td_r1 (h17 _), td_l1 (d17 _), td_r1 (d17 _)]
    rw [td_t2]
    simp only [Bool.or_eq_true, Bool.and_eq_true, decide_eq_true_eq]
    have hd : ∀ i, td_b (td_dn R j) i = true ↔ (1 ≤ j ∧ td_b (R (j - 1)) i = true) := by
      intro i
      unfold td_dn
      by_cases y : j = 0
      · rw [if_pos y, td_0]
        exact ⟨fun t => absurd t (by decide), fun t => absurd t.1 (by omega)⟩
      · rw [if_neg y]
        exact ⟨fun t => ⟨by omega, t⟩, fun t => t.2⟩
    simp only [hd]
    constructor
    · rintro (((((g | ⟨g1, g2⟩) | ⟨g1, g2⟩) | g) | ⟨g0, g1, g2⟩) | ⟨g1, g2⟩)
      · exact ⟨(j + 1, i), g, by unfold td_near; dsimp only; omega⟩
      · exact ⟨(j - 1, i), g2, by unfold td_near; dsimp only; omega⟩
      · exact ⟨(j + 1, i - 1), g2, by unfold td_near; dsimp only; omega⟩
      · exact ⟨(j + 1, i + 1), g, by unfold td_near; dsimp only; omega⟩
      · exact ⟨(j - 1, i - 1), g2, by unfold td_near; dsimp only; omega⟩
      · exact ⟨(j - 1, i + 1), g2, by unfold td_near; dsimp only; omega⟩
    · rintro ⟨⟨c, d⟩, hq, hn⟩
      have hc := td_pts_cell h _ hq
      unfold td_cell at hc
      unfold td_near at hn
      unfold td_pts at hq
      dsimp only at hc hn hq
      rcases (show d = i ∨ (1 ≤ i ∧ d = i - 1) ∨ d = i + 1 by omega) with e | ⟨e0, e⟩ | e <;> rcases (show (1 ≤ j ∧ c = j - 1) ∨ c = j + 1 by omega) with ⟨y0, y⟩ | y <;> rw [e, y] at hq
      · exact Or.inl (Or.inl (Or.inl (Or.inl (Or.inr ⟨y0, hq⟩))))
      · exact Or.inl (Or.inl (Or.inl (Or.inl (Or.inl hq))))
      · exact Or.inl (Or.inr ⟨e0, y0, hq⟩)
      · exact Or.inl (Or.inl (Or.inl (Or.inr ⟨e0, hq⟩)))
      · exact Or.inr ⟨y0, hq⟩
      · exact Or.inl (Or.inl (Or.inr hq))
/-- the inside of an area -/
theorem td_insA {R : Nat → Int32} (h : td_fit 3 R) (j i : Nat) : td_b (td_in 3 R j) i = true ↔ td_ins (td_pts R) (j, i) := by
  have h17 := td_fit_17 h
  have d17 := td_dn_17 h
  rw [td_in3]
  unfold td_inA
  by_cases z : j % 2 = 1
  · rw [if_pos z]
    simp only [td_or, td_and, td_l1 (h17 _), td_r1 (h17 _), Bool.or_eq_true, Bool.and_eq_true, decide_eq_true_eq]
    constructor
    · rintro (g | ⟨⟨g0, g1⟩, g2⟩)
      · exact td_ins_cell (td_pts_cell h (j, i) g) g
      · have c1 := td_fit3 h g1
        have c2 := td_fit3 h g2
        refine ⟨by dsimp only; omega, ?_⟩
        rintro ⟨c, d⟩ hc hn
        unfold td_cell at hc
        unfold td_near at hn
        unfold td_pts
        dsimp only at hc hn ⊢
        have e1 : c = j := by omega
        rw [e1]
        rcases (show d = i - 1 ∨ d = i + 1 by omega) with e | e <;> rw [e]
        · exact g1
        · exact g2
    · rintro ⟨⟨k1, k2, k3, k4⟩, g⟩
      dsimp only at k1 k2 k3 k4
      by_cases y : i % 2 = 1
      · left
        exact g (j, i) ⟨z, y, by dsimp only; omega, by dsimp only; omega⟩ (by unfold td_near; dsimp only; omega)
      · right
        refine ⟨⟨k3, ?_⟩, ?_⟩
        · exact g (j, i - 1) (by unfold td_cell; dsimp only; omega) (by unfold td_near; dsimp only; omega)
        · exact g (j, i + 1) (by unfold td_cell; dsimp only; omega) (by unfold td_near; dsimp only; omega)
  · rw [if_neg z]
    unfold td_wh
    by_cases y0 : j = 0
    · have e0 : td_dn R j = 0 := if_pos y0
      rw [e0]
      simp only [td_or, td_and, td_l1 (h17 _), td_r1 (h17 _), td_l1 td_17_0, td_r1 td_17_0, td_0, Bool.and_false, Bool.or_false]
      constructor
      · intro g; exact absurd g (by decide)
      · rintro ⟨⟨k1, _⟩, _⟩
        dsimp only at k1
        omega
    · have e0 : td_dn R j = R (j - 1) := if_neg y0
      rw [e0]
      simp only [td_or, td_and, td_l1 (h17 _), td_r1 (h17 _), Bool.or_eq_true, Bool.and_eq_true, decide_eq_true_eq]
      constructor
      · rintro (⟨g1, g2⟩ | ⟨⟨⟨⟨g0, g1⟩, g2⟩, ⟨_, g3⟩⟩, g4⟩)
        · have c1 := td_fit3 h g1
          have c2 := td_fit3 h g2
          refine ⟨by dsimp only; omega, ?_⟩
          rintro ⟨c, d⟩ hc hn
          unfold td_cell at hc
          unfold td_near at hn
          unfold td_pts
          dsimp only at hc hn ⊢
          have e1 : d = i := by omega
          rw [e1]
          rcases (show c = j - 1 ∨ c = j + 1 by omega) with e | e <;> rw [e]
          · exact g2
          · exact g1
        · have c1 := td_fit3 h g1
          have c2 := td_fit3 h g2
          have c3 := td_fit3 h g3
          refine ⟨by dsimp only; omega, ?_⟩
          rintro ⟨c, d⟩ hc hn
          unfold td_cell at hc
          unfold td_near at hn
          unfold td_pts
          dsimp only at hc hn ⊢
          rcases (show c = j - 1 ∨ c = j + 1 by omega) with e | e <;> rw [e] <;> rcases (show d = i - 1 ∨ d = i + 1 by omega) with e' | e' <;> rw [e']
          · exact g3
          · exact g4
          · exact g1
          · exact g2
      · rintro ⟨⟨k1, k2, k3, k4⟩, g⟩
        dsimp only at k1 k2 k3 k4
        by_cases y : i % 2 = 1
        · left
          refine ⟨?_, ?_⟩
          · exact g (j + 1, i) (by unfold td_cell; dsimp only; omega) (by unfold td_near; dsimp only; omega)
          · exact g (j - 1, i) (by unfold td_cell; dsimp only; omega) (by unfold td_near; dsimp only; omega)
        · right
          refine ⟨⟨⟨⟨k3, ?_⟩, ?_⟩, ⟨k3, ?_⟩⟩, ?_⟩
          · exact g (j + 1, i - 1) (by unfold td_cell; dsimp only; omega) (by unfold td_near; dsimp only; omega)
          · exact g (j + 1, i + 1) (by unfold td_cell; dsimp only; omega) (by unfold td_near; dsimp only; omega)
          · exact g (j - 1, i - 1) (by unfold td_cell; dsimp only; omega) (by unfold td_near; dsimp only; omega)
          · exact g (j - 1, i + 1) (by unfold td_cell; dsimp only; omega) (by unfold td_near; dsimp only; omega)
/-- the body of a line -/
theorem td_bdL {R : Nat → Int32} (h : td_fit 2 R) (j i : Nat) : td_b (td_bd 2 R j) i = true ↔ (td_b (R j) i = true ∨ (j % 2 = 0 ∧ ((1 ≤ i ∧ td_b (R j) (i - 1) = true) ∨ td_b (R j) (i + 1) = true ∨ td_b (R (j + 1)) i = true ∨ (1 ≤ j ∧ td_b (R (j - 1)) i = true)))) := by
  have h17 := td_fit_17 h
  unfold td_bd
  rw [td_in2, td_rm2]
  unfold td_inL td_rmL
  by_cases z : j % 2 = 0
  · rw [if_pos z, if_pos z]
    unfold td_al td_un
    simp only [td_or, td_andn]
    simp only [td_or, td_and, td_xor, td_l1 (h17 _), td_r1 (h17 _)]
    rw [td_t3]
    have hd : td_b (td_dn R j) i = true ↔ (1 ≤ j ∧ td_b (R (j - 1)) i = true) := by
      unfold td_dn
      by_cases y : j = 0
      · rw [if_pos y, td_0]
        exact ⟨fun t => absurd t (by decide), fun t => absurd t.1 (by omega)⟩
      · rw [if_neg y]
        exact ⟨fun t => ⟨by omega, t⟩, fun t => t.2⟩
    simp only [Bool.or_eq_true, Bool.and_eq_true, decide_eq_true_eq, hd]
    constructor
    · rintro ((((g | g) | g) | g) | g)
      · exact Or.inl g
      · exact Or.inr ⟨z, Or.inl g⟩
      · exact Or.inr ⟨z, Or.inr (Or.inl g)⟩
      · exact Or.inr ⟨z, Or.inr (Or.inr (Or.inl g))⟩
      · exact Or.inr ⟨z, Or.inr (Or.inr (Or.inr g))⟩
    · rintro (g | ⟨_, g | g | g | g⟩)
      · exact Or.inl (Or.inl (Or.inl (Or.inl g)))
      · exact Or.inl (Or.inl (Or.inl (Or.inr g)))
      · exact Or.inl (Or.inl (Or.inr g))
      · exact Or.inl (Or.inr g)
      · exact Or.inr g
  · rw [if_neg z, if_neg z, td_or, td_0, Bool.or_false]
    exact ⟨fun g => Or.inl g, fun g => by
      rcases g with g | ⟨g, _⟩
      · exact g
      · exact absurd g z⟩
theorem td_bd1 (R : Nat → Int32) (j i : Nat) : td_b (td_bd 1 R j) i = td_b (R j) i := by
  unfold td_bd
  rw [td_in1, td_rm1, td_or, td_0, Bool.or_false]
/-- bodies have seventeen bits -/
theorem td_bd_17 {k : Int32} {R : Nat → Int32} (h : td_ok k R) (hk : ¬ k = 0) (j : Nat) : td_17 (td_bd k R j) := by
  intro i hi
  cases e : td_b (td_bd k R j) i
  · rfl
  · exfalso
    obtain ⟨hf, h0 | ⟨h1, _⟩⟩ := h
    · exact hk h0
    · rcases h1 with rfl | rfl | rfl
      · rw [td_bd1] at e
        have := td_fit1 hf e
        omega
      · rcases (td_bdL hf j i).mp e with g | ⟨g0, ⟨g1, g⟩ | g | g | ⟨g1, g⟩⟩ <;> have := td_fit2 hf g <;> omega
      · obtain ⟨q, hq, hn⟩ := (td_bdA hf j i).mp e
        have := td_pts_cell hf q hq
        unfold td_cell at this
        unfold td_near at hn
        dsimp only at hn
        omega
theorem td_in_17 {k : Int32} {R : Nat → Int32} (h : td_ok k R) (hk : ¬ k = 0) (j : Nat) : td_17 (td_in k R j) := by
  intro i hi
  have := td_bd_17 h hk j i hi
  unfold td_bd at this
  rw [td_or] at this
  cases e : td_b (td_in k R j) i
  · rfl
  · rw [e, Bool.true_or] at this; exact absurd this (by decide)
theorem td_rm_17 {k : Int32} {R : Nat → Int32} (h : td_ok k R) (hk : ¬ k = 0) (j : Nat) : td_17 (td_rm k R j) := by
  intro i hi
  have := td_bd_17 h hk j i hi
  unfold td_bd at this
  rw [td_or] at this
  cases e : td_b (td_rm k R j) i
  · rfl
  · rw [e, Bool.or_true] at this; exact absurd this (by decide)
/-- a shape lies in its body -/
theorem td_bd_sup {k : Int32} {R : Nat → Int32} (h : td_ok k R) (hk : ¬ k = 0) {j i : Nat} (hb : td_b (R j) i = true) : td_b (td_bd k R j) i = true := by
  obtain ⟨hf, h0 | ⟨h1, _⟩⟩ := h
  · exact absurd h0 hk
  · rcases h1 with rfl | rfl | rfl
    · rw [td_bd1]; exact hb
    · exact (td_bdL hf j i).mpr (Or.inl hb)
    · exact (td_bdA hf j i).mpr ⟨(j, i), hb, by unfold td_near; dsimp only; omega⟩
theorem td_bd_ne {k : Int32} {R : Nat → Int32} (h : td_ok k R) (hk : ¬ k = 0) : ∃ j i, j < 17 ∧ i < 17 ∧ td_b (td_bd k R j) i = true := by
  have h' := h
  obtain ⟨hf, h0 | ⟨h1, j, hj⟩⟩ := h
  · exact absurd h0 hk
  · obtain ⟨i, hi⟩ := td_ne0.mp hj
    exact ⟨j, i, (hf j i hi).1, (hf j i hi).2.1, td_bd_sup h' hk hi⟩
/-- bodies are closed: with a point they hold its vertex -/
theorem td_bd_vx {k : Int32} {R : Nat → Int32} (h : td_ok k R) (hk : ¬ k = 0) {j i : Nat} (hb : td_b (td_bd k R j) i = true) : td_b (td_bd k R (j - j % 2)) (i - i % 2) = true := by
  obtain ⟨hf, h0 | ⟨h1, _⟩⟩ := h
  · exact absurd h0 hk
  · rcases h1 with rfl | rfl | rfl
    · have hb' := hb
      rw [td_bd1] at hb
      have := td_fit1 hf hb
      rw [show j - j % 2 = j by omega, show i - i % 2 = i by omega]
      exact hb'
    · rcases (td_bdL hf j i).mp hb with g | ⟨g0, ⟨g1, g⟩ | g | g | ⟨g1, g⟩⟩
      · have := td_fit2 hf g
        by_cases z : j % 2 = 0
        · rw [show j - j % 2 = j by omega, show i - i % 2 = i - 1 by omega]
          exact (td_bdL hf _ _).mpr (Or.inr ⟨z, Or.inr (Or.inl (by rw [show i - 1 + 1 = i by omega]; exact g))⟩)
        · rw [show j - j % 2 = j - 1 by omega, show i - i % 2 = i by omega]
          exact (td_bdL hf _ _).mpr (Or.inr ⟨by omega, Or.inr (Or.inr (Or.inl (by rw [show j - 1 + 1 = j by omega]; exact g)))⟩)
      all_goals
        have := td_fit2 hf g
        rw [show j - j % 2 = j by omega, show i - i % 2 = i by omega]
        exact hb
    · obtain ⟨q, hq, hn⟩ := (td_bdA hf j i).mp hb
      refine (td_bdA hf _ _).mpr ⟨q, hq, ?_⟩
      have := td_pts_cell hf q hq
      unfold td_cell at this
      unfold td_near at hn ⊢
      dsimp only at hn ⊢
      omega
end
section
/-! two shapes: what they have in common -/
def td_meet (k : Int32) (R : Nat → Int32) (k' : Int32) (R' : Nat → Int32) : Prop := ∃ j i, j < 17 ∧ td_b (td_bd k R j) i = true ∧ td_b (td_bd k' R' j) i = true
def td_sub (k : Int32) (R : Nat → Int32) (k' : Int32) (R' : Nat → Int32) : Prop := ∀ j i, j < 17 → td_b (td_bd k R j) i = true → td_b (td_bd k' R' j) i = true
def td_same (k : Int32) (R : Nat → Int32) (k' : Int32) (R' : Nat → Int32) : Prop := ∀ j, j < 17 → td_bd k R j = td_bd k' R' j
theorem td_same_iff {k k' : Int32} {R R' : Nat → Int32} : td_same k R k' R' ↔ td_sub k R k' R' ∧ td_sub k' R' k R := by
  constructor
  · intro h
    exact ⟨fun j i hj hb => by rw [← h j hj]; exact hb, fun j i hj hb => by rw [h j hj]; exact hb⟩
  · rintro ⟨h, g⟩ j hj
    apply td_ext
    intro i _
    cases e : td_b (td_bd k R j) i <;> cases e' : td_b (td_bd k' R' j) i
    · rfl
    · rw [g j i hj e'] at e; exact absurd e (by decide)
    · rw [h j i hj e] at e'; exact absurd e' (by decide)
    · rfl
theorem td_same_symm {k k' : Int32} {R R' : Nat → Int32} (h : td_same k R k' R') : td_same k' R' k R := fun j hj => (h j hj).symm
theorem td_meet_symm {k k' : Int32} {R R' : Nat → Int32} (h : td_meet k R k' R') : td_meet k' R' k R := by
  obtain ⟨j, i, h1, h2, h3⟩ := h
  exact ⟨j, i, h1, h3, h2⟩
theorem td_sub_meet {k k' : Int32} {R R' : Nat → Int32} (hok : td_ok k R) (hk : ¬ k = 0) (h : td_sub k R k' R') : td_meet k' R' k R := by
  obtain ⟨j, i, hj, _, hb⟩ := td_bd_ne hok hk
  exact ⟨j, i, hj, h j i hj hb, hb⟩
/-- bodies that meet have a vertex in common -/
theorem td_meet_vx {k k' : Int32} {R R' : Nat → Int32} (hok : td_ok k R) (hk : ¬ k = 0) (hok' : td_ok k' R') (hk' : ¬ k' = 0) : td_meet k R k' R' ↔ ∃ j, j < 17 ∧ j % 2 = 0 ∧ ¬ (((td_bd k R j &&& 87381) &&& 87381) &&& td_bd k' R' j) = 0 := by
  constructor
  · rintro ⟨j, i, hj, h1, h2⟩
    have v1 := td_bd_vx hok hk h1
    have v2 := td_bd_vx hok' hk' h2
    refine ⟨j - j % 2, by omega, by omega, td_ne0.mpr ⟨i - i % 2, ?_⟩⟩
    have := td_17_lt (td_bd_17 hok hk _) v1
    rw [td_and, td_and, td_and, v1, v2, td_even, decide_eq_true (show i - i % 2 < 17 ∧ (i - i % 2) % 2 = 0 by omega)]
    rfl
  · rintro ⟨j, hj, _, h⟩
    obtain ⟨i, hi⟩ := td_ne0.mp h
    rw [td_and, td_and, td_and] at hi
    simp only [Bool.and_eq_true] at hi
    exact ⟨j, i, hj, hi.1.1.1, hi.2⟩
/-! meetings -/
def td_P (k : Int32) (R : Nat → Int32) (p j : Nat) : Int32 := if p = 0 then td_in k R j else if p = 1 then td_rm k R j else 131071 &&& (td_bd k R j ^^^ (-1))
def td_dim (x : Int32) (j : Nat) : Nat := if x = 0 then 0 else if j % 2 = 1 then (if x &&& 43690 = 0 then 2 else 3) else (if x &&& 43690 = 0 then 1 else 2)
def td_mx (f : Nat → Int32) : Nat → Nat
  | 0 => 0
  | n + 1 => if td_dim (f n) n ≤ td_mx f n then td_mx f n else td_dim (f n) n
theorem td_dim_le (x : Int32) (j : Nat) : td_dim x j ≤ 3 := by
  unfold td_dim
  split
  · omega
  · split <;> split <;> omega
theorem td_dim_0 (x : Int32) (j : Nat) : td_dim x j = 0 ↔ x = 0 := by
  unfold td_dim
  split
  · next h => exact ⟨fun _ => h, fun _ => rfl⟩
  · next h =>
    refine ⟨fun g => ?_, fun g => absurd g h⟩
    exfalso
    revert g
    split <;> split <;> omega
theorem td_mx_le (f : Nat → Int32) (n : Nat) : td_mx f n ≤ 3 := by
  induction n with
  | zero => exact Nat.zero_le _
  | succ n ih =>
    show (if td_dim (f n) n ≤ td_mx f n then td_mx f n else td_dim (f n) n) ≤ 3
    split
    · exact ih
    · exact td_dim_le _ _
theorem td_mx_0 {f : Nat → Int32} {n : Nat} : td_mx f n = 0 ↔ ∀ j, j < n → f j = 0 := by
  induction n with
  | zero => exact ⟨fun _ j hj => absurd hj (by omega), fun _ => rfl⟩
  | succ n ih =>
    show (if td_dim (f n) n ≤ td_mx f n then td_mx f n else td_dim (f n) n) = 0 ↔ _
    constructor
    · intro h j hj
      have hd : td_dim (f n) n = 0 ∧ td_mx f n = 0 := by
        revert h
        split <;> omega
      rcases Nat.lt_or_ge j n with z | z
      · exact ih.mp hd.2 j z
      · rw [show j = n by omega]
        exact (td_dim_0 _ _).mp hd.1
    · intro h
      have h1 := (td_dim_0 (f n) n).mpr (h n (by omega))
      have h2 := ih.mpr (fun j hj => h j (by omega))
      rw [h1, h2]
      rfl
def td_MM (k : Int32) (R : Nat → Int32) (k' : Int32) (R' : Nat → Int32) (p q : Nat) : Nat := if p = 2 ∧ q = 2 then 3 else td_mx (fun j => td_P k R p j &&& td_P k' R' q j) 17
theorem td_MM_le (k : Int32) (R : Nat → Int32) (k' : Int32) (R' : Nat → Int32) (p q : Nat) : td_MM k R k' R' p q ≤ 3 := by
  unfold td_MM
  split
  · exact Nat.le_refl 3
  · exact td_mx_le _ _
theorem td_MM_symm (k : Int32) (R : Nat → Int32) (k' : Int32) (R' : Nat → Int32) (p q : Nat) : td_MM k R k' R' p q = td_MM k' R' k R q p := by
  unfold td_MM
  have e : (fun j => td_P k R p j &&& td_P k' R' q j) = (fun j => td_P k' R' q j &&& td_P k R p j) := funext (fun j => Int32.and_comm _ _)
  rw [e]
  by_cases z : p = 2 ∧ q = 2
  · rw [if_pos z, if_pos ⟨z.2, z.1⟩]
  · rw [if_neg z, if_neg (fun y => z ⟨y.2, y.1⟩)]
theorem td_MM_0 {k : Int32} {R : Nat → Int32} {k' : Int32} {R' : Nat → Int32} {p q : Nat} (h : ¬ (p = 2 ∧ q = 2)) : td_MM k R k' R' p q = 0 ↔ ∀ j, j < 17 → td_P k R p j &&& td_P k' R' q j = 0 := by
  unfold td_MM
  rw [if_neg h]
  exact td_mx_0
theorem td_or0 {x y : Int32} : x ||| y = 0 ↔ x = 0 ∧ y = 0 := by
  rw [td_eq0, td_eq0, td_eq0]
  constructor
  · intro h
    refine ⟨fun i => ?_, fun i => ?_⟩ <;> have := h i <;> rw [td_or, Bool.or_eq_false_iff] at this
    · exact this.1
    · exact this.2
  · rintro ⟨h1, h2⟩ i
    rw [td_or, h1, h2]
    rfl
theorem td_nI0 {n : Nat} (h : n ≤ 3) : nI n = 0 ↔ n = 0 := by
  rw [← nI_0]
  exact nI_eq (by omega) (by omega)
theorem td_meet_MM {k : Int32} {R : Nat → Int32} {k' : Int32} {R' : Nat → Int32} : (td_MM k R k' R' 0 0 = 0 ∧ td_MM k R k' R' 0 1 = 0 ∧ td_MM k R k' R' 1 0 = 0 ∧ td_MM k R k' R' 1 1 = 0) ↔ ¬ td_meet k R k' R' := by
  rw [td_MM_0 (by omega), td_MM_0 (by omega), td_MM_0 (by omega), td_MM_0 (by omega)]
  constructor
  · rintro ⟨h1, h2, h3, h4⟩ ⟨j, i, hj, g1, g2⟩
    have e1 := td_eq0.mp (h1 j hj) i
    have e2 := td_eq0.mp (h2 j hj) i
    have e3 := td_eq0.mp (h3 j hj) i
    have e4 := td_eq0.mp (h4 j hj) i
    unfold td_bd at g1 g2
    simp only [td_P, td_and, td_or, if_true, if_false, Nat.one_ne_zero] at e1 e2 e3 e4 g1 g2
    revert e1 e2 e3 e4 g1 g2
    cases td_b (td_in k R j) i <;> cases td_b (td_rm k R j) i <;> cases td_b (td_in k' R' j) i <;> cases td_b (td_rm k' R' j) i <;> decide
  · intro h
    have key : ∀ j i, j < 17 → td_b (td_bd k R j) i = false ∨ td_b (td_bd k' R' j) i = false := by
      intro j i hj
      cases e1 : td_b (td_bd k R j) i
      · exact Or.inl rfl
      · cases e2 : td_b (td_bd k' R' j) i
        · exact Or.inr rfl
        · exact absurd ⟨j, i, hj, e1, e2⟩ h
    unfold td_bd at key
    simp only [td_or, Bool.or_eq_false_iff] at key
    refine ⟨fun j hj => ?_, fun j hj => ?_, fun j hj => ?_, fun j hj => ?_⟩ <;> rw [td_eq0] <;> intro i <;> simp only [td_P, td_and, if_true, if_false, Nat.one_ne_zero] <;> rcases key j i hj with ⟨g1, g2⟩ | ⟨g1, g2⟩ <;> simp only [g1, g2, Bool.false_and, Bool.and_false]
theorem td_sub_MM {k : Int32} {R : Nat → Int32} {k' : Int32} {R' : Nat → Int32} (hok : td_ok k' R') (hk : ¬ k' = 0) : (td_MM k R k' R' 2 0 = 0 ∧ td_MM k R k' R' 2 1 = 0) ↔ td_sub k' R' k R := by
  rw [td_MM_0 (by omega), td_MM_0 (by omega)]
  constructor
  · rintro ⟨h1, h2⟩ j i hj g
    have hi := td_17_lt (td_bd_17 hok hk j) g
    have e1 := td_eq0.mp (h1 j hj) i
    have e2 := td_eq0.mp (h2 j hj) i
    unfold td_bd at g
    simp only [td_P, if_true, if_false, Nat.one_ne_zero, show (2 : Nat) ≠ 0 by decide, show (2 : Nat) ≠ 1 by decide] at e1 e2
    rw [td_and, td_andn, td_all, decide_eq_true hi] at e1 e2
    rw [td_or] at g
    revert e1 e2 g
    cases td_b (td_bd k R j) i <;> cases td_b (td_in k' R' j) i <;> cases td_b (td_rm k' R' j) i <;> decide
  · intro h
    have key : ∀ j i, j < 17 → td_b (td_bd k R j) i = true ∨ (td_b (td_in k' R' j) i = false ∧ td_b (td_rm k' R' j) i = false) := by
      intro j i hj
      cases e1 : td_b (td_bd k R j) i
      · right
        have : td_b (td_bd k' R' j) i = false := by
          cases e2 : td_b (td_bd k' R' j) i
          · rfl
          · rw [h j i hj e2] at e1; exact absurd e1 (by decide)
        unfold td_bd at this
        rw [td_or, Bool.or_eq_false_iff] at this
        exact this
      · exact Or.inl rfl
    refine ⟨fun j hj => ?_, fun j hj => ?_⟩ <;> rw [td_eq0] <;> intro i <;> simp only [td_P, if_true, if_false, Nat.one_ne_zero, show (2 : Nat) ≠ 0 by decide, show (2 : Nat) ≠ 1 by decide] <;> rw [td_and, td_andn] <;> rcases key j i hj with g1 | ⟨g1, g2⟩
    · rw [g1]; simp
    · rw [g1]; simp
    · rw [g1]; simp
    · rw [g2]; simp
/-! what 'is' answers -/
def td_nm (k : Int32) (R : Nat → Int32) (k' : Int32) (R' : Nat → Int32) (name : Nat) (r : Int32) : Prop := (r = 0 ∨ r = 1) ∧ (name = 0 → (r = 1 ↔ td_same k R k' R')) ∧ (name = 1 → (r = 1 ↔ ¬ td_meet k R k' R')) ∧ (name = 4 → (r = 1 ↔ td_sub k' R' k R)) ∧ (¬ name = 1 → ¬ td_meet k R k' R' → r = 0)
/-! the outline of an area -/
def td_ol (R : Nat → Int32) (j : Nat) : Int32 := if j < 17 then td_rmA R j &&& (if j % 2 = 0 then 43690 else 87381) else 0
theorem td_ol_odd {R : Nat → Int32} (h : td_fit 3 R) {j : Nat} (hj : j % 2 = 1) (i : Nat) : td_b (td_ol R j) i = ((decide (i < 17 ∧ i % 2 = 0)) && ((decide (1 ≤ i) && td_b (R j) (i - 1)) ^^ td_b (R j) (i + 1))) := by
  have h17 := td_fit_17 h
  unfold td_ol
  by_cases z : j < 17
  · rw [if_pos z, if_neg (show ¬ j % 2 = 0 by omega), td_and, td_even]
    unfold td_rmA
    rw [if_pos hj, td_xor, td_l1 (h17 _), td_r1 (h17 _), Bool.and_comm]
  · rw [if_neg z, td_fit_hi h (by omega), td_0, td_0, td_0]
    simp
theorem td_ol_even {R : Nat → Int32} (h : td_fit 3 R) {j : Nat} (hj : j % 2 = 0) (hj2 : j < 17) (i : Nat) : td_b (td_ol R j) i = ((decide (i < 17 ∧ i % 2 = 1)) && (td_b (R (j + 1)) i ^^ td_b (td_dn R j) i)) := by
  have h17 := td_fit_17 h
  have d17 := td_dn_17 h
  unfold td_ol
  rw [if_pos hj2, if_pos hj, td_and, td_odd]
  unfold td_rmA
  rw [if_neg (show ¬ j % 2 = 1 by omega), td_or, td_xor, td_andn, Bool.and_comm]
  by_cases z : i < 17 ∧ i % 2 = 1
  · have e : td_b (td_an R j) i = false := by
      unfold td_an
      rw [td_or, td_or, td_or, td_l1 (h17 _), td_r1 (h17 _), td_l1 (d17 _), td_r1 (d17 _)]
      have f : ∀ j i, i % 2 = 0 → td_b (R j) i = false := by
        intro j i hi
        cases e : td_b (R j) i
        · rfl
        · have := td_fit3 h e; omega
      have f' : ∀ j i, i % 2 = 0 → td_b (td_dn R j) i = false := by
        intro j i hi
        unfold td_dn
        split
        · exact td_0 _
        · exact f _ _ hi
      rw [f _ _ (show (i - 1) % 2 = 0 by omega), f _ _ (show (i + 1) % 2 = 0 by omega), f' _ _ (show (i - 1) % 2 = 0 by omega), f' _ _ (show (i + 1) % 2 = 0 by omega)]
      simp
    rw [e]
    simp
  · rw [decide_eq_false z]
    rfl
theorem td_ol_fit {R : Nat → Int32} (h : td_fit 3 R) : td_fit 2 (td_ol R) := by
  intro j i hb
  have hj : j < 17 := by
    rcases Nat.lt_or_ge j 17 with z | z
    · exact z
    · unfold td_ol at hb
      rw [if_neg (by omega), td_0] at hb
      exact absurd hb (by decide)
  rcases Nat.mod_two_eq_zero_or_one j with z | z
  · rw [td_ol_even h z hj] at hb
    simp only [Bool.and_eq_true, decide_eq_true_eq] at hb
    exact ⟨hj, hb.1.1, Or.inr (Or.inl ⟨rfl, by omega⟩)⟩
  · rw [td_ol_odd h z] at hb
    simp only [Bool.and_eq_true, decide_eq_true_eq] at hb
    exact ⟨hj, hb.1.1, Or.inr (Or.inl ⟨rfl, by omega⟩)⟩
theorem td_ol_ok {R : Nat → Int32} (h : td_ok 3 R) : td_ok 2 (td_ol R) := by
  obtain ⟨hf, h0 | ⟨_, j, hj⟩⟩ := h
  · exact absurd h0 (by decide)
  · refine ⟨td_ol_fit hf, Or.inr ⟨Or.inr (Or.inl rfl), j, ?_⟩⟩
    obtain ⟨l, h1, h2⟩ := td_least hj
    have c := td_fit3 hf h1
    refine td_ne0.mpr ⟨l - 1, ?_⟩
    rw [td_ol_odd hf c.1, show l - 1 + 1 = l by omega, h1, decide_eq_true (show l - 1 < 17 ∧ (l - 1) % 2 = 0 by omega)]
    rcases Nat.lt_or_ge l 2 with z | z
    · rw [decide_eq_false (show ¬ 1 ≤ l - 1 by omega)]
      rfl
    · rw [h2 (l - 1 - 1) (by omega), Bool.and_false]
      rfl
/-- each vertex has an even number of edges of the outline -/
theorem td_ol_un {R : Nat → Int32} (h : td_fit 3 R) {j : Nat} (hj : j % 2 = 0) (hj2 : j < 17) : td_un (td_ol R) j = 0 := by
  have hf := td_ol_fit h
  have h17 := td_fit_17 hf
  rw [td_eq0]
  intro i
  unfold td_un
  rw [td_xor, td_xor, td_xor, td_l1 (h17 _), td_r1 (h17 _), td_ol_even h hj hj2, td_ol_even h hj hj2, td_ol_odd h (show (j + 1) % 2 = 1 by omega)]
  have hd : td_b (td_dn (td_ol R) j) i = ((decide (i < 17 ∧ i % 2 = 0)) && ((decide (1 ≤ i) && td_b (td_dn R j) (i - 1)) ^^ td_b (td_dn R j) (i + 1))) := by
    unfold td_dn
    by_cases z : j = 0
    · rw [if_pos z, if_pos z, td_0, td_0, td_0]
      simp
    · rw [if_neg z, if_neg z, td_ol_odd h (show (j - 1) % 2 = 1 by omega)]
  rw [hd]
  have f : td_b (R (j + 1)) 17 = false := td_fit_17 h _ 17 (by omega)
  have f' : td_b (td_dn R j) 17 = false := td_dn_17 h _ 17 (by omega)
  rcases Nat.lt_or_ge i 17 with z | z
  · rcases Nat.mod_two_eq_zero_or_one i with y | y
    · rw [decide_eq_true (show i < 17 ∧ i % 2 = 0 from ⟨z, y⟩)]
      have e1 : decide (i + 1 < 17 ∧ (i + 1) % 2 = 1) = decide (i + 1 < 17) := by
        congr 1
        simp only [eq_iff_iff]
        omega
      rw [e1]
      rcases Nat.lt_or_ge i 1 with x | x
      · rw [decide_eq_false (show ¬ 1 ≤ i by omega), decide_eq_true (show i + 1 < 17 by omega)]
        cases td_b (R (j + 1)) (i + 1) <;> cases td_b (td_dn R j) (i + 1) <;> simp
      · rw [decide_eq_true (show 1 ≤ i from x), decide_eq_true (show i - 1 < 17 ∧ (i - 1) % 2 = 1 by omega)]
        rcases Nat.lt_or_ge (i + 1) 17 with w | w
        · rw [decide_eq_true w]
          cases td_b (R (j + 1)) (i + 1) <;> cases td_b (td_dn R j) (i + 1) <;> cases td_b (R (j + 1)) (i - 1) <;> cases td_b (td_dn R j) (i - 1) <;> rfl
        · rw [decide_eq_false (show ¬ i + 1 < 17 by omega), show i + 1 = 17 by omega, f, f']
          cases td_b (R (j + 1)) (i - 1) <;> cases td_b (td_dn R j) (i - 1) <;> rfl
    · rw [decide_eq_false (show ¬ (i < 17 ∧ i % 2 = 0) by omega), decide_eq_false (show ¬ (i - 1 < 17 ∧ (i - 1) % 2 = 1) by omega), decide_eq_false (show ¬ (i + 1 < 17 ∧ (i + 1) % 2 = 1) by omega)]
      simp
  · rw [decide_eq_false (show ¬ (i < 17 ∧ i % 2 = 0) by omega), decide_eq_false (show ¬ (i + 1 < 17 ∧ (i + 1) % 2 = 1) by omega)]
    rcases Nat.lt_or_ge (i - 1) 17 with w | w
    · rw [show i - 1 = 16 by omega]
      simp
    · rw [decide_eq_false (show ¬ (i - 1 < 17 ∧ (i - 1) % 2 = 1) by omega)]
      simp
end
section
/-! walks: rows, lay -/
def td_sh (a2 : Nat → Int32) (s j : Nat) : Int32 := if j < 17 then a2 (17 * s + j) else 0
theorem td_ix (s j : Nat) : 17 * nI s + nI j = nI (17 * s + j) := by
  show nI 17 * nI s + nI j = _
  rw [pk_mul, nI_add]
theorem td_rem2 {j : Nat} (h : j < 2 ^ 31) : nI j - nI j / 2 * 2 = nI (j % 2) := pk_rem (d := 2) h (by decide) (by decide)
theorem td_rem9 {j : Nat} (h : j < 2 ^ 31) : nI j - nI j / 9 * 9 = nI (j % 9) := pk_rem (d := 9) h (by decide) (by decide)
theorem td_div9 {j : Nat} (h : j < 2 ^ 31) : nI j / 9 = nI (j / 9) := pk_div (d := 9) h (by decide) (by decide)
theorem td_mul2 (j : Nat) : 2 * nI j = nI (2 * j) := pk_mul 2 j
theorem td_w_isSlot {post : Int32 → Prop} {u : St2} {s : Nat} (hs : s < 12) (H : post 1) : wpX_isSlot post u (nI s) :=
  pk_lt s 0 (fun z => absurd z (by omega)) (fun _ => pk_le 12 s (fun z => absurd z (by omega)) (fun _ => H))
theorem td_w_pairRefusal {post : Int32 → Prop} {a1 a2 a3 a4 a5 a6 : Nat → Int32} {s o : Nat} (hs : s < 12) (ho : o < 12) (H0 : ¬ a1 s = 0 → ¬ a1 o = 0 → post 0) (H2 : a1 s = 0 ∨ a1 o = 0 → post (-2)) : wpX_pairRefusal post (a1, a2, a3, a4, a5, a6) (nI s) (nI o) := by
  unfold wpX_pairRefusal
  dsimp only
  refine td_w_isSlot hs (br_f (by decide) (td_w_isSlot ho (br_f (by decide) ⟨pk_in s 12 hs, ?_⟩)))
  rw [nI_clamp (show s < 2 ^ 31 by omega), nI_clamp (show o < 2 ^ 31 by omega)]
  exact br_c (fun e => H2 (Or.inl e)) (fun e => ⟨pk_in o 12 ho, br_c (fun e' => H2 (Or.inr e')) (fun e' => H0 e e')⟩)
theorem td_w_row {post : Int32 → Prop} {a1 a2 a3 a4 a5 a6 : Nat → Int32} {s j : Nat} (hs : s < 12) (hj : j < 100) (H : post (td_sh a2 s j)) : wpX_row post (a1, a2, a3, a4, a5, a6) (nI s) (nI j) := by
  unfold wpX_row
  dsimp only
  refine pk_lt j 0 (fun z => absurd z (by omega)) (fun _ => pk_lt j 17 (fun z => ?_) (fun z => ?_))
  · rw [td_ix]
    refine ⟨vp_in_nI (by omega) (by omega), ?_⟩
    rw [nI_clamp (by omega)]
    unfold td_sh at H
    rw [if_pos z] at H
    exact H
  · unfold td_sh at H
    rw [if_neg (by omega)] at H
    exact H
theorem td_w_rowd {post : Int32 → Prop} {a1 a2 a3 a4 a5 a6 : Nat → Int32} {s j : Nat} (hs : s < 12) (hj : j < 100) (H : post (td_dn (td_sh a2 s) j)) : wpX_row post (a1, a2, a3, a4, a5, a6) (nI s) (nI j - 1) := by
  cases j with
  | zero => exact br_t (by decide) H
  | succ j =>
    rw [nI_pred]
    exact td_w_row hs (by omega) H
theorem td_w_layArea {post : St1 → Prop} {a1 a2 a3 a4 a5 a6 : Nat → Int32} {s j t : Nat} (hs : s < 12) (hj : j < 17) (ht : t < 34) (H : post (a1, a2, upd a3 t (td_inA (td_sh a2 s) j), upd a4 t (td_rmA (td_sh a2 s) j), a5, a6)) : wpX_layArea post (a1, a2, a3, a4, a5, a6) (nI s) (nI j) (nI t) := by
  unfold wpX_layArea
  dsimp only
  refine ⟨by decide, ?_⟩
  rw [td_rem2 (by omega), nI_clamp (show t < 2 ^ 31 by omega)]
  unfold td_inA td_rmA at H
  refine pk_eq (j % 2) 1 (fun z => ?_) (fun z => ?_)
  · rw [if_pos z, if_pos z] at H
    exact td_w_row hs (by omega) (nm_e (nm_e ⟨pk_in t 34 ht, nm_e ⟨pk_in t 34 ht, nm_e H⟩⟩))
  · rw [if_neg z, if_neg z] at H
    rw [nI_1]
    exact td_w_row hs (by omega) (td_w_rowd hs (by omega) (nm_e (nm_e ⟨pk_in t 34 ht, nm_e ⟨pk_in t 34 ht, nm_e H⟩⟩)))
theorem td_uu (f : Nat → Int32) (k : Nat) (v w : Int32) : upd (upd f k v) k w = upd f k w := by
  funext j
  unfold upd
  split <;> rfl
theorem td_w_layLine {post : St1 → Prop} {a1 a2 a3 a4 a5 a6 : Nat → Int32} {s j t : Nat} (hs : s < 12) (hj : j < 17) (ht : t < 34) (H : post (a1, a2, upd a3 t (td_inL (td_sh a2 s) j), upd a4 t (td_rmL (td_sh a2 s) j), a5, a6)) : wpX_layLine post (a1, a2, a3, a4, a5, a6) (nI s) (nI j) (nI t) := by
  unfold wpX_layLine
  dsimp only
  rw [nI_clamp (show t < 2 ^ 31 by omega)]
  unfold td_inL td_rmL at H
  refine td_w_row hs (by omega) ⟨pk_in t 34 ht, nm_e ⟨pk_in t 34 ht, nm_e ⟨by decide, ?_⟩⟩⟩
  rw [td_rem2 (by omega)]
  refine pk_eq (j % 2) 0 (fun z => ?_) (fun z => ?_)
  · rw [if_pos z, if_pos z] at H
    rw [nI_1]
    refine td_w_row hs (by omega) (td_w_rowd hs (by omega) (nm_e (nm_e ⟨pk_in t 34 ht, nm_e ⟨pk_in t 34 ht, nm_e ?_⟩⟩)))
    rw [td_uu, td_uu]
    exact H
  · rw [if_neg z, if_neg z] at H
    exact H
/-- rows w.. of a3, a4 are laid up to i -/
def td_L (k : Int32) (R : Nat → Int32) (w i : Nat) (a3 a4 s3 s4 : Nat → Int32) : Prop := (∀ j, j < i → s3 (17 * w + j) = td_in k R j ∧ s4 (17 * w + j) = td_rm k R j) ∧ (∀ t, t < 17 * w ∨ 17 * w + 17 ≤ t → s3 t = a3 t ∧ s4 t = a4 t)
theorem td_L_step {k : Int32} {R : Nat → Int32} {w i : Nat} {a3 a4 s3 s4 : Nat → Int32} {x y : Int32} (hi : i < 17) (h : td_L k R w i a3 a4 s3 s4) (hx : x = td_in k R i) (hy : y = td_rm k R i) : td_L k R w (i + 1) a3 a4 (upd s3 (17 * w + i) x) (upd s4 (17 * w + i) y) := by
  refine ⟨fun j hj => ?_, fun t ht => ?_⟩
  · by_cases e : j = i
    · subst e
      rw [pk_us, pk_us, hx, hy]
      exact ⟨rfl, rfl⟩
    · rw [pk_un (by omega), pk_un (by omega)]
      exact h.1 j (by omega)
  · rw [pk_un (by omega), pk_un (by omega)]
    exact h.2 t ht
theorem td_w_lay {post : St1 → Prop} {a1 a2 a3 a4 a5 a6 : Nat → Int32} {s w : Nat} (hs : s < 12) (hw : w < 2) (H : ∀ s3 s4, td_L (a1 s) (td_sh a2 s) w 17 a3 a4 s3 s4 → post (a1, a2, s3, s4, a5, a6)) : wpX_lay post (a1, a2, a3, a4, a5, a6) (nI s) (nI w) := by
  unfold wpX_lay
  dsimp only
  refine pk_loop (fun n i (u : (Nat → Int32) × (Nat → Int32)) => wX_lay_2 post (nI s) (nI w) n (nI i) a1 a2 u.1 u.2 a5 a6) (fun i u => td_L (a1 s) (td_sh a2 s) w i a3 a4 u.1 u.2) 17 0 (a3, a4) (by omega) ⟨fun j hj => absurd hj (by omega), fun _ _ => ⟨rfl, rfl⟩⟩ ?_ ?_
  · intro n u h
    exact pk_le 17 17 (fun _ => H _ _ h) (fun z => absurd z (by omega))
  · intro n i u hi h hn
    obtain ⟨s3, s4⟩ := u
    dsimp only at h hn
    refine pk_le 17 i (fun z => absurd z (by omega)) (fun _ => ?_)
    refine nm_r (td_ix w i) ⟨pk_in s 12 hs, ?_⟩
    rw [nI_clamp (show s < 2 ^ 31 by omega)]
    refine br_c (fun e => ?_) (fun e => ⟨pk_in s 12 hs, br_c (fun e2 => ?_) (fun e2 => ?_)⟩)
    · refine td_w_layArea hs hi (by omega) (nm_r (nI_1 i) ?_)
      exact hn (_, _) (td_L_step hi h (by unfold td_in; rw [if_pos e]) (by unfold td_rm; rw [if_pos e]))
    · refine td_w_layLine hs hi (by omega) (nm_r (nI_1 i) ?_)
      exact hn (_, _) (td_L_step hi h (by unfold td_in; rw [if_neg e, if_pos e2]) (by unfold td_rm; rw [if_neg e, if_pos e2]))
    · rw [td_ix]
      refine ⟨vp_in_nI (by omega) (by omega), vp_in_nI (by omega) (by omega), nm_e ⟨vp_in_nI (by omega) (by omega), nm_e (nm_r (nI_1 i) ?_)⟩⟩
      rw [nI_clamp (show 17 * w + i < 2 ^ 31 by omega), nI_clamp (show 17 * s + i < 2 ^ 31 by omega)]
      exact hn (_, _) (td_L_step hi h (by unfold td_in td_sh; rw [if_neg e, if_neg e2, if_pos hi]) (by unfold td_rm; rw [if_neg e, if_neg e2]))
/-! both shapes are laid -/
def td_laid (k : Int32) (R : Nat → Int32) (k' : Int32) (R' : Nat → Int32) (a3 a4 : Nat → Int32) : Prop := ∀ j, j < 17 → (a3 j = td_in k R j ∧ a4 j = td_rm k R j) ∧ (a3 (17 + j) = td_in k' R' j ∧ a4 (17 + j) = td_rm k' R' j)
theorem td_w_lay2 {post : St1 → Prop} {a1 a2 a3 a4 a5 a6 : Nat → Int32} {s o : Nat} (hs : s < 12) (ho : o < 12) (H : ∀ s3 s4, td_laid (a1 s) (td_sh a2 s) (a1 o) (td_sh a2 o) s3 s4 → post (a1, a2, s3, s4, a5, a6)) : wpX_lay (fun u => match u with | (b1, b2, b3, b4, b5, b6) => wpX_lay post (b1, b2, b3, b4, b5, b6) (nI o) 1) (a1, a2, a3, a4, a5, a6) (nI s) 0 := by
  refine td_w_lay (w := 0) hs (by omega) (fun s3 s4 h => ?_)
  refine td_w_lay (w := 1) ho (by omega) (fun t3 t4 g => ?_)
  refine H t3 t4 (fun j hj => ⟨?_, ?_⟩)
  · have e := g.2 j (by omega)
    have e2 := h.1 j hj
    rw [Nat.mul_zero, Nat.zero_add] at e2
    rw [e.1, e.2]
    exact e2
  · exact g.1 j hj
theorem td_w_body {post : Int32 → Prop} {a1 a2 a3 a4 a5 a6 : Nat → Int32} {t : Nat} (ht : t < 34) (H : post (a3 t ||| a4 t)) : wpX_body post (a1, a2, a3, a4, a5, a6) (nI t) := by
  unfold wpX_body
  dsimp only
  rw [nI_clamp (show t < 2 ^ 31 by omega)]
  exact ⟨pk_in t 34 ht, pk_in t 34 ht, H⟩
theorem td_w_outside {post : Int32 → Prop} {a1 a2 a3 a4 a5 a6 : Nat → Int32} {t : Nat} (ht : t < 34) (H : post (131071 &&& ((a3 t ||| a4 t) ^^^ (-1)))) : wpX_outside post (a1, a2, a3, a4, a5, a6) (nI t) := by
  unfold wpX_outside
  dsimp only
  exact td_w_body ht H
theorem td_w_partOf {post : Int32 → Prop} {a1 a2 a3 a4 a5 a6 : Nat → Int32} {k : Int32} {R : Nat → Int32} {w p j : Nat} (hw : w < 2) (hp : p < 3) (hj : j < 17) (h3 : a3 (17 * w + j) = td_in k R j) (h4 : a4 (17 * w + j) = td_rm k R j) (H : post (td_P k R p j)) : wpX_partOf post (a1, a2, a3, a4, a5, a6) (nI w) (nI p) (nI j) := by
  unfold wpX_partOf
  dsimp only
  refine nm_r (td_ix w j) ?_
  rw [nI_clamp (show 17 * w + j < 2 ^ 31 by omega), h3, h4]
  unfold td_P at H
  refine pk_eq p 0 (fun z => ⟨vp_in_nI (by omega) (by omega), ?_⟩) (fun z => pk_eq p 1 (fun y => ⟨vp_in_nI (by omega) (by omega), ?_⟩) (fun y => td_w_outside (by omega) ?_))
  · rw [if_pos z] at H
    exact H
  · rw [if_neg z, if_pos y] at H
    exact H
  · rw [if_neg z, if_neg y] at H
    rw [h3, h4]
    exact H
theorem td_w_dim {post : Int32 → Prop} {u : St2} {x : Int32} {j : Nat} (hj : j < 17) (H : post (nI (td_dim x j))) : wpX_dimensionIn post u x (nI j) := by
  unfold wpX_dimensionIn
  rw [td_rem2 (by omega)]
  unfold td_dim at H
  refine br_c (fun e => ?_) (fun e => ⟨by decide, pk_eq (j % 2) 1 (fun z => br_c (fun y => ?_) (fun y => ?_)) (fun z => br_c (fun y => ?_) (fun y => ?_))⟩)
  · rw [if_pos e] at H; exact H
  · rw [if_neg e, if_pos z, if_pos y] at H; exact H
  · rw [if_neg e, if_pos z, if_neg y] at H; exact H
  · rw [if_neg e, if_neg z, if_pos y] at H; exact H
  · rw [if_neg e, if_neg z, if_neg y] at H; exact H
theorem td_w_meeting {post : Int32 → Prop} {a1 a2 a3 a4 a5 a6 : Nat → Int32} {k k' : Int32} {R R' : Nat → Int32} {p q : Nat} (hl : td_laid k R k' R' a3 a4) (hp : p < 3) (hq : q < 3) (H : post (nI (td_MM k R k' R' p q))) : wpX_meeting post (a1, a2, a3, a4, a5, a6) (nI p) (nI q) := by
  have loop : ¬ (p = 2 ∧ q = 2) → ∃ n, wX_meeting_17 post (nI p) (nI q) a1 a2 a3 a4 a5 a6 n 0 0 := by
    intro hpq
    unfold td_MM at H
    rw [if_neg hpq] at H
    refine pk_loop (σ := Unit) (fun n i _ => wX_meeting_17 post (nI p) (nI q) a1 a2 a3 a4 a5 a6 n (nI (td_mx (fun j => td_P k R p j &&& td_P k' R' q j) i)) (nI i)) (fun _ _ => True) 17 0 () (by omega) trivial ?_ ?_
    · intro n _ _
      exact pk_le 17 17 (fun _ => H) (fun z => absurd z (by omega))
    · intro n i _ hi _ hn
      refine pk_le 17 i (fun z => absurd z (by omega)) (fun _ => ?_)
      have l := hl i hi
      refine td_w_partOf (w := 0) (k := k) (R := R) (by omega) hp hi (by rw [Nat.mul_zero, Nat.zero_add]; exact l.1.1) (by rw [Nat.mul_zero, Nat.zero_add]; exact l.1.2) ?_
      refine td_w_partOf (w := 1) (k := k') (R := R') (by omega) hq hi l.2.1 l.2.2 (nm_e (td_w_dim hi ?_))
      have hm := td_mx_le (fun j => td_P k R p j &&& td_P k' R' q j) i
      have hd := td_dim_le (td_P k R p i &&& td_P k' R' q i) i
      have g := hn () trivial
      have e : td_mx (fun j => td_P k R p j &&& td_P k' R' q j) (i + 1) = if td_dim (td_P k R p i &&& td_P k' R' q i) i ≤ td_mx (fun j => td_P k R p j &&& td_P k' R' q j) i then td_mx (fun j => td_P k R p j &&& td_P k' R' q j) i else td_dim (td_P k R p i &&& td_P k' R' q i) i := rfl
      rw [e] at g
      refine pk_le (td_dim (td_P k R p i &&& td_P k' R' q i) i) (td_mx (fun j => td_P k R p j &&& td_P k' R' q j) i) (fun z => nm_r (nI_1 i) ?_) (fun z => nm_r (nI_1 i) ?_)
      · rw [if_pos z] at g; exact g
      · rw [if_neg (by omega)] at g; exact g
  unfold wpX_meeting
  dsimp only
  refine pk_eq p 2 (fun z => pk_eq q 2 (fun y => ?_) (fun y => loop (fun t => y t.2))) (fun z => loop (fun t => z t.1))
  unfold td_MM at H
  rw [if_pos ⟨z, y⟩] at H
  exact H
end
section
/-! walks: names, is, pairs -/
def td_OK (a1 a2 : Nat → Int32) : Prop := ∀ s, s < 12 → td_ok (a1 s) (td_sh a2 s)
theorem td_laid_of {k k' : Int32} {R R' : Nat → Int32} {a3 a4 s3 s4 t3 t4 : Nat → Int32} (h : td_L k R 0 17 a3 a4 s3 s4) (g : td_L k' R' 1 17 s3 s4 t3 t4) : td_laid k R k' R' t3 t4 := by
  intro j hj
  refine ⟨?_, g.1 j hj⟩
  have e := g.2 j (by omega)
  have e2 := h.1 j hj
  rw [Nat.mul_zero, Nat.zero_add] at e2
  rw [e.1, e.2]
  exact e2
theorem td_w_same {post : Int32 → Prop} {a1 a2 a3 a4 a5 a6 : Nat → Int32} {k k' : Int32} {R R' : Nat → Int32} (hl : td_laid k R k' R' a3 a4) (H1 : td_same k R k' R' → post 1) (H0 : ¬ td_same k R k' R' → post 0) : wpX_sameBodies post (a1, a2, a3, a4, a5, a6) := by
  unfold wpX_sameBodies
  dsimp only
  refine pk_loop (σ := Unit) (fun n i _ => wX_sameBodies_2 post a1 a2 a3 a4 a5 a6 n (nI i)) (fun i _ => ∀ j, j < i → td_bd k R j = td_bd k' R' j) 17 0 () (by omega) (fun j hj => absurd hj (by omega)) ?_ ?_
  · intro n _ h
    exact pk_le 17 17 (fun _ => H1 h) (fun z => absurd z (by omega))
  · intro n i _ hi h hn
    refine pk_le 17 i (fun z => absurd z (by omega)) (fun _ => ?_)
    have l := hl i hi
    refine td_w_body (by omega) ?_
    rw [show (17 : Int32) + nI i = nI (17 + i) from nI_add 17 i]
    refine td_w_body (by omega) ?_
    rw [l.1.1, l.1.2, l.2.1, l.2.2]
    refine br_c (fun e => nm_r (nI_1 i) (hn () ?_)) (fun e => H0 (fun g => e (g i hi)))
    intro j hj
    rcases Nat.lt_or_ge j i with z | z
    · exact h j z
    · rw [show j = i by omega]; exact e
theorem td_w_bodiesMeet {post : Int32 → Prop} {a1 a2 a3 a4 a5 a6 : Nat → Int32} {k k' : Int32} {R R' : Nat → Int32} (hl : td_laid k R k' R' a3 a4) (H1 : td_meet k R k' R' → post 1) (H0 : ¬ td_meet k R k' R' → post 0) : wpX_bodiesMeet post (a1, a2, a3, a4, a5, a6) := by
  unfold wpX_bodiesMeet
  dsimp only
  refine td_w_meeting (p := 0) (q := 0) hl (by omega) (by omega) (td_w_meeting (p := 0) (q := 1) hl (by omega) (by omega) (td_w_meeting (p := 1) (q := 0) hl (by omega) (by omega) (td_w_meeting (p := 1) (q := 1) hl (by omega) (by omega) (nm_e ?_))))
  have e : ((nI (td_MM k R k' R' 0 0) ||| nI (td_MM k R k' R' 0 1)) ||| nI (td_MM k R k' R' 1 0)) ||| nI (td_MM k R k' R' 1 1) = 0 ↔ ¬ td_meet k R k' R' := by
    rw [← td_meet_MM, td_or0, td_or0, td_or0, td_nI0 (td_MM_le ..), td_nI0 (td_MM_le ..), td_nI0 (td_MM_le ..), td_nI0 (td_MM_le ..)]
    exact ⟨fun h => ⟨h.1.1.1, h.1.1.2, h.1.2, h.2⟩, fun h => ⟨⟨⟨h.1, h.2.1⟩, h.2.2.1⟩, h.2.2.2⟩⟩
  refine br_c (fun z => H0 (e.mp z)) (fun z => H1 (Classical.byContradiction (fun y => z (e.mpr y))))
theorem td_w_second {post : Int32 → Prop} {a1 a2 a3 a4 a5 a6 : Nat → Int32} {k k' : Int32} {R R' : Nat → Int32} (hl : td_laid k R k' R' a3 a4) (hok : td_ok k' R') (hk : ¬ k' = 0) (H1 : td_sub k' R' k R → post 1) (H0 : ¬ td_sub k' R' k R → post 0) : wpX_secondInFirst post (a1, a2, a3, a4, a5, a6) := by
  unfold wpX_secondInFirst
  dsimp only
  refine td_w_meeting (p := 2) (q := 0) hl (by omega) (by omega) (td_w_meeting (p := 2) (q := 1) hl (by omega) (by omega) (nm_e ?_))
  have e : nI (td_MM k R k' R' 2 0) ||| nI (td_MM k R k' R' 2 1) = 0 ↔ td_sub k' R' k R := by
    rw [← td_sub_MM hok hk, td_or0, td_nI0 (td_MM_le ..), td_nI0 (td_MM_le ..)]
  exact br_c (fun z => H1 (e.mp z)) (fun z => H0 (fun y => z (e.mpr y)))
theorem td_w_first {post : Int32 → Prop} {a1 a2 a3 a4 a5 a6 : Nat → Int32} {k k' : Int32} {R R' : Nat → Int32} (hl : td_laid k R k' R' a3 a4) (H1 : post 1) (H0 : post 0) : wpX_firstInSecond post (a1, a2, a3, a4, a5, a6) := by
  unfold wpX_firstInSecond
  dsimp only
  exact td_w_meeting (p := 0) (q := 2) hl (by omega) (by omega) (td_w_meeting (p := 1) (q := 2) hl (by omega) (by omega) (nm_e (br_c (fun _ => H1) (fun _ => H0))))
theorem td_w_holds {post : Int32 → Prop} {a1 a2 a3 a4 a5 a6 : Nat → Int32} {k k' x y : Int32} {R R' : Nat → Int32} {m : Nat} (hm : m ≤ 6) (hl : td_laid k R k' R' a3 a4) (hok : td_ok k' R') (hk : ¬ k' = 0) (hx : ¬ x = 0) (H : ∀ r, td_nm k R k' R' m r → post r) : wpX_holds post (a1, a2, a3, a4, a5, a6) (nI m) x y := by
  have inner : ¬ td_meet k R k' R' → nI (td_MM k R k' R' 0 0) = 0 := fun h => by rw [(td_meet_MM.mpr h).1]; rfl
  have hsub : td_sub k' R' k R → td_meet k R k' R' := fun h => td_sub_meet hok hk h
  have n10 : ¬ (1 : Int32) = 0 := by decide
  have n01 : ¬ (0 : Int32) = 1 := by decide
  have z0 : ¬ m = 0 → ¬ m = 1 → ¬ m = 4 → post 0 := fun e0 e1 e4 => H 0 ⟨Or.inl rfl, fun e => absurd e e0, fun e => absurd e e1, fun e => absurd e e4, fun _ _ => rfl⟩
  have z1 : ¬ m = 0 → ¬ m = 1 → ¬ m = 4 → td_meet k R k' R' → post 1 := fun e0 e1 e4 g => H 1 ⟨Or.inr rfl, fun e => absurd e e0, fun e => absurd e e1, fun e => absurd e e4, fun _ h => absurd g h⟩
  have meet : ¬ nI (td_MM k R k' R' 0 0) = 0 → td_meet k R k' R' := fun h => Classical.byContradiction (fun g => h (inner g))
  unfold wpX_holds
  dsimp only
  refine td_w_meeting (p := 0) (q := 0) hl (by omega) (by omega) (pk_lt m 0 (fun z => absurd z (by omega)) (fun _ => pk_lt 5 m (fun z => ?_) (fun z => pk_eq m 0 (fun e0 => ?_) (fun e0 => pk_eq m 1 (fun e1 => ?_) (fun e1 => pk_eq m 2 (fun e2 => ?_) (fun e2 => pk_eq m 3 (fun e3 => ?_) (fun e3 => pk_eq m 4 (fun e4 => ?_) (fun e4 => pk_eq m 5 (fun e5 => ?_) (fun _ => trivial)))))))))
  · have f0 := z0 (by omega) (by omega) (by omega)
    refine td_w_meeting (p := 0) (q := 2) hl (by omega) (by omega) (td_w_meeting (p := 2) (q := 0) hl (by omega) (by omega) (br_c (fun _ => br_c (fun e => br_c (fun _ => f0) (fun _ => br_c (fun _ => f0) (fun _ => ?_))) (fun _ => f0)) (fun _ => f0)))
    exact z1 (by omega) (by omega) (by omega) (meet (fun h => hx (e.symm.trans h)))
  · refine td_w_same hl (fun g => ⟨rfl, H 1 ⟨Or.inr rfl, fun _ => ⟨fun _ => g, fun _ => rfl⟩, fun e => absurd e (by omega), fun e => absurd e (by omega), fun _ h => absurd (hsub (td_same_iff.mp g).2) h⟩⟩) (fun g => ⟨rfl, H 0 ⟨Or.inl rfl, fun _ => ⟨fun e => absurd e n01, fun e => absurd e g⟩, fun e => absurd e (by omega), fun e => absurd e (by omega), fun _ _ => rfl⟩⟩)
  · refine td_w_bodiesMeet hl (fun g => br_f n10 (H 0 ⟨Or.inl rfl, fun e => absurd e (by omega), fun _ => ⟨fun e => absurd e n01, fun e => absurd g e⟩, fun e => absurd e (by omega), fun _ _ => rfl⟩)) (fun g => br_t rfl (H 1 ⟨Or.inr rfl, fun e => absurd e (by omega), fun _ => ⟨fun _ => g, fun _ => rfl⟩, fun e => absurd e (by omega), fun e => absurd e1 e⟩))
  · have f0 := z0 (by omega) (by omega) (by omega)
    exact br_c (fun _ => td_w_bodiesMeet hl (fun g => br_f n10 (z1 (by omega) (by omega) (by omega) g)) (fun g => br_t rfl f0)) (fun _ => f0)
  · have f0 := z0 (by omega) (by omega) (by omega)
    exact br_c (fun _ => f0) (fun g => td_w_first hl (br_f n10 (z1 (by omega) (by omega) (by omega) (meet g))) (br_t rfl f0))
  · refine td_w_second hl hok hk (fun g => ⟨rfl, H 1 ⟨Or.inr rfl, fun e => absurd e (by omega), fun e => absurd e (by omega), fun _ => ⟨fun _ => g, fun _ => rfl⟩, fun _ h => absurd (hsub g) h⟩⟩) (fun g => ⟨rfl, H 0 ⟨Or.inl rfl, fun e => absurd e (by omega), fun e => absurd e (by omega), fun _ => ⟨fun e => absurd e n01, fun e => absurd e g⟩, fun _ _ => rfl⟩⟩)
  · have f0 := z0 (by omega) (by omega) (by omega)
    have key : ∀ r : Int32, wpX_meeting (fun r_35 => (((nI (td_MM k R k' R' 0 0)) = 0 → (post 0)) ∧ (¬ (nI (td_MM k R k' R' 0 0)) = 0 → (((r ≤ (nI (td_MM k R k' R' 0 0)) → (post 0)) ∧ (¬ r ≤ (nI (td_MM k R k' R' 0 0)) → (((r_35 = 0 → (post 0)) ∧ (¬ r_35 = 0 → (post 1)))))))))) (a1, a2, a3, a4, a5, a6) 0 2 := fun r => td_w_meeting (p := 0) (q := 2) hl (by omega) (by omega) (br_c (fun _ => f0) (fun g => br_c (fun _ => f0) (fun _ => br_c (fun _ => f0) (fun _ => z1 (by omega) (by omega) (by omega) (meet g)))))
    exact br_c (fun _ => key y) (fun _ => key x)
theorem td_w_is {post : Int32 → St1 → Prop} {a1 a2 a3 a4 a5 a6 : Nat → Int32} {s o m : Nat} (hs : s < 12) (ho : o < 12) (hm : m ≤ 6) (hOK : td_OK a1 a2) (H : ∀ r s3 s4, (¬ a1 s = 0 → ¬ a1 o = 0 → td_nm (a1 s) (td_sh a2 s) (a1 o) (td_sh a2 o) m r) → post r (a1, a2, s3, s4, a5, a6)) : wpX_is post (a1, a2, a3, a4, a5, a6) (nI s) (nI o) (nI m) := by
  unfold wpX_is
  dsimp only
  refine td_w_pairRefusal hs ho (fun e1 e2 => br_t rfl (pk_lt m 0 (fun z => absurd z (by omega)) (fun _ => pk_le m 6 (fun _ => ?_) (fun z => absurd z (by omega))))) (fun e => br_f (by decide) (H _ _ _ (fun g1 g2 => by rcases e with e | e; exact absurd e g1; exact absurd e g2)))
  refine td_w_lay (w := 0) hs (by omega) (fun s3 s4 h => td_w_lay (w := 1) ho (by omega) (fun t3 t4 g => ?_))
  have hl := td_laid_of h g
  refine ⟨pk_in s 12 hs, pk_in o 12 ho, ?_⟩
  rw [nI_clamp (show s < 2 ^ 31 by omega), nI_clamp (show o < 2 ^ 31 by omega)]
  refine td_w_holds hm hl (hOK o ho) e2 e1 (fun r hr => ?_)
  exact br_c (fun e => by subst e; exact H _ _ _ (fun _ _ => hr)) (fun e => by
    rcases hr.1 with e' | e'
    · exact absurd e' e
    · subst e'; exact H _ _ _ (fun _ _ => hr))
theorem td_w_pairs {post : Int32 → St1 → Prop} {a1 a2 a3 a4 a5 a6 : Nat → Int32} (hOK : td_OK a1 a2) (H : ∀ n s3 s4, n ≤ 144 → post (nI n) (a1, a2, s3, s4, a5, a6)) : wpX_pairs post (a1, a2, a3, a4, a5, a6) 0 := by
  unfold wpX_pairs
  dsimp only
  refine pk_lt 0 0 (fun z => absurd z (by omega)) (fun _ => pk_le 0 6 (fun _ => ?_) (fun z => absurd z (by omega)))
  refine pk_loop (fun n i (u : Nat × (Nat → Int32) × (Nat → Int32)) => wX_pairs_17 post 0 n (nI u.1) (nI i) a1 a2 u.2.1 u.2.2 a5 a6) (fun i u => u.1 ≤ i) 144 0 (0, a3, a4) (by omega) (Nat.le_refl 0) ?_ ?_
  · intro n u h
    exact pk_le 144 144 (fun _ => H _ _ _ h) (fun z => absurd z (by omega))
  · intro n i u hi h hn
    obtain ⟨c, s3, s4⟩ := u
    dsimp only at h hn
    refine pk_le 144 i (fun z => absurd z (by omega)) (fun _ => ⟨by decide, nm_r (e' := nI (i / 12)) (pk_div (d := 12) (by omega) (by decide) (by decide)) ⟨by decide, nm_r (e' := nI (i % 12)) (pk_rem (d := 12) (by omega) (by decide) (by decide)) ?_⟩⟩)
    refine pk_eq (i / 12) (i % 12) (fun _ => nm_r (nI_1 i) (hn (c, s3, s4) (by dsimp only; omega))) (fun _ => ?_)
    refine td_w_is (m := 0) (by omega) (by omega) (by omega) hOK (fun r t3 t4 _ => ?_)
    refine br_c (fun _ => nm_r (nI_1 c) (nm_r (nI_1 i) (hn (c + 1, t3, t4) (by dsimp only; omega)))) (fun _ => nm_r (e' := nI c) (nI_add c 0) (nm_r (nI_1 i) (hn (c, t3, t4) (by dsimp only; omega))))
end
section
/-! walks: relate, turned, apart, named -/
def td_fold (f : Nat → Nat) : Nat → Nat
  | 0 => 0
  | n + 1 => 4 * td_fold f n + f n
theorem td_fold_lt {f : Nat → Nat} (hf : ∀ c, f c ≤ 3) (n : Nat) : td_fold f n < 4 ^ n := by
  induction n with
  | zero => exact Nat.one_pos
  | succ n ih =>
    show 4 * td_fold f n + f n < 4 ^ (n + 1)
    have := hf n
    rw [Nat.pow_succ]
    omega
theorem td_w_relate {post : Int32 → St1 → Prop} {a1 a2 a3 a4 a5 a6 : Nat → Int32} {s o : Nat} (hs : s < 12) (ho : o < 12) (e1 : ¬ a1 s = 0) (e2 : ¬ a1 o = 0) (H : ∀ s3 s4, post (nI (td_fold (fun c => td_MM (a1 s) (td_sh a2 s) (a1 o) (td_sh a2 o) (c / 3) (c % 3)) 9)) (a1, a2, s3, s4, a5, a6)) : wpX_relate post (a1, a2, a3, a4, a5, a6) (nI s) (nI o) := by
  unfold wpX_relate
  dsimp only
  refine td_w_pairRefusal hs ho (fun _ _ => br_t rfl ?_) (fun e => by rcases e with e | e; exact absurd e e1; exact absurd e e2)
  refine td_w_lay (w := 0) hs (by omega) (fun s3 s4 h => td_w_lay (w := 1) ho (by omega) (fun t3 t4 g => ?_))
  have hl := td_laid_of h g
  refine pk_loop (σ := Unit) (fun n i _ => wX_relate_31 post a1 a2 t3 t4 a5 a6 n (nI (td_fold (fun c => td_MM (a1 s) (td_sh a2 s) (a1 o) (td_sh a2 o) (c / 3) (c % 3)) i)) (nI i)) (fun _ _ => True) 9 0 () (by omega) trivial ?_ ?_
  · intro n _ _
    exact pk_le 9 9 (fun _ => H _ _) (fun z => absurd z (by omega))
  · intro n i _ hi _ hn
    refine pk_le 9 i (fun z => absurd z (by omega)) (fun _ => ⟨by decide, by decide, ?_⟩)
    rw [show nI i / 3 = nI (i / 3) from pk_div (d := 3) (by omega) (by decide) (by decide), show nI i - nI (i / 3) * 3 = nI (i % 3) from by
      have := pk_rem (a := i) (d := 3) (by omega) (by decide) (by decide)
      rw [show nI i / nI 3 = nI (i / 3) from pk_div (d := 3) (by omega) (by decide) (by decide)] at this
      exact this]
    refine td_w_meeting hl (by omega) (by omega) (nm_r (e' := nI (td_fold (fun c => td_MM (a1 s) (td_sh a2 s) (a1 o) (td_sh a2 o) (c / 3) (c % 3)) (i + 1))) ?_ (nm_r (nI_1 i) (hn () trivial)))
    show nI 4 * nI _ + nI _ = nI (4 * _ + _)
    rw [pk_mul, nI_add]
theorem td_digit {f : Nat → Nat} (hf : ∀ c, f c ≤ 3) : ∀ p, p < 9 → td_fold f 9 / 2 ^ (2 * (8 - p)) % 2 ^ 2 = f p := by
  intro p hp
  have h0 := hf 0
  have h1 := hf 1
  have h2 := hf 2
  have h3 := hf 3
  have h4 := hf 4
  have h5 := hf 5
  have h6 := hf 6
  have h7 := hf 7
  have h8 := hf 8
  have e : td_fold f 9 = 4 * (4 * (4 * (4 * (4 * (4 * (4 * (4 * (4 * 0 + f 0) + f 1) + f 2) + f 3) + f 4) + f 5) + f 6) + f 7) + f 8 := rfl
  rw [e]
  rcases (show p = 0 ∨ p = 1 ∨ p = 2 ∨ p = 3 ∨ p = 4 ∨ p = 5 ∨ p = 6 ∨ p = 7 ∨ p = 8 by omega) with rfl | rfl | rfl | rfl | rfl | rfl | rfl | rfl | rfl
  · show _ / 65536 % 4 = _
    omega
  · show _ / 16384 % 4 = _
    omega
  · show _ / 4096 % 4 = _
    omega
  · show _ / 1024 % 4 = _
    omega
  · show _ / 256 % 4 = _
    omega
  · show _ / 64 % 4 = _
    omega
  · show _ / 16 % 4 = _
    omega
  · show _ / 4 % 4 = _
    omega
  · show _ / 1 % 4 = _
    omega
theorem td_dig {f : Nat → Nat} (hf : ∀ c, f c ≤ 3) {p : Nat} (hp : p < 9) : (nI (td_fold f 9) >>> ((2 * (8 - nI p)) &&& 31)) &&& 3 = nI (f p) := by
  have hlt : td_fold f 9 < 262144 := td_fold_lt hf 9
  rw [show (8 : Int32) - nI p = nI (8 - p) from pk_sub (a := 8) (by omega), td_mul2, pk_shrN (by omega) _ (2 * (8 - p)) (td_sl _ (by omega))]
  have hd : td_fold f 9 / 2 ^ (2 * (8 - p)) ≤ td_fold f 9 := Nat.div_le_self _ _
  rw [pk_andN (by omega) 2 (by decide), td_digit hf p hp]
theorem td_w_turned {post : Int32 → Prop} {u : St2} {f g : Nat → Nat} (hf : ∀ c, f c ≤ 3) (hg : ∀ c, g c ≤ 3) (hfg : ∀ p, p < 9 → f p = g (p % 3 * 3 + p / 3)) (H : post 1) : wpL_turned post u (nI (td_fold f 9)) (nI (td_fold g 9)) := by
  have l1 : td_fold f 9 < 262144 := td_fold_lt hf 9
  have l2 : td_fold g 9 < 262144 := td_fold_lt hg 9
  unfold wpL_turned
  refine pk_loop (σ := Unit) (fun n i _ => wL_turned_2 post (nI (td_fold f 9)) (nI (td_fold g 9)) n (nI i)) (fun _ _ => True) 9 0 () (by omega) trivial ?_ ?_
  · intro n _ _
    exact pk_le 9 9 (fun _ => pk_lt (td_fold f 9) 0 (fun z => absurd z (by omega)) (fun _ => pk_lt (td_fold g 9) 0 (fun z => absurd z (by omega)) (fun _ => H))) (fun z => absurd z (by omega))
  · intro n i _ hi _ hn
    have e3 : nI i / 3 = nI (i / 3) := pk_div (d := 3) (by omega) (by decide) (by decide)
    have e4 : nI i - nI i / 3 * 3 = nI (i % 3) := pk_rem (a := i) (d := 3) (by omega) (by decide) (by decide)
    refine pk_le 9 i (fun z => absurd z (by omega)) (fun _ => ⟨by decide, by decide, nm_r (e' := nI (i % 3 * 3 + i / 3)) ?_ ?_⟩)
    · rw [e4, e3]
      show nI _ * nI 3 + nI _ = _
      rw [pk_mul, nI_add]
    · rw [td_dig hf hi, td_dig hg (show i % 3 * 3 + i / 3 < 9 by omega)]
      exact br_t (by rw [hfg i hi]) (nm_r (nI_1 i) (hn () trivial))
def td_vm (k : Int32) (R : Nat → Int32) (k' : Int32) (R' : Nat → Int32) : Prop := ∃ j, j < 17 ∧ j % 2 = 0 ∧ ¬ (((td_bd k R j &&& 87381) &&& 87381) &&& td_bd k' R' j) = 0
theorem td_orS (x : Int32) : x ||| x = x := td_ext (fun i _ => by rw [td_or, Bool.or_self])
theorem td_w_shifted {post : Int32 → Prop} {a1 a2 a3 a4 a5 a6 : Nat → Int32} {k k' : Int32} {R R' : Nat → Int32} {u v : Nat} (hu : u ≤ 8) (hv : v ≤ 8) (hl : td_laid k R k' R' a3 a4) (H0 : (u = 0 → v = 0 → ¬ td_vm k R k' R') → post 0) (H1 : (u = 0 → v = 0 → td_vm k R k' R') → post 1) : wpX_shiftedMeet post (a1, a2, a3, a4, a5, a6) (nI u) (nI v) := by
  unfold wpX_shiftedMeet
  dsimp only
  refine pk_loop (σ := Unit) (fun n i _ => wX_shiftedMeet_2 post (nI u) (nI v) a1 a2 a3 a4 a5 a6 n (nI (2 * i))) (fun i _ => u = 0 → v = 0 → ∀ j, j < 2 * i → j % 2 = 0 → (((td_bd k R j &&& 87381) &&& 87381) &&& td_bd k' R' j) = 0) 9 0 () (by omega) (fun _ _ j hj => absurd hj (by omega)) ?_ ?_
  · intro n _ h
    refine pk_le 17 (2 * 9) (fun _ => H0 (fun e1 e2 => ?_)) (fun z => absurd z (by omega))
    rintro ⟨j, hj, hj2, hn⟩
    exact hn (h e1 e2 j (by omega) hj2)
  · intro n i _ hi h hn
    have step : ∀ x5 x6 z0 : Int32, (u = 0 → v = 0 → (x5 &&& 87381) &&& (x6 ||| z0) = ((td_bd k R (2 * i) &&& 87381) &&& 87381) &&& td_bd k' R' (2 * i)) → wX_shiftedMeet_85 post (wX_shiftedMeet_2 post (nI u) (nI v) a1 a2 a3 a4 a5 a6 n) (nI u) (nI v) (nI (2 * i)) x5 x6 z0 a1 a2 a3 a4 a5 a6 := by
      intro x5 x6 z0 he
      unfold wX_shiftedMeet_85
      refine br_c (fun e => nm_r (e' := nI (2 * (i + 1))) (nI_add (2 * i) 2) (hn () ?_)) (fun e => H1 (fun e1 e2 => ⟨2 * i, by omega, by omega, by rw [← he e1 e2]; exact e⟩))
      intro e1 e2 j hj hj2
      rcases Nat.lt_or_ge j (2 * i) with z | z
      · exact h e1 e2 j z hj2
      · rw [show j = 2 * i by omega, ← he e1 e2]; exact e
    have step2 : ∀ x5 x6 : Int32, (u = 0 → v = 0 → x5 = td_bd k R (2 * i) &&& 87381) → (u = 0 → v = 0 → x6 = td_bd k' R' (2 * i)) → wX_shiftedMeet_59 post (wX_shiftedMeet_2 post (nI u) (nI v) a1 a2 a3 a4 a5 a6 n) (nI u) (nI v) (nI (2 * i)) x5 x6 a1 a2 a3 a4 a5 a6 := by
      intro x5 x6 h5 h6
      unfold wX_shiftedMeet_59
      rw [td_mul2]
      rcases Nat.lt_or_ge (2 * i) (2 * v) with z | z
      · exact br_t (pk_sneg (by omega) z) (step _ _ _ (fun _ e2 => absurd e2 (by omega)))
      · rw [pk_sub z, show (17 : Int32) + nI (2 * i) = nI (17 + 2 * i) from nI_add 17 _, pk_sub (show 2 * v ≤ 17 + 2 * i by omega)]
        refine br_f (nI_pos (by omega)) (td_w_body (by omega) (step _ _ _ (fun e1 e2 => ?_)))
        have l := hl (2 * i) (by omega)
        rw [show 17 + 2 * i - 2 * v = 17 + 2 * i by omega, l.2.1, l.2.2, h5 e1 e2, h6 e1 e2]
        show _ &&& (td_bd k' R' (2 * i) ||| td_bd k' R' (2 * i)) = _
        rw [td_orS]
    refine pk_le 17 (2 * i) (fun z => absurd z (by omega)) (fun _ => ?_)
    refine td_w_body (by omega) (nm_e (nm_e ?_))
    have l := hl (2 * i) (by omega)
    have h5 : u = 0 → v = 0 → (((a3 (2 * i) ||| a4 (2 * i)) &&& 87381) <<< ((2 * nI u) &&& 31)) ||| (((a3 (2 * i) ||| a4 (2 * i)) &&& 87381) >>> ((2 * nI u) &&& 31)) = td_bd k R (2 * i) &&& 87381 := by
      intro e1 _
      rw [e1, show (2 : Int32) * nI 0 = 0 from rfl, sb_shl0, sb_shr0, td_orS, l.1.1, l.1.2]
      rfl
    rw [show nI (2 * i) + 2 * nI v = nI (2 * i + 2 * v) from by rw [td_mul2, nI_add]]
    refine pk_le 17 (2 * i + 2 * v) (fun z => step2 _ _ h5 (fun _ e2 => absurd e2 (by omega))) (fun z => ?_)
    rw [show (17 : Int32) + nI (2 * i) + 2 * nI v = nI (17 + 2 * i + 2 * v) from by rw [td_mul2, show (17 : Int32) + nI (2 * i) = nI (17 + 2 * i) from nI_add 17 _, nI_add]]
    refine td_w_body (by omega) (step2 _ _ h5 (fun _ e2 => ?_))
    rw [show 17 + 2 * i + 2 * v = 17 + 2 * i by omega, l.2.1, l.2.2]
    rfl
def td_J (k : Int32) (R : Nat → Int32) (k' : Int32) (R' : Nat → Int32) (u v b : Nat) : Prop := b ≤ 1000 ∧ (u = 0 ∧ v = 0 → b = 1000) ∧ (¬ (u = 0 ∧ v = 0) → (b = 0 ↔ td_vm k R k' R'))
theorem td_w_least {post : Int32 → Prop} {a1 a2 a3 a4 a5 a6 : Nat → Int32} {k k' : Int32} {R R' : Nat → Int32} (hl : td_laid k R k' R' a3 a4) (H : ∀ b : Nat, b ≤ 1000 → (b = 0 ↔ td_vm k R k' R') → post (nI b)) : wpX_leastSquare post (a1, a2, a3, a4, a5, a6) := by
  unfold wpX_leastSquare
  dsimp only
  refine pk_loop (fun n i (b : Nat) => wX_leastSquare_6 post a1 a2 a3 a4 a5 a6 n (nI b) (nI i)) (fun i b => td_J k R k' R' i 0 b) 9 0 1000 (by omega) ⟨by omega, fun _ => rfl, fun z => absurd ⟨rfl, rfl⟩ z⟩ ?_ ?_
  · intro n b h
    exact pk_lt 8 9 (fun _ => H b h.1 (h.2.2 (by omega))) (fun z => absurd z (by omega))
  · intro n u b hu h hn
    refine pk_lt 8 u (fun z => absurd z (by omega)) (fun _ => ?_)
    refine pk_loop (fun m v (b : Nat) => wX_leastSquare_14 post (wX_leastSquare_6 post a1 a2 a3 a4 a5 a6 n) (nI u) a1 a2 a3 a4 a5 a6 m (nI b) (nI v)) (fun v b => td_J k R k' R' u v b) 9 0 b (by omega) h ?_ ?_
    · intro m b h
      exact pk_lt 8 9 (fun _ => nm_r (nI_1 u) (hn b ⟨h.1, fun z => absurd z.1 (by omega), fun _ => h.2.2 (by omega)⟩)) (fun z => absurd z (by omega))
    · intro m v b hv h hm
      have huu : u * u ≤ 64 := Nat.mul_le_mul (show u ≤ 8 by omega) (show u ≤ 8 by omega)
      have hvv : v * v ≤ 64 := Nat.mul_le_mul (show v ≤ 8 by omega) (show v ≤ 8 by omega)
      have hpos : ¬ (u = 0 ∧ v = 0) → 0 < u * u + v * v := by
        intro z
        rcases Nat.eq_zero_or_pos u with e | e
        · have : 0 < v * v := Nat.mul_pos (by omega) (by omega)
          omega
        · have : 0 < u * u := Nat.mul_pos e e
          omega
      have hzero : (u = 0 ∧ v = 0) → u * u + v * v = 0 := by
        rintro ⟨e1, e2⟩
        rw [e1, e2]
      obtain ⟨h1, h2, h3⟩ := h
      refine pk_lt 8 v (fun z => absurd z (by omega)) (fun _ => nm_r (e' := nI (u * u + v * v)) (by rw [pk_mul, pk_mul, nI_add]) ?_)
      refine pk_le b (u * u + v * v) (fun z => nm_r (nI_1 v) (hm b ⟨h1, fun y => absurd y.2 (by omega), fun _ => ?_⟩)) (fun z => ?_)
      · refine h3 (fun y => ?_)
        have := h2 y
        omega
      · refine td_w_shifted (by omega) (by omega) hl (fun g => br_t rfl (nm_r (nI_1 v) (hm b ⟨h1, fun y => absurd y.2 (by omega), fun _ => ?_⟩))) (fun g => br_f (by decide) (nm_r (nI_1 v) (hm (u * u + v * v) ⟨by omega, fun y => absurd y.2 (by omega), fun _ => ?_⟩)))
        · by_cases y : u = 0 ∧ v = 0
          · have := h2 y
            exact ⟨fun e => absurd e (by omega), fun e => absurd e (g y.1 y.2)⟩
          · exact h3 y
        · by_cases y : u = 0 ∧ v = 0
          · exact ⟨fun _ => g y.1 y.2, fun _ => hzero y⟩
          · have hp := hpos y
            exact ⟨fun e => absurd e (by omega), fun e => absurd ((h3 y).mpr e) (by omega)⟩
theorem td_w_apart {post : Int32 → St1 → Prop} {a1 a2 a3 a4 a5 a6 : Nat → Int32} {s o : Nat} (hs : s < 12) (ho : o < 12) (hOK : td_OK a1 a2) (e1 : ¬ a1 s = 0) (e2 : ¬ a1 o = 0) (H : ∀ r s3 s4, (r = 0 ↔ td_meet (a1 s) (td_sh a2 s) (a1 o) (td_sh a2 o)) → post r (a1, a2, s3, s4, a5, a6)) : wpX_apart post (a1, a2, a3, a4, a5, a6) (nI s) (nI o) := by
  unfold wpX_apart
  dsimp only
  refine td_w_pairRefusal hs ho (fun _ _ => br_t rfl ?_) (fun e => by rcases e with e | e; exact absurd e e1; exact absurd e e2)
  refine td_w_lay (w := 0) hs (by omega) (fun s3 s4 h => td_w_lay (w := 1) ho (by omega) (fun t3 t4 g => ?_))
  refine td_w_least (td_laid_of h g) (fun b hb hv => H _ _ _ ?_)
  rw [td_meet_vx (hOK s hs) e1 (hOK o ho) e2, ← nI_0, nI_eq (by omega) (by omega)]
  exact hv
theorem td_w_n123 {post : Int32 → St1 → Prop} {a1 a2 a3 a4 a5 a6 : Nat → Int32} {s o : Nat} {z : Int32} (hs : s < 12) (ho : o < 12) (hOK : td_OK a1 a2) (e1 : ¬ a1 s = 0) (e2 : ¬ a1 o = 0) (hz : (z = 1 ∧ td_same (a1 s) (td_sh a2 s) (a1 o) (td_sh a2 o)) ∨ (z = 0 ∧ ¬ td_same (a1 s) (td_sh a2 s) (a1 o) (td_sh a2 o))) (H : ∀ s3 s4, post 1 (a1, a2, s3, s4, a5, a6)) : wL_named_123 post (nI s) (nI o) z a1 a2 a3 a4 a5 a6 := by
  have fin : ∀ (z0 : Int32) (s3 s4 : Nat → Int32), z0 = z → wL_named_141 post (nI s) (nI o) z z0 a1 a2 s3 s4 a5 a6 := by
    intro z0 s3 s4 e
    unfold wL_named_141
    refine br_t e (td_w_is (m := 0) ho hs (by omega) hOK (fun r t3 t4 g => td_w_is (m := 0) hs ho (by omega) hOK (fun r' t3' t4' g' => ?_)))
    have n := g e2 e1
    have n' := g' e1 e2
    have q := n.2.1 rfl
    have q' := n'.2.1 rfl
    have er : r = r' := by
      by_cases y : td_same (a1 s) (td_sh a2 s) (a1 o) (td_sh a2 o)
      · rw [q.mpr (td_same_symm y), q'.mpr y]
      · have y' : ¬ td_same (a1 o) (td_sh a2 o) (a1 s) (td_sh a2 s) := fun t => y (td_same_symm t)
        rcases n.1 with f | f
        · rcases n'.1 with f' | f'
          · rw [f, f']
          · exact absurd (q'.mp f') y
        · exact absurd (q.mp f) y'
    exact br_t er (H _ _)
  unfold wL_named_123
  refine td_w_is (m := 0) hs ho (by omega) hOK (fun r t3 t4 g => ?_)
  have n := g e1 e2
  have q := n.2.1 rfl
  refine br_c (fun e => fin _ _ _ ?_) (fun e => fin _ _ _ ?_)
  · rcases hz with ⟨f, _⟩ | ⟨_, f⟩
    · exact f.symm
    · exact absurd (q.mp e) f
  · rcases hz with ⟨_, f⟩ | ⟨f, _⟩
    · exact absurd (q.mpr f) e
    · exact f.symm
theorem td_w_n91 {post : Int32 → St1 → Prop} {a1 a2 a3 a4 a5 a6 : Nat → Int32} {s o : Nat} {z z' : Int32} (hs : s < 12) (ho : o < 12) (hOK : td_OK a1 a2) (e1 : ¬ a1 s = 0) (e2 : ¬ a1 o = 0) (hz : z' = z) (H : ∀ s3 s4, post 1 (a1, a2, s3, s4, a5, a6)) : wL_named_91 post (nI s) (nI o) z z' a1 a2 a3 a4 a5 a6 := by
  unfold wL_named_91
  refine br_t hz (td_w_is (m := 4) hs ho (by omega) hOK (fun r t3 t4 g => ?_))
  have q := (g e1 e2).2.2.2.1 rfl
  refine br_c (fun e => td_w_is (m := 4) ho hs (by omega) hOK (fun r' t3' t4' g' => ?_)) (fun e => td_w_n123 hs ho hOK e1 e2 (Or.inr ⟨rfl, fun y => e (q.mpr (td_same_iff.mp y).2)⟩) H)
  have q' := (g' e2 e1).2.2.2.1 rfl
  exact br_c (fun e' => td_w_n123 hs ho hOK e1 e2 (Or.inl ⟨rfl, td_same_iff.mpr ⟨q'.mp e', q.mp e⟩⟩) H) (fun e' => td_w_n123 hs ho hOK e1 e2 (Or.inr ⟨rfl, fun y => e' (q'.mpr (td_same_iff.mp y).1)⟩) H)
theorem td_w_n68 {post : Int32 → St1 → Prop} {a1 a2 a3 a4 a5 a6 : Nat → Int32} {s o : Nat} {r1 : Int32} (hs : s < 12) (ho : o < 12) (hOK : td_OK a1 a2) (e1 : ¬ a1 s = 0) (e2 : ¬ a1 o = 0) (hr : r1 = 0 ↔ td_meet (a1 s) (td_sh a2 s) (a1 o) (td_sh a2 o)) (H : ∀ s3 s4, post 1 (a1, a2, s3, s4, a5, a6)) : wL_named_68 post (nI s) (nI o) r1 a1 a2 a3 a4 a5 a6 := by
  unfold wL_named_68
  refine td_w_apart hs ho hOK e1 e2 (fun r s3 s4 h => ?_)
  refine br_c (fun e => ?_) (fun e => ?_)
  · unfold wL_named_82
    exact br_t (hr.mpr (h.mp e)) (td_w_n91 hs ho hOK e1 e2 rfl H)
  · unfold wL_named_82
    exact br_f (fun y => e (h.mpr (hr.mp y))) (td_w_n91 hs ho hOK e1 e2 rfl H)
theorem td_w_named {post : Int32 → St1 → Prop} {a1 a2 a3 a4 a5 a6 : Nat → Int32} {s o : Nat} (hs : s < 12) (ho : o < 12) (hOK : td_OK a1 a2) (e1 : ¬ a1 s = 0) (e2 : ¬ a1 o = 0) (H : ∀ s3 s4, post 1 (a1, a2, s3, s4, a5, a6)) : wpL_named post (a1, a2, a3, a4, a5, a6) (nI s) (nI o) := by
  unfold wpL_named
  dsimp only
  refine td_w_is (m := 1) hs ho (by omega) hOK (fun r1 _ _ g1 => td_w_is (m := 0) hs ho (by omega) hOK (fun r0 _ _ g0 => td_w_is (m := 2) hs ho (by omega) hOK (fun r2 _ _ g2 => td_w_is (m := 3) hs ho (by omega) hOK (fun r3 _ _ g3 => td_w_is (m := 4) hs ho (by omega) hOK (fun r4 _ _ g4 => td_w_is (m := 5) hs ho (by omega) hOK (fun r5 _ _ g5 => td_w_is (m := 6) hs ho (by omega) hOK (fun r6 s3 s4 g6 => nm_e ?_)))))))
  have q := (g1 e1 e2).2.2.1 rfl
  have hr : r1 = 0 ↔ td_meet (a1 s) (td_sh a2 s) (a1 o) (td_sh a2 o) := by
    rcases (g1 e1 e2).1 with e | e
    · refine ⟨fun _ => Classical.byContradiction (fun y => ?_), fun _ => e⟩
      have := q.mpr y
      rw [e] at this
      exact absurd this (by decide)
    · refine ⟨fun y => ?_, fun y => absurd y (q.mp e)⟩
      rw [e] at y
      exact absurd y (by decide)
  have fin : wL_named_68 post (nI s) (nI o) r1 a1 a2 s3 s4 a5 a6 := td_w_n68 hs ho hOK e1 e2 hr H
  refine br_c (fun e => br_f ?_ fin) (fun _ => fin)
  have nm := q.mp e
  rw [(g0 e1 e2).2.2.2.2 (by omega) nm, (g2 e1 e2).2.2.2.2 (by omega) nm, (g3 e1 e2).2.2.2.2 (by omega) nm, (g4 e1 e2).2.2.2.2 (by omega) nm, (g5 e1 e2).2.2.2.2 (by omega) nm, (g6 e1 e2).2.2.2.2 (by omega) nm]
  decide
end
section
/-! walks: counting, clearing, drawing -/
theorem td_w_ones {post : Int32 → Prop} {u : St2} {x : Int32} (hx : td_17 x) (H : post (nI (td_pc x))) : wpX_ones post u x := by
  unfold wpX_ones
  refine pk_loop (fun n i (y : Int32) => wX_ones_6 post n (nI i) y (nI i)) (fun i y => td_17 y ∧ i + td_pc y = td_pc x) 17 0 x (by omega) ⟨hx, by omega⟩ ?_ ?_
  · intro n y h
    have := td_pc_le x
    have e : 17 = td_pc x := by omega
    refine pk_le 17 17 (fun _ => ?_) (fun z => absurd z (by omega))
    rw [← e] at H
    exact H
  · intro n i y hi h hn
    refine pk_le 17 i (fun z => absurd z (by omega)) (fun _ => br_c (fun e => ?_) (fun e => nm_e (nm_r (nI_1 i) (nm_r (nI_1 i) (hn _ ?_)))))
    · have e2 : td_pc y = 0 := (td_pc_0 h.1).mpr e
      have e3 : i = td_pc x := by omega
      rw [← e3] at H
      exact H
    · have d := td_pc_drop h.1 e
      exact ⟨d.1, by omega⟩
theorem td_w_count {post : Int32 → Prop} {a1 a2 a3 a4 a5 a6 : Nat → Int32} {s : Nat} (hs : s < 12) (h17 : ∀ j, j < 17 → td_17 (td_sh a2 s j)) (H : post (nI (td_gc (td_sh a2 s)))) : wpX_count post (a1, a2, a3, a4, a5, a6) (nI s) := by
  unfold wpX_count
  dsimp only
  refine pk_loop (σ := Unit) (fun n i _ => wX_count_4 post (nI s) a1 a2 a3 a4 a5 a6 n (nI (td_sum (fun j => td_pc (td_sh a2 s j)) i)) (nI i)) (fun _ _ => True) 17 0 () (by omega) trivial ?_ ?_
  · intro n _ _
    exact pk_le 17 17 (fun _ => H) (fun z => absurd z (by omega))
  · intro n i _ hi _ hn
    refine pk_le 17 i (fun z => absurd z (by omega)) (fun _ => ?_)
    rw [td_ix]
    refine ⟨vp_in_nI (by omega) (by omega), ?_⟩
    rw [nI_clamp (show 17 * s + i < 2 ^ 31 by omega)]
    have e : a2 (17 * s + i) = td_sh a2 s i := by unfold td_sh; rw [if_pos hi]
    rw [e]
    exact td_w_ones (h17 i hi) (nm_r (e' := nI (td_sum (fun j => td_pc (td_sh a2 s j)) (i + 1))) (nI_add _ _) (nm_r (nI_1 i) (hn () trivial)))
/-! slots -/
def td_fr (s : Nat) (a2 b : Nat → Int32) : Prop := ∀ t, t < 17 * s ∨ 17 * s + 17 ≤ t → b t = a2 t
theorem td_fr_sh {s o : Nat} {a2 b : Nat → Int32} (h : td_fr s a2 b) (ho : ¬ o = s) : td_sh b o = td_sh a2 o := by
  funext j
  unfold td_sh
  split
  · exact h _ (by omega)
  · rfl
theorem td_OK_upd {s : Nat} {a1 c1 a2 b : Nat → Int32} (hOK : td_OK a1 a2) (hfr : td_fr s a2 b) (h1 : ∀ o, ¬ o = s → c1 o = a1 o) (hs : td_ok (c1 s) (td_sh b s)) : td_OK c1 b := by
  intro o ho
  by_cases e : o = s
  · rw [e]; exact hs
  · rw [h1 o e, td_fr_sh hfr e]; exact hOK o ho
theorem td_fit_sub {k : Int32} {R Q : Nat → Int32} (h : td_fit k R) (g : ∀ j i, td_b (Q j) i = true → td_b (R j) i = true) : td_fit k Q := fun j i hb => h j i (g j i hb)
theorem td_fit_up {k k' : Int32} {R : Nat → Int32} (h : td_fit k R) (hk : k = 0 ∨ k = k') : td_fit k' R := by
  rcases hk with e | e
  · intro j i hb
    rw [e] at h
    rw [td_fit0 h j, td_0] at hb
    exact absurd hb (by decide)
  · rw [← e]; exact h
theorem td_sh_lt {a2 : Nat → Int32} {s j i : Nat} (h : td_b (td_sh a2 s j) i = true) : j < 17 := by
  unfold td_sh at h
  split at h
  · assumption
  · rw [td_0] at h; exact absurd h (by decide)
theorem td_sh_in {a2 : Nat → Int32} {s j : Nat} (h : j < 17) : td_sh a2 s j = a2 (17 * s + j) := if_pos h
theorem td_w_clear {post : Int32 → St1 → Prop} {a1 a2 a3 a4 a5 a6 : Nat → Int32} {s : Nat} (hs : s < 12) (hOK : td_OK a1 a2) (H : ∀ r b, td_fr s a2 b → (∀ j, td_sh b s j = 0) → td_OK (upd a1 s 0) b → post r (upd a1 s 0, b, a3, a4, a5, a6)) : wpX_clear post (a1, a2, a3, a4, a5, a6) (nI s) := by
  unfold wpX_clear
  dsimp only
  refine td_w_isSlot hs (br_f (by decide) ⟨pk_in s 12 hs, nm_e ?_⟩)
  unfold wpX_empty
  dsimp only
  refine ⟨pk_in s 12 hs, nm_e ?_⟩
  rw [nI_clamp (show s < 2 ^ 31 by omega)]
  refine pk_loop (fun n i (b : Nat → Int32) => wX_empty_9 _ (nI s) n (nI i) (upd a1 s 0) b a3 a4 a5 a6) (fun i b => td_fr s a2 b ∧ ∀ j, j < i → b (17 * s + j) = 0) 17 0 a2 (by omega) ⟨fun _ _ => rfl, fun j hj => absurd hj (by omega)⟩ ?_ ?_
  · intro n b h
    have z : ∀ j, td_sh b s j = 0 := by
      intro j
      unfold td_sh
      split
      · exact h.2 j (by assumption)
      · rfl
    refine pk_le 17 17 (fun _ => H _ b h.1 z (td_OK_upd hOK h.1 (fun o ho => pk_un ho) ?_)) (fun z => absurd z (by omega))
    rw [pk_us]
    refine ⟨fun j i hb => ?_, Or.inl rfl⟩
    rw [z j, td_0] at hb
    exact absurd hb (by decide)
  · intro n i b hi h hn
    refine pk_le 17 i (fun z => absurd z (by omega)) (fun _ => ?_)
    rw [td_ix]
    refine ⟨vp_in_nI (by omega) (by omega), nm_e (nm_r (nI_1 i) ?_)⟩
    rw [nI_clamp (show 17 * s + i < 2 ^ 31 by omega)]
    refine hn _ ⟨fun t ht => ?_, fun j hj => ?_⟩
    · rw [pk_un (by omega)]; exact h.1 t ht
    · by_cases e : j = i
      · rw [e, pk_us]
      · rw [pk_un (by omega)]; exact h.2 j (by omega)
/-! stripes: the odd rows lo .. hi - 1 of a slot are changed -/
def td_str (s : Nat) (op : Int32 → Int32) (lo hi : Nat) (a2 b : Nat → Int32) : Prop := td_fr s a2 b ∧ ∀ j, j < 17 → td_sh b s j = if j % 2 = 1 ∧ lo ≤ j ∧ j < hi then op (td_sh a2 s j) else td_sh a2 s j
theorem td_str_0 (s : Nat) (op : Int32 → Int32) (lo : Nat) (a2 : Nat → Int32) : td_str s op lo lo a2 a2 := by
  refine ⟨fun _ _ => rfl, fun j hj => ?_⟩
  rw [if_neg (by omega)]
theorem td_str_step {s lo y : Nat} {op : Int32 → Int32} {a2 b : Nat → Int32} (h : td_str s op lo (2 * y + 1) a2 b) (hy : y < 8) (hlo : lo ≤ 2 * y + 1) : td_str s op lo (2 * (y + 1) + 1) a2 (upd b (17 * s + (2 * y + 1)) (op (b (17 * s + (2 * y + 1))))) := by
  refine ⟨fun t ht => ?_, fun j hj => ?_⟩
  · rw [pk_un (by omega)]; exact h.1 t ht
  · have g := h.2 j hj
    rw [td_sh_in hj] at g ⊢
    by_cases e : j = 2 * y + 1
    · rw [if_neg (by omega)] at g
      rw [e] at g ⊢
      rw [pk_us, if_pos (by omega), g]
    · rw [pk_un (by omega), g]
      by_cases c : j % 2 = 1 ∧ lo ≤ j ∧ j < 2 * y + 1
      · rw [if_pos c, if_pos (by omega)]
      · rw [if_neg c, if_neg (by omega)]
theorem td_w_lesser {post : Int32 → Prop} {u : St2} {a b : Nat} (ha : a < 2 ^ 31) (hb : b < 2 ^ 31) (H : post (nI (min a b))) : wpX_lesser post u (nI a) (nI b) := by
  refine pk_le b a (fun z => ?_) (fun z => ?_)
  · rw [show min a b = b by omega] at H; exact H
  · rw [show min a b = a by omega] at H; exact H
theorem td_w_greater {post : Int32 → Prop} {u : St2} {a b : Nat} (ha : a < 2 ^ 31) (hb : b < 2 ^ 31) (H : post (nI (max a b))) : wpX_greater post u (nI a) (nI b) := by
  refine pk_le a b (fun z => ?_) (fun z => ?_)
  · rw [show max a b = b by omega] at H; exact H
  · rw [show max a b = a by omega] at H; exact H
def td_wide (l r : Nat) : Int32 := (((1 : Int32) <<< ((nI (2 * r) + 1) &&& 31)) - ((1 : Int32) <<< (nI (2 * l) &&& 31))) &&& 43690
theorem td_wide_ne : ∀ l, l < 9 → ∀ r, r < 9 → l < r → ¬ td_wide l r = 0 := by decide +kernel
theorem td_wide_bit {l r i : Nat} (h : td_b (td_wide l r) i = true) : i < 17 ∧ i % 2 = 1 := by
  unfold td_wide at h
  rw [td_and, td_odd] at h
  simp only [Bool.and_eq_true, decide_eq_true_eq] at h
  exact h.2
theorem td_w_span {post : Int32 → Prop} {u : St2} {a b : Nat} (h : a ≤ b) (hb : b < 100) (H : post (((1 : Int32) <<< ((nI (2 * b) + 1) &&& 31)) - ((1 : Int32) <<< (nI (2 * a) &&& 31)))) : wpX_span post u (2 * nI a) (2 * nI b) := by
  rw [td_mul2, td_mul2]
  exact pk_le (2 * a) (2 * b) (fun _ => H) (fun z => absurd z (by omega))
theorem td_w_columns {post : Int32 → Prop} {u : St2} {f t : Nat} (hf : f < 81) (ht : t < 81) (H : post (td_wide (min (f / 9) (t / 9)) (max (f / 9) (t / 9)))) : wpX_columns post u (nI f) (nI t) := by
  unfold wpX_columns
  rw [td_div9 (show f < 2 ^ 31 by omega), td_div9 (show t < 2 ^ 31 by omega)]
  exact ⟨by decide, by decide, td_w_lesser (by omega) (by omega) ⟨by decide, by decide, td_w_greater (by omega) (by omega) (td_w_span (by omega) (by omega) H)⟩⟩
theorem td_w_isVertex {post : Int32 → Prop} {u : St2} {v : Nat} (hv : v < 81) (H : post 1) : wpX_isVertex post u (nI v) :=
  pk_lt v 0 (fun z => absurd z (by omega)) (fun _ => pk_le 81 v (fun z => absurd z (by omega)) (fun _ => H))
theorem td_w_flat {post : Int32 → Prop} {u : St2} {f t : Nat} (hf : f < 81) (ht : t < 81) (H1 : f / 9 = t / 9 ∨ f % 9 = t % 9 → post 1) (H0 : ¬ f / 9 = t / 9 → ¬ f % 9 = t % 9 → post 0) : wpX_flat post u (nI f) (nI t) := by
  unfold wpX_flat
  rw [td_rem9 (show f < 2 ^ 31 by omega), td_rem9 (show t < 2 ^ 31 by omega), td_div9 (show f < 2 ^ 31 by omega), td_div9 (show t < 2 ^ 31 by omega)]
  exact ⟨by decide, by decide, pk_eq (f / 9) (t / 9) (fun z => H1 (Or.inl z)) (fun z => ⟨by decide, by decide, pk_eq (f % 9) (t % 9) (fun y => H1 (Or.inr y)) (fun y => H0 z y)⟩)⟩
theorem td_w_takes {post : Int32 → Prop} {a1 a2 a3 a4 a5 a6 : Nat → Int32} {s : Nat} {k : Int32} (hs : s < 12) (H1 : a1 s = 0 ∨ a1 s = k → post 1) (H0 : ¬ (a1 s = 0 ∨ a1 s = k) → post 0) : wpX_takes post (a1, a2, a3, a4, a5, a6) (nI s) k := by
  unfold wpX_takes
  dsimp only
  rw [nI_clamp (show s < 2 ^ 31 by omega)]
  refine ⟨pk_in s 12 hs, br_c (fun e => H1 (Or.inl e)) (fun e => ⟨pk_in s 12 hs, br_c (fun e' => H1 (Or.inr e')) (fun e' => H0 (fun g => ?_))⟩)⟩
  rcases g with g | g
  · exact e g
  · exact e' g
theorem td_w_areaRefusal {post : Int32 → Prop} {a1 a2 a3 a4 a5 a6 : Nat → Int32} {s : Nat} (hs : s < 12) (H0 : a1 s = 3 → post 0) (H2 : ¬ a1 s = 3 → ∀ r, ¬ r = 0 → post r) : wpX_areaRefusal post (a1, a2, a3, a4, a5, a6) (nI s) := by
  unfold wpX_areaRefusal
  dsimp only
  rw [nI_clamp (show s < 2 ^ 31 by omega)]
  refine td_w_isSlot hs (br_f (by decide) ⟨pk_in s 12 hs, br_c (fun e => H2 ?_ _ (by decide)) (fun e => ⟨pk_in s 12 hs, br_c (fun e' => H0 e') (fun e' => H2 e' _ (by decide))⟩)⟩)
  rw [e]
  decide
/-- or-ing a stripe that fits keeps a slot well -/
theorem td_str_ok {s lo hi : Nat} {k w : Int32} {a1 a2 b : Nat → Int32} (hOK : td_OK a1 a2) (hs : s < 12) (hk : a1 s = 0 ∨ a1 s = k) (hk2 : k = 2 ∨ k = 3) (hst : td_str s (fun x => x ||| w) lo hi a2 b) (hw : ∀ i, td_b w i = true → i < 17 ∧ (k = 2 → i % 2 = 0) ∧ (k = 3 → i % 2 = 1)) (hne : ¬ w = 0) (hlo : lo % 2 = 1) (hlh : lo < hi) (hlo2 : lo < 17) : td_OK (upd a1 s k) b := by
  refine td_OK_upd hOK hst.1 (fun o ho => pk_un ho) ?_
  rw [pk_us]
  have hf := td_fit_up (hOK s hs).1 hk
  refine ⟨fun j i hb => ?_, Or.inr ⟨by rcases hk2 with e | e; exact Or.inr (Or.inl e); exact Or.inr (Or.inr e), lo, ?_⟩⟩
  · have hj := td_sh_lt hb
    rw [hst.2 j hj] at hb
    by_cases c : j % 2 = 1 ∧ lo ≤ j ∧ j < hi
    · rw [if_pos c, td_or, Bool.or_eq_true] at hb
      rcases hb with hb | hb
      · exact hf j i hb
      · have g := hw i hb
        refine ⟨hj, g.1, ?_⟩
        rcases hk2 with e | e
        · exact Or.inr (Or.inl ⟨e, by have := g.2.1 e; omega⟩)
        · exact Or.inr (Or.inr ⟨e, c.1, g.2.2 e⟩)
    · rw [if_neg c] at hb
      exact hf j i hb
  · rw [hst.2 lo hlo2, if_pos ⟨hlo, Nat.le_refl _, hlh⟩]
    intro e
    exact hne (td_or0.mp e).2
theorem td_OK_17 {a1 a2 : Nat → Int32} {s : Nat} (h : td_OK a1 a2) (hs : s < 12) (j : Nat) : td_17 (td_sh a2 s j) := td_fit_17 (h s hs).1 j
theorem td_w_rectangle {post : Int32 → St1 → Prop} {a1 a2 a3 a4 a5 a6 : Nat → Int32} {s f t : Nat} (hs : s < 12) (hf : f < 81) (ht : t < 81) (hOK : td_OK a1 a2)
    (H0 : ¬ (a1 s = 0 ∨ a1 s = 3) ∨ (f / 9 = t / 9 ∨ f % 9 = t % 9) → ∀ r, post r (a1, a2, a3, a4, a5, a6))
    (H : ∀ r b, td_str s (fun x => x ||| td_wide (min (f / 9) (t / 9)) (max (f / 9) (t / 9))) (2 * min (f % 9) (t % 9) + 1) (2 * max (f % 9) (t % 9) + 1) a2 b → td_OK (upd a1 s 3) b → post r (upd a1 s 3, b, a3, a4, a5, a6)) : wpX_rectangle post (a1, a2, a3, a4, a5, a6) (nI s) (nI f) (nI t) := by
  unfold wpX_rectangle
  dsimp only
  refine td_w_isSlot hs (br_f (by decide) (td_w_takes hs (fun hk => br_f (by decide) (td_w_isVertex hf (br_f (by decide) (td_w_isVertex ht (br_f (by decide) (td_w_flat hf ht (fun g => br_f (by decide) (H0 (Or.inr g) _)) (fun g1 g2 => br_t rfl ⟨pk_in s 12 hs, nm_e ?_⟩))))))) (fun g => br_t rfl (H0 (Or.inl g) _))))
  rw [nI_clamp (show s < 2 ^ 31 by omega), td_rem9 (show f < 2 ^ 31 by omega), td_rem9 (show t < 2 ^ 31 by omega)]
  refine td_w_columns hf ht ⟨by decide, by decide, td_w_greater (by omega) (by omega) (nm_r (td_mul2 _) ⟨by decide, by decide, td_w_lesser (by omega) (by omega) (nm_r (e' := nI (2 * min (f % 9) (t % 9) + 1)) (by rw [td_mul2, nI_1]) ?_)⟩)⟩
  refine pk_loop (fun n y (b : Nat → Int32) => wX_rectangle_95 post (nI s) (td_wide (min (f / 9) (t / 9)) (max (f / 9) (t / 9))) (nI (2 * max (f % 9) (t % 9))) n (nI (2 * y + 1)) (upd a1 s 3) b a3 a4 a5 a6) (fun y b => min (f % 9) (t % 9) ≤ y ∧ td_str s (fun x => x ||| td_wide (min (f / 9) (t / 9)) (max (f / 9) (t / 9))) (2 * min (f % 9) (t % 9) + 1) (2 * y + 1) a2 b) (max (f % 9) (t % 9)) (min (f % 9) (t % 9)) a2 (by omega) ⟨Nat.le_refl _, td_str_0 _ _ _ _⟩ ?_ ?_
  · intro n b h
    have ok : td_OK (upd a1 s 3) b := td_str_ok hOK hs hk (Or.inr rfl) h.2 (fun i hi => ⟨(td_wide_bit hi).1, fun e => absurd e (by decide), fun _ => (td_wide_bit hi).2⟩) (td_wide_ne _ (by omega) _ (by omega) (by omega)) (by omega) (by omega) (by omega)
    exact pk_le (2 * max (f % 9) (t % 9)) (2 * max (f % 9) (t % 9) + 1) (fun _ => td_w_count hs (fun j _ => td_OK_17 ok hs j) (H _ b h.2 ok)) (fun z => absurd z (by omega))
  · intro n y b hy h hn
    refine pk_le (2 * max (f % 9) (t % 9)) (2 * y + 1) (fun z => absurd z (by omega)) (fun _ => ?_)
    rw [td_ix]
    refine ⟨vp_in_nI (by omega) (by omega), vp_in_nI (by omega) (by omega), nm_e (nm_r (e' := nI (2 * (y + 1) + 1)) (nI_add (2 * y + 1) 2) ?_)⟩
    rw [nI_clamp (show 17 * s + (2 * y + 1) < 2 ^ 31 by omega)]
    exact hn _ ⟨by omega, td_str_step (op := fun x => x ||| td_wide (min (f / 9) (t / 9)) (max (f / 9) (t / 9))) h.2 (by omega) (by omega)⟩
theorem td_w_settle {post : Int32 → St1 → Prop} {a1 a2 a3 a4 a5 a6 : Nat → Int32} {s : Nat} (hs : s < 12) (h17 : ∀ j, j < 17 → td_17 (td_sh a2 s j)) (H : post (nI (td_gc (td_sh a2 s))) (if td_gc (td_sh a2 s) = 0 then upd a1 s 0 else a1, a2, a3, a4, a5, a6)) : wpX_settle post (a1, a2, a3, a4, a5, a6) (nI s) := by
  have hle := td_gc_le (td_sh a2 s)
  unfold wpX_settle
  dsimp only
  refine td_w_count hs h17 (pk_eq (td_gc (td_sh a2 s)) 0 (fun z => ⟨pk_in s 12 hs, nm_e ?_⟩) (fun z => ?_))
  · rw [nI_clamp (show s < 2 ^ 31 by omega)]
    rw [if_pos z] at H
    exact H
  · rw [if_neg z] at H
    exact H
/-- rows that fit, settled -/
theorem td_settle_ok {s : Nat} {a1 a2 b : Nat → Int32} (hOK : td_OK a1 a2) (hs : s < 12) (hk : ¬ a1 s = 0) (hfr : td_fr s a2 b) (hfit : td_fit (a1 s) (td_sh b s)) : td_OK (if td_gc (td_sh b s) = 0 then upd a1 s 0 else a1) b := by
  have h17 : ∀ j, j < 17 → td_17 (td_sh b s j) := fun j _ => td_fit_17 hfit j
  by_cases z : td_gc (td_sh b s) = 0
  · rw [if_pos z]
    refine td_OK_upd hOK hfr (fun o ho => pk_un ho) ?_
    rw [pk_us]
    refine ⟨fun j i hb => ?_, Or.inl rfl⟩
    rw [(td_gc_0 h17).mp z j (td_sh_lt hb), td_0] at hb
    exact absurd hb (by decide)
  · rw [if_neg z]
    refine td_OK_upd hOK hfr (fun o ho => rfl) ⟨hfit, ?_⟩
    rcases (hOK s hs).2 with e | ⟨e, _⟩
    · exact absurd e hk
    · refine Or.inr ⟨e, Classical.byContradiction (fun g => z ((td_gc_0 h17).mpr (fun j _ => ?_)))⟩
      exact Classical.byContradiction (fun y => g ⟨j, y⟩)
end
section
/-! walks: combine, cut, grow, point, line; draw -/
def td_op (h : Nat) (x y : Int32) : Int32 := if h = 0 then x ||| y else if h = 1 then x &&& y else if h = 2 then x &&& (y ^^^ (-1)) else x ^^^ y
theorem td_op_bit {h : Nat} {x y : Int32} {i : Nat} (g : td_b (td_op h x y) i = true) : td_b x i = true ∨ td_b y i = true := by
  unfold td_op at g
  split at g
  · rw [td_or, Bool.or_eq_true] at g; exact g
  · split at g
    · rw [td_and, Bool.and_eq_true] at g; exact Or.inl g.1
    · split at g
      · rw [td_andn, Bool.and_eq_true] at g; exact Or.inl g.1
      · rw [td_xor] at g
        cases e : td_b x i
        · right
          rw [e] at g
          simpa using g
        · exact Or.inl rfl
theorem td_w_combine {post : Int32 → St1 → Prop} {a1 a2 a3 a4 a5 a6 : Nat → Int32} {s o h : Nat} (hs : s < 12) (ho : o < 12) (hh : h ≤ 3) (hOK : td_OK a1 a2)
    (H0 : a1 s = 0 ∨ a1 o = 0 ∨ ¬ a1 s = a1 o → ∀ r, post r (a1, a2, a3, a4, a5, a6))
    (H : ¬ a1 s = 0 → a1 s = a1 o → ∀ b, td_fr s a2 b → (∀ j, j < 17 → td_sh b s j = td_op h (td_sh a2 s j) (td_sh a2 o j)) → td_OK (if td_gc (td_sh b s) = 0 then upd a1 s 0 else a1) b → post (nI (td_gc (td_sh b s))) (if td_gc (td_sh b s) = 0 then upd a1 s 0 else a1, b, a3, a4, a5, a6)) : wpX_combine post (a1, a2, a3, a4, a5, a6) (nI s) (nI o) (nI h) := by
  unfold wpX_combine
  dsimp only
  rw [nI_clamp (show s < 2 ^ 31 by omega), nI_clamp (show o < 2 ^ 31 by omega)]
  refine td_w_pairRefusal hs ho (fun e1 e2 => br_t rfl ⟨pk_in s 12 hs, pk_in o 12 ho, br_c (fun e => pk_lt h 0 (fun z => absurd z (by omega)) (fun _ => pk_le h 3 (fun _ => ?_) (fun z => absurd z (by omega)))) (fun e => H0 (Or.inr (Or.inr e)) _)⟩) (fun e => br_f (by decide) (H0 (by rcases e with e | e; exact Or.inl e; exact Or.inr (Or.inl e)) _))
  refine pk_loop (fun n i (b : Nat → Int32) => wX_combine_49 post (nI s) (nI o) (nI h) n (nI i) a1 b a3 a4 a5 a6) (fun i b => td_fr s a2 b ∧ ∀ j, j < 17 → b (17 * s + j) = if j < i then td_op h (a2 (17 * s + j)) (a2 (17 * o + j)) else a2 (17 * s + j)) 17 0 a2 (by omega) ⟨fun _ _ => rfl, fun j _ => by rw [if_neg (by omega)]⟩ ?_ ?_
  · intro n b g
    have hb : ∀ j, j < 17 → td_sh b s j = td_op h (td_sh a2 s j) (td_sh a2 o j) := by
      intro j hj
      rw [td_sh_in hj, td_sh_in hj, td_sh_in hj, g.2 j hj, if_pos hj]
    have hfit : td_fit (a1 s) (td_sh b s) := by
      intro j i hbit
      rw [hb j (td_sh_lt hbit)] at hbit
      rcases td_op_bit hbit with y | y
      · exact (hOK s hs).1 j i y
      · rw [e]; exact (hOK o ho).1 j i y
    have ok := td_settle_ok hOK hs e1 g.1 hfit
    exact pk_le 17 17 (fun _ => td_w_settle hs (fun j _ => td_fit_17 hfit j) (H e1 e b g.1 hb ok)) (fun z => absurd z (by omega))
  · intro n i b hi g hn
    have ex : b (17 * s + i) = a2 (17 * s + i) := by rw [g.2 i hi, if_neg (by omega)]
    have ey : b (17 * o + i) = a2 (17 * o + i) := by
      by_cases y : o = s
      · rw [y]; exact ex
      · exact g.1 _ (by omega)
    have fin : ∀ x, x = td_op h (a2 (17 * s + i)) (a2 (17 * o + i)) → wX_combine_49 post (nI s) (nI o) (nI h) n (nI (i + 1)) a1 (upd b (17 * s + i) x) a3 a4 a5 a6 := by
      intro x hx
      refine hn _ ⟨fun t ht => ?_, fun j hj => ?_⟩
      · rw [pk_un (by omega)]; exact g.1 t ht
      · by_cases y : j = i
        · rw [y, pk_us, if_pos (by omega)]; exact hx
        · rw [pk_un (by omega), g.2 j hj]
          by_cases c : j < i
          · rw [if_pos c, if_pos (by omega)]
          · rw [if_neg c, if_neg (by omega)]
    refine pk_le 17 i (fun z => absurd z (by omega)) (fun _ => ?_)
    rw [td_ix, td_ix, nI_clamp (show 17 * s + i < 2 ^ 31 by omega), nI_clamp (show 17 * o + i < 2 ^ 31 by omega)]
    have vin : vp_in (nI (17 * s + i)) 204 := vp_in_nI (by omega) (by omega)
    refine ⟨vin, nm_r ex ⟨vp_in_nI (by omega) (by omega), nm_r ey ?_⟩⟩
    unfold td_op at fin
    refine pk_eq h 0 (fun z => ⟨vin, nm_e (nm_r (nI_1 i) (fin _ (by rw [if_pos z])))⟩) (fun z0 => pk_eq h 1 (fun z => ⟨vin, nm_e (nm_r (nI_1 i) (fin _ (by rw [if_neg z0, if_pos z])))⟩) (fun z1 => pk_eq h 2 (fun z => ⟨vin, nm_e (nm_r (nI_1 i) (fin _ (by rw [if_neg z0, if_neg z1, if_pos z])))⟩) (fun z2 => ⟨vin, nm_e (nm_r (nI_1 i) (fin _ (by rw [if_neg z0, if_neg z1, if_neg z2])))⟩)))
theorem td_w_cut {post : Int32 → St1 → Prop} {a1 a2 a3 a4 a5 a6 : Nat → Int32} {s f t : Nat} (hs : s < 12) (hf : f < 81) (ht : t < 81) (hOK : td_OK a1 a2) (H : ∀ r c1 b, td_OK c1 b → post r (c1, b, a3, a4, a5, a6)) : wpX_cut post (a1, a2, a3, a4, a5, a6) (nI s) (nI f) (nI t) := by
  unfold wpX_cut
  dsimp only
  refine td_w_areaRefusal hs (fun hk => br_t rfl (td_w_isVertex hf (br_f (by decide) (td_w_isVertex ht (br_f (by decide) (td_w_flat hf ht (fun _ => br_f (by decide) (H _ _ _ hOK)) (fun g1 g2 => br_t rfl ?_))))))) (fun _ r hr => br_f hr (H _ _ _ hOK))
  rw [td_rem9 (show f < 2 ^ 31 by omega), td_rem9 (show t < 2 ^ 31 by omega)]
  refine td_w_columns hf ht ⟨by decide, by decide, td_w_greater (by omega) (by omega) (nm_r (td_mul2 _) ⟨by decide, by decide, td_w_lesser (by omega) (by omega) (nm_r (e' := nI (2 * min (f % 9) (t % 9) + 1)) (by rw [td_mul2, nI_1]) ?_)⟩)⟩
  refine pk_loop (fun n y (b : Nat → Int32) => wX_cut_82 post (nI s) (td_wide (min (f / 9) (t / 9)) (max (f / 9) (t / 9))) (nI (2 * max (f % 9) (t % 9))) n (nI (2 * y + 1)) a1 b a3 a4 a5 a6) (fun y b => min (f % 9) (t % 9) ≤ y ∧ td_str s (fun x => x &&& (td_wide (min (f / 9) (t / 9)) (max (f / 9) (t / 9)) ^^^ (-1))) (2 * min (f % 9) (t % 9) + 1) (2 * y + 1) a2 b) (max (f % 9) (t % 9)) (min (f % 9) (t % 9)) a2 (by omega) ⟨Nat.le_refl _, td_str_0 _ _ _ _⟩ ?_ ?_
  · intro n b h
    have hfit : td_fit (a1 s) (td_sh b s) := by
      refine td_fit_sub (hOK s hs).1 (fun j i hb => ?_)
      rw [h.2.2 j (td_sh_lt hb)] at hb
      split at hb
      · rw [td_andn, Bool.and_eq_true] at hb; exact hb.1
      · exact hb
    have ok := td_settle_ok hOK hs (by rw [hk]; decide) h.2.1 hfit
    exact pk_le (2 * max (f % 9) (t % 9)) (2 * max (f % 9) (t % 9) + 1) (fun _ => td_w_settle hs (fun j _ => td_fit_17 hfit j) (H _ _ b ok)) (fun z => absurd z (by omega))
  · intro n y b hy h hn
    refine pk_le (2 * max (f % 9) (t % 9)) (2 * y + 1) (fun z => absurd z (by omega)) (fun _ => ?_)
    rw [td_ix]
    refine ⟨vp_in_nI (by omega) (by omega), vp_in_nI (by omega) (by omega), nm_e (nm_r (e' := nI (2 * (y + 1) + 1)) (nI_add (2 * y + 1) 2) ?_)⟩
    rw [nI_clamp (show 17 * s + (2 * y + 1) < 2 ^ 31 by omega)]
    exact hn _ ⟨by omega, td_str_step (op := fun x => x &&& (td_wide (min (f / 9) (t / 9)) (max (f / 9) (t / 9)) ^^^ (-1))) h.2 (by omega) (by omega)⟩
/-! grow -/
def td_gw (R : Nat → Int32) (v : Int32) (j : Nat) : Prop := (∀ i, td_b v i = true → i < 17 ∧ i % 2 = 1) ∧ (∀ i, td_b (R j) i = true → td_b v i = true)
theorem td_gw_of {R : Nat → Int32} {j : Nat} (h : td_fit 3 R) (x y z w : Int32) : td_gw R ((((x ||| R j ||| y) ||| z) ||| w) &&& 43690) j := by
  refine ⟨fun i hi => ?_, fun i hi => ?_⟩
  · rw [td_and, td_odd] at hi
    simp only [Bool.and_eq_true, decide_eq_true_eq] at hi
    exact hi.2
  · have := td_fit3 h hi
    rw [td_and, td_odd, td_or, td_or, td_or, td_or, hi, decide_eq_true (show i < 17 ∧ i % 2 = 1 by omega)]
    simp
theorem td_w_rowm2 {post : Int32 → Prop} {a1 a2 a3 a4 a5 a6 : Nat → Int32} {s y : Nat} (hs : s < 12) (hy : y < 9) (H : ∀ r, post r) : wpX_row post (a1, a2, a3, a4, a5, a6) (nI s) (nI (2 * y + 1) - 2) := by
  cases y with
  | zero => exact br_t (by decide) (H _)
  | succ y =>
    rw [show nI (2 * (y + 1) + 1) - 2 = nI (2 * y + 1) from pk_sub (a := 2 * (y + 1) + 1) (b := 2) (by omega)]
    exact td_w_row hs (by omega) (H _)
theorem td_w_grow {post : Int32 → St1 → Prop} {a1 a2 a3 a4 a5 a6 : Nat → Int32} {s : Nat} (hs : s < 12) (hOK : td_OK a1 a2) (H : ∀ r b b5, td_OK a1 b → post r (a1, b, a3, a4, b5, a6)) : wpX_grow post (a1, a2, a3, a4, a5, a6) (nI s) := by
  unfold wpX_grow
  dsimp only
  refine td_w_areaRefusal hs (fun hk => br_t rfl ?_) (fun _ r hr => br_f hr (H _ _ _ hOK))
  have hf : td_fit 3 (td_sh a2 s) := by
    have := (hOK s hs).1
    rw [hk] at this
    exact this
  refine pk_loop (fun n y (b5 : Nat → Int32) => wX_grow_14 post (nI s) n (nI (2 * y + 1)) a1 a2 a3 a4 b5 a6) (fun y b5 => ∀ j, j < 2 * y + 1 → j % 2 = 1 → td_gw (td_sh a2 s) (b5 j) j) 8 0 a5 (by omega) (fun j hj hj2 => absurd hj2 (by omega)) ?_ ?_
  · intro n b5 h
    refine pk_le 17 (2 * 8 + 1) (fun _ => ?_) (fun z => absurd z (by omega))
    refine pk_loop (fun n y (b : Nat → Int32) => wX_grow_75 post (nI s) n (nI (2 * y + 1)) a1 b a3 a4 b5 a6) (fun y b => td_fr s a2 b ∧ ∀ j, j < 17 → td_sh b s j = if j % 2 = 1 ∧ j < 2 * y + 1 then b5 j else td_sh a2 s j) 8 0 a2 (by omega) ⟨fun _ _ => rfl, fun j hj => by rw [if_neg (by omega)]⟩ ?_ ?_
    · intro m b g
      have ok : td_OK a1 b := by
        refine td_OK_upd hOK g.1 (fun _ _ => rfl) ⟨fun j i hb => ?_, ?_⟩
        · have hj := td_sh_lt hb
          rw [g.2 j hj] at hb
          rw [hk]
          by_cases c : j % 2 = 1 ∧ j < 2 * 8 + 1
          · rw [if_pos c] at hb
            have := (h j c.2 c.1).1 i hb
            exact ⟨hj, this.1, Or.inr (Or.inr ⟨rfl, c.1, this.2⟩)⟩
          · rw [if_neg c] at hb
            exact hf j i hb
        · rcases (hOK s hs).2 with e | ⟨e, j, hj⟩
          · exact Or.inl e
          · refine Or.inr ⟨e, j, ?_⟩
            obtain ⟨i, hi⟩ := td_ne0.mp hj
            have c := td_fit3 hf hi
            rw [g.2 j c.2.2.1, if_pos ⟨c.1, by omega⟩]
            exact td_ne0.mpr ⟨i, (h j (by omega) c.1).2 i hi⟩
      exact pk_le 17 (2 * 8 + 1) (fun _ => td_w_count hs (fun j _ => td_OK_17 ok hs j) (H _ _ _ ok)) (fun z => absurd z (by omega))
    · intro m y b hy g hm
      refine pk_le 17 (2 * y + 1) (fun z => absurd z (by omega)) (fun _ => ?_)
      rw [td_ix]
      refine ⟨vp_in_nI (by omega) (by omega), vp_in_nI (by omega) (by omega), nm_e (nm_r (e' := nI (2 * (y + 1) + 1)) (nI_add (2 * y + 1) 2) ?_)⟩
      rw [nI_clamp (show 17 * s + (2 * y + 1) < 2 ^ 31 by omega), nI_clamp (show 2 * y + 1 < 2 ^ 31 by omega)]
      refine hm _ ⟨fun t ht => ?_, fun j hj => ?_⟩
      · rw [pk_un (by omega)]; exact g.1 t ht
      · have gj := g.2 j hj
        rw [td_sh_in hj] at gj ⊢
        by_cases e : j = 2 * y + 1
        · rw [e, pk_us, if_pos (by omega)]
        · rw [pk_un (by omega), gj]
          by_cases c : j % 2 = 1 ∧ j < 2 * y + 1
          · rw [if_pos c, if_pos (by omega)]
          · rw [if_neg c, if_neg (by omega)]
  · intro n y b5 hy h hn
    refine pk_le 17 (2 * y + 1) (fun z => absurd z (by omega)) (fun _ => td_w_rowm2 hs (by omega) (fun r => td_w_row hs (by omega) ?_))
    rw [show nI (2 * y + 1) + 2 = nI (2 * y + 1 + 2) from nI_add _ 2]
    refine td_w_row hs (by omega) (nm_e ⟨vp_in_nI (by omega) (by omega), nm_e (nm_r (e' := nI (2 * (y + 1) + 1)) rfl ?_)⟩)
    rw [nI_clamp (show 2 * y + 1 < 2 ^ 31 by omega)]
    refine hn _ (fun j hj hj2 => ?_)
    by_cases e : j = 2 * y + 1
    · rw [e, pk_us]
      exact td_gw_of hf _ _ _ _
    · rw [pk_un e]
      exact h j (by omega) hj2
/-! point, line -/
theorem td_row_ok {s j : Nat} {k w : Int32} {a1 a2 : Nat → Int32} (hOK : td_OK a1 a2) (hs : s < 12) (hj : j < 17) (hk : a1 s = 0 ∨ a1 s = k) (hk2 : k = 1 ∨ k = 2) (hw : ∀ i, td_b w i = true → i < 17 ∧ (k = 1 → j % 2 = 0 ∧ i % 2 = 0) ∧ (k = 2 → (j + i) % 2 = 1)) (hne : ¬ w = 0) : td_OK (upd a1 s k) (upd a2 (17 * s + j) (a2 (17 * s + j) ||| w)) := by
  have hfr : td_fr s a2 (upd a2 (17 * s + j) (a2 (17 * s + j) ||| w)) := fun t ht => pk_un (by omega)
  refine td_OK_upd hOK hfr (fun o ho => pk_un ho) ?_
  rw [pk_us]
  have hf := td_fit_up (hOK s hs).1 hk
  refine ⟨fun j' i hb => ?_, Or.inr ⟨by rcases hk2 with e | e; exact Or.inl e; exact Or.inr (Or.inl e), j, ?_⟩⟩
  · have hj' := td_sh_lt hb
    rw [td_sh_in hj'] at hb
    by_cases e : j' = j
    · rw [e, pk_us, td_or, Bool.or_eq_true] at hb
      rcases hb with hb | hb
      · have := hf j i (by rw [td_sh_in hj]; exact hb)
        rw [e]
        exact this
      · have g := hw i hb
        rw [e]
        refine ⟨hj, g.1, ?_⟩
        rcases hk2 with e | e
        · exact Or.inl ⟨e, g.2.1 e⟩
        · exact Or.inr (Or.inl ⟨e, g.2.2 e⟩)
    · rw [pk_un (by omega)] at hb
      exact hf j' i (by rw [td_sh_in hj']; exact hb)
  · rw [td_sh_in hj, pk_us]
    intro e
    exact hne (td_or0.mp e).2
theorem td_one32 : ∀ x, x < 9 → ∀ i, i < 32 → td_b ((1 : Int32) <<< ((2 * nI x) &&& 31)) i = decide (i = 2 * x) := by decide +kernel
theorem td_one {x : Nat} (hx : x < 9) (i : Nat) : td_b ((1 : Int32) <<< ((2 * nI x) &&& 31)) i = decide (i = 2 * x) := by
  rcases Nat.lt_or_ge i 32 with h | h
  · exact td_one32 x hx i h
  · rw [td_big h, decide_eq_false (by omega)]
theorem td_one_ne {x : Nat} (hx : x < 9) : ¬ (1 : Int32) <<< ((2 * nI x) &&& 31) = 0 := td_ne0.mpr ⟨2 * x, by rw [td_one hx]; exact decide_eq_true rfl⟩
theorem td_w_point {post : Int32 → St1 → Prop} {a1 a2 a3 a4 a5 a6 : Nat → Int32} {s v : Nat} (hs : s < 12) (hv : v < 81) (hOK : td_OK a1 a2) (H : ∀ r c1 b, td_OK c1 b → post r (c1, b, a3, a4, a5, a6)) : wpX_point post (a1, a2, a3, a4, a5, a6) (nI s) (nI v) := by
  unfold wpX_point
  dsimp only
  refine td_w_isSlot hs (br_f (by decide) (td_w_takes hs (fun hk => br_f (by decide) (td_w_isVertex hv (br_f (by decide) ⟨pk_in s 12 hs, nm_e ⟨by decide, ?_⟩⟩))) (fun _ => br_t rfl (H _ _ _ hOK))))
  rw [td_rem9 (show v < 2 ^ 31 by omega), td_mul2, td_ix, td_div9 (show v < 2 ^ 31 by omega)]
  refine ⟨vp_in_nI (by omega) (by omega), by decide, vp_in_nI (by omega) (by omega), nm_e ?_⟩
  rw [nI_clamp (show s < 2 ^ 31 by omega), nI_clamp (show 17 * s + 2 * (v % 9) < 2 ^ 31 by omega)]
  have ok : td_OK (upd a1 s 1) (upd a2 (17 * s + 2 * (v % 9)) (a2 (17 * s + 2 * (v % 9)) ||| ((1 : Int32) <<< ((2 * nI (v / 9)) &&& 31)))) := by
    refine td_row_ok hOK hs (by omega) hk (Or.inl rfl) (fun i hi => ?_) (td_one_ne (by omega))
    rw [td_one (by omega), decide_eq_true_eq] at hi
    exact ⟨by omega, fun _ => by omega, fun e => absurd e (by decide)⟩
  exact td_w_count hs (fun j _ => td_OK_17 ok hs j) (H _ _ _ ok)
theorem td_w_l86 {post : Int32 → St1 → Prop} {a1 a2 a3 a4 a5 a6 : Nat → Int32} {s x y u v : Nat} {z0 z1 : Int32} (hs : s < 12) (hx : x < 9) (hy : y < 9) (hu : u < 9) (hv : v < 9) (hOK : td_OK a1 a2) (hk : a1 s = 0 ∨ a1 s = 2) (hz : z1 = z0 ∨ (x = u ∧ ¬ y = v) ∨ (¬ x = u ∧ y = v)) (H : ∀ r c1 b, td_OK c1 b → post r (c1, b, a3, a4, a5, a6)) : wX_line_86 post (nI s) (nI x) (nI y) (nI u) (nI v) z0 z1 a1 a2 a3 a4 a5 a6 := by
  unfold wX_line_86
  refine br_c (fun _ => H _ _ _ hOK) (fun nz => ⟨pk_in s 12 hs, nm_e ?_⟩)
  rw [nI_clamp (show s < 2 ^ 31 by omega)]
  refine pk_eq y v (fun e => ?_) (fun e => ?_)
  · have hxu : ¬ x = u := by
      rcases hz with h | h | h
      · exact absurd h nz
      · exact absurd e h.2
      · exact h.1
    refine td_w_lesser (by omega) (by omega) (td_w_greater (by omega) (by omega) ?_)
    rw [show (17 : Int32) * nI s + 2 * nI y = nI (17 * s + 2 * y) from by rw [td_mul2, td_ix]]
    refine ⟨vp_in_nI (by omega) (by omega), td_w_span (by omega) (by omega) ⟨vp_in_nI (by omega) (by omega), nm_e ?_⟩⟩
    rw [nI_clamp (show 17 * s + 2 * y < 2 ^ 31 by omega)]
    unfold wX_line_216
    have ok : td_OK (upd a1 s 2) (upd a2 (17 * s + 2 * y) (a2 (17 * s + 2 * y) ||| td_wide (min x u) (max x u))) := by
      refine td_row_ok hOK hs (by omega) hk (Or.inr rfl) (fun i hi => ?_) (td_wide_ne _ (by omega) _ (by omega) (by omega))
      have := td_wide_bit hi
      exact ⟨this.1, fun e => absurd e (by decide), fun _ => by omega⟩
    exact td_w_count hs (fun j _ => td_OK_17 ok hs j) (H _ _ _ ok)
  · refine td_w_greater (by omega) (by omega) (nm_r (td_mul2 _) (td_w_lesser (by omega) (by omega) (nm_r (e' := nI (2 * min y v + 1)) (by rw [td_mul2, nI_1]) ?_)))
    refine pk_loop (fun n q (b : Nat → Int32) => wX_line_182 post (nI s) (nI x) (nI (2 * max y v)) n (nI (2 * q + 1)) (upd a1 s 2) b a3 a4 a5 a6) (fun q b => min y v ≤ q ∧ td_str s (fun w => w ||| ((1 : Int32) <<< ((2 * nI x) &&& 31))) (2 * min y v + 1) (2 * q + 1) a2 b) (max y v) (min y v) a2 (by omega) ⟨Nat.le_refl _, td_str_0 _ _ _ _⟩ ?_ ?_
    · intro n b h
      have ok : td_OK (upd a1 s 2) b := by
        refine td_str_ok hOK hs hk (Or.inl rfl) h.2 (fun i hi => ?_) (td_one_ne hx) (by omega) (by omega) (by omega)
        rw [td_one hx, decide_eq_true_eq] at hi
        exact ⟨by omega, fun _ => by omega, fun e => absurd e (by decide)⟩
      refine pk_le (2 * max y v) (2 * max y v + 1) (fun _ => ?_) (fun z => absurd z (by omega))
      unfold wX_line_216
      exact td_w_count hs (fun j _ => td_OK_17 ok hs j) (H _ _ _ ok)
    · intro n q b hq h hn
      refine pk_le (2 * max y v) (2 * q + 1) (fun z => absurd z (by omega)) (fun _ => ?_)
      rw [td_ix]
      refine ⟨vp_in_nI (by omega) (by omega), vp_in_nI (by omega) (by omega), nm_e (nm_r (e' := nI (2 * (q + 1) + 1)) (nI_add (2 * q + 1) 2) ?_)⟩
      rw [nI_clamp (show 17 * s + (2 * q + 1) < 2 ^ 31 by omega)]
      exact hn _ ⟨by omega, td_str_step (op := fun w => w ||| ((1 : Int32) <<< ((2 * nI x) &&& 31))) h.2 (by omega) (by omega)⟩
theorem td_w_line {post : Int32 → St1 → Prop} {a1 a2 a3 a4 a5 a6 : Nat → Int32} {s f t : Nat} (hs : s < 12) (hf : f < 81) (ht : t < 81) (hOK : td_OK a1 a2) (H : ∀ r c1 b, td_OK c1 b → post r (c1, b, a3, a4, a5, a6)) : wpX_line post (a1, a2, a3, a4, a5, a6) (nI s) (nI f) (nI t) := by
  unfold wpX_line
  dsimp only
  refine td_w_isSlot hs (br_f (by decide) (td_w_takes hs (fun hk => br_f (by decide) (td_w_isVertex hf (br_f (by decide) (td_w_isVertex ht (br_f (by decide) ⟨by decide, nm_r (td_div9 (by omega)) ⟨by decide, nm_r (td_rem9 (by omega)) ⟨by decide, nm_r (td_div9 (by omega)) ⟨by decide, nm_r (td_rem9 (by omega)) ?_⟩⟩⟩⟩))))) (fun _ => br_t rfl (H _ _ _ hOK))))
  refine pk_eq (f / 9) (t / 9) (fun e => ?_) (fun e => ?_)
  · unfold wX_line_74
    exact pk_eq (f % 9) (t % 9) (fun e2 => td_w_l86 hs (by omega) (by omega) (by omega) (by omega) hOK hk (Or.inl rfl) H) (fun e2 => td_w_l86 hs (by omega) (by omega) (by omega) (by omega) hOK hk (Or.inr (Or.inl ⟨e, e2⟩)) H)
  · unfold wX_line_74
    exact pk_eq (f % 9) (t % 9) (fun e2 => td_w_l86 hs (by omega) (by omega) (by omega) (by omega) hOK hk (Or.inr (Or.inr ⟨e, e2⟩)) H) (fun e2 => td_w_l86 hs (by omega) (by omega) (by omega) (by omega) hOK hk (Or.inl rfl) H)
theorem td_mod6 (x : Int32) : ∃ s, s < 6 ∧ (x &&& 7) - (x &&& 7) / 6 * 6 = nI s := by
  obtain ⟨j, hj, e⟩ := pk_andE x (m := 7) 3 (by decide)
  rw [e]
  exact ⟨j % 6, by omega, pk_rem (d := 6) (by omega) (by decide) (by decide)⟩
theorem td_mod9 (x : Int32) : ∃ s, s < 9 ∧ (x &&& 15) - (x &&& 15) / 9 * 9 = nI s := by
  obtain ⟨j, hj, e⟩ := pk_andE x (m := 15) 4 (by decide)
  rw [e]
  exact ⟨j % 9, by omega, pk_rem (d := 9) (by omega) (by decide) (by decide)⟩
theorem td_vx (x y : Nat) : 9 * nI x + nI y = nI (9 * x + y) := by
  show nI 9 * nI x + nI y = _
  rw [pk_mul, nI_add]
theorem td_w_draw {post : St1 → Prop} {a1 a2 a3 a4 a5 a6 : Nat → Int32} {c : Int32} (hOK : td_OK a1 a2) (H : ∀ c1 b b5, td_OK c1 b → post (c1, b, a3, a4, b5, a6)) : wpL_draw post (a1, a2, a3, a4, a5, a6) c := by
  obtain ⟨s, hs, es⟩ := td_mod6 (c >>> ((4 : Int32) &&& 31))
  obtain ⟨x, hx, ex⟩ := td_mod9 (c >>> ((7 : Int32) &&& 31))
  obtain ⟨y, hy, ey⟩ := td_mod9 (c >>> ((11 : Int32) &&& 31))
  obtain ⟨u, hu, eu⟩ := td_mod9 (c >>> ((15 : Int32) &&& 31))
  obtain ⟨v, hv, ev⟩ := td_mod9 (c >>> ((19 : Int32) &&& 31))
  obtain ⟨k, hk, ek⟩ := pk_andE c (m := 15) 4 (by decide)
  obtain ⟨o, ho, eo⟩ := td_mod6 (c >>> ((23 : Int32) &&& 31))
  obtain ⟨h, hh, eh⟩ := pk_andE (c >>> ((26 : Int32) &&& 31)) (m := 3) 2 (by decide)
  unfold wpL_draw
  dsimp only
  refine ⟨by decide, nm_r es ⟨by decide, nm_r ex ⟨by decide, nm_r ey ⟨by decide, nm_r eu ⟨by decide, nm_r ev (nm_r ek ?_)⟩⟩⟩⟩⟩
  rw [eo, eh, td_vx, td_vx, td_vx, td_vx]
  refine pk_le 2 k (fun _ => pk_le 6 k (fun _ => pk_le 11 k (fun _ => pk_le 13 k (fun _ => pk_le 14 k (fun _ => pk_le 15 k (fun _ => ?_) (fun _ => ?_)) (fun _ => ⟨by decide, ?_⟩)) (fun _ => ?_)) (fun _ => ?_)) (fun _ => ?_)) (fun _ => ?_)
  · exact td_w_clear (by omega) hOK (fun _ b _ _ ok => H _ _ _ ok)
  · exact td_w_grow (by omega) hOK (fun _ b b5 ok => H _ _ _ ok)
  · exact td_w_combine (by omega) (by omega) (by omega) hOK (fun _ _ => H _ _ _ hOK) (fun _ _ b _ _ ok => H _ _ _ ok)
  · exact td_w_cut (by omega) (by omega) (by omega) hOK (fun _ _ _ ok => H _ _ _ ok)
  · exact td_w_rectangle (by omega) (by omega) (by omega) hOK (fun _ _ => H _ _ _ hOK) (fun _ _ _ ok => H _ _ _ ok)
  · refine br_c (fun _ => ?_) (fun _ => ?_)
    · unfold wL_draw_128
      exact td_w_line (by omega) (by omega) (by omega) hOK (fun _ _ _ ok => H _ _ _ ok)
    · unfold wL_draw_128
      exact td_w_line (by omega) (by omega) (by omega) hOK (fun _ _ _ ok => H _ _ _ ok)
  · exact td_w_point (by omega) (by omega) hOK (fun _ _ _ ok => H _ _ _ ok)
end
section
/-! walks: spread, takeAway, countPieces -/
def td_gs (a : Nat → Int32) (p : Nat × Nat) : Prop := p.1 < 17 ∧ td_b (a p.1) p.2 = true
def td_nr (b : Nat → Int32) (j : Nat) : Int32 := (((b j ||| (b j <<< ((1 : Int32) &&& 31))) ||| (b j >>> ((1 : Int32) &&& 31))) ||| td_dn b j) ||| (if 16 ≤ j then 0 else b (j + 1))
theorem td_nr_bit {b : Nat → Int32} {j : Nat} (h : td_17 (b j)) (i : Nat) : td_b (td_nr b j) i = true ↔ (td_b (b j) i = true ∨ (1 ≤ i ∧ td_b (b j) (i - 1) = true) ∨ td_b (b j) (i + 1) = true ∨ (1 ≤ j ∧ td_b (b (j - 1)) i = true) ∨ (j < 16 ∧ td_b (b (j + 1)) i = true)) := by
  unfold td_nr
  rw [td_or, td_or, td_or, td_or, td_l1 h, td_r1 h]
  have hd : td_b (td_dn b j) i = true ↔ (1 ≤ j ∧ td_b (b (j - 1)) i = true) := by
    unfold td_dn
    by_cases y : j = 0
    · rw [if_pos y, td_0]
      exact ⟨fun t => absurd t (by decide), fun t => absurd t.1 (by omega)⟩
    · rw [if_neg y]
      exact ⟨fun t => ⟨by omega, t⟩, fun t => t.2⟩
  have hu : td_b (if 16 ≤ j then 0 else b (j + 1)) i = true ↔ (j < 16 ∧ td_b (b (j + 1)) i = true) := by
    by_cases y : 16 ≤ j
    · rw [if_pos y, td_0]
      exact ⟨fun t => absurd t (by decide), fun t => absurd t.1 (by omega)⟩
    · rw [if_neg y]
      exact ⟨fun t => ⟨by omega, t⟩, fun t => t.2⟩
  simp only [Bool.or_eq_true, Bool.and_eq_true, decide_eq_true_eq, hd, hu, or_assoc]
/-- on the way: between the seeds and what they come to -/
def td_way (a5 a6 c : Nat → Int32) : Prop := (∀ p, td_gs a6 p → td_gs c p) ∧ (∀ p, td_gs c p → td_gs a5 p) ∧ (∀ C : Nat × Nat → Prop, (∀ p, td_gs a6 p → C p) → td_cl (td_gs a5) C → ∀ p, td_gs c p → C p)
theorem td_gs_17 {a5 c : Nat → Int32} (h17 : ∀ j, j < 17 → td_17 (a5 j)) (h : ∀ p, td_gs c p → td_gs a5 p) {j : Nat} (hj : j < 17) : td_17 (c j) := by
  intro i hi
  cases e : td_b (c j) i
  · rfl
  · have g := (h (j, i) ⟨hj, e⟩).2
    rw [h17 j hj i hi] at g
    exact absurd g (by decide)
theorem td_way_up {a5 a6 c : Nat → Int32} (h17 : ∀ j, j < 17 → td_17 (a5 j)) (h : td_way a5 a6 c) {j : Nat} (hj : j < 17) : td_way a5 a6 (upd c j (td_nr c j &&& a5 j)) ∧ (∀ p, td_gs c p → td_gs (upd c j (td_nr c j &&& a5 j)) p) := by
  have c17 := td_gs_17 h17 h.2.1 hj
  have up : ∀ p, td_gs c p → td_gs (upd c j (td_nr c j &&& a5 j)) p := by
    rintro ⟨q, i⟩ ⟨hq, hb⟩
    refine ⟨hq, ?_⟩
    dsimp only at hq hb ⊢
    by_cases e : q = j
    · subst e
      rw [pk_us, td_and, Bool.and_eq_true]
      exact ⟨(td_nr_bit c17 i).mpr (Or.inl hb), (h.2.1 (q, i) ⟨hq, hb⟩).2⟩
    · rw [pk_un e]; exact hb
  refine ⟨⟨fun p hp => up p (h.1 p hp), ?_, ?_⟩, up⟩
  · rintro ⟨q, i⟩ ⟨hq, hb⟩
    dsimp only at hq hb
    by_cases e : q = j
    · subst e
      rw [pk_us, td_and, Bool.and_eq_true] at hb
      exact ⟨hq, hb.2⟩
    · rw [pk_un e] at hb
      exact h.2.1 (q, i) ⟨hq, hb⟩
  · intro C hC1 hC2
    have hc := h.2.2 C hC1 hC2
    rintro ⟨q, i⟩ ⟨hq, hb⟩
    dsimp only at hq hb
    by_cases e : q = j
    · subst e
      rw [pk_us, td_and, Bool.and_eq_true] at hb
      have hg : td_gs a5 (q, i) := ⟨hq, hb.2⟩
      rcases (td_nr_bit c17 i).mp hb.1 with g | ⟨g1, g⟩ | g | ⟨g1, g⟩ | ⟨g1, g⟩
      · exact hc (q, i) ⟨hq, g⟩
      · exact hC2 (q, i - 1) (q, i) (hc _ ⟨hq, g⟩) hg (Or.inl ⟨rfl, Or.inl (by dsimp only; omega)⟩)
      · exact hC2 (q, i + 1) (q, i) (hc _ ⟨hq, g⟩) hg (Or.inl ⟨rfl, Or.inr rfl⟩)
      · exact hC2 (q - 1, i) (q, i) (hc _ ⟨by dsimp only; omega, g⟩) hg (Or.inr ⟨rfl, Or.inl (by dsimp only; omega)⟩)
      · exact hC2 (q + 1, i) (q, i) (hc _ ⟨by dsimp only; omega, g⟩) hg (Or.inr ⟨rfl, Or.inr rfl⟩)
    · rw [pk_un e] at hb
      exact hc (q, i) ⟨hq, hb⟩
theorem td_way_lt {a5 a6 c : Nat → Int32} (h17 : ∀ j, j < 17 → td_17 (a5 j)) (h : td_way a5 a6 c) {j : Nat} (hj : j < 17) (hne : ¬ td_nr c j &&& a5 j = c j) : td_gc c < td_gc (upd c j (td_nr c j &&& a5 j)) := by
  obtain ⟨h1, h2⟩ := td_way_up h17 h hj
  have hm : ∀ j' i, j' < 17 → td_b (c j') i = true → td_b (upd c j (td_nr c j &&& a5 j) j') i = true := fun j' i hj' hb => (h2 (j', i) ⟨hj', hb⟩).2
  obtain ⟨i, hi⟩ : ∃ i, ¬ td_b (td_nr c j &&& a5 j) i = td_b (c j) i := Classical.byContradiction (fun g => hne (td_ext (fun i _ => Classical.byContradiction (fun y => g ⟨i, y⟩))))
  have hmi := hm j i hj
  rw [pk_us] at hmi
  have e1 : td_b (c j) i = false := by
    cases e : td_b (c j) i
    · rfl
    · rw [hmi e, e] at hi; exact absurd rfl hi
  have e2 : td_b (td_nr c j &&& a5 j) i = true := by
    cases e : td_b (td_nr c j &&& a5 j) i
    · rw [e, e1] at hi; exact absurd rfl hi
    · rfl
  have hlt : i < 17 := by
    have e3 := e2
    rw [td_and, Bool.and_eq_true] at e3
    exact td_17_lt (h17 j hj) e3.2
  exact td_gc_lt hm hj hlt e1 (by rw [pk_us]; exact e2)
theorem td_way_closed {a5 a6 c : Nat → Int32} (h17 : ∀ j, j < 17 → td_17 (a5 j)) (h : td_way a5 a6 c) (hr : ∀ j, j < 17 → td_nr c j &&& a5 j = c j) : td_cl (td_gs a5) (td_gs c) := by
  rintro ⟨j, i⟩ ⟨j', i'⟩ ⟨hp, hp2⟩ ⟨hq, hq2⟩ ha
  dsimp only at hp hp2 hq hq2
  refine ⟨hq, ?_⟩
  dsimp only
  have c17 := td_gs_17 h17 h.2.1 hq
  rw [← hr j' hq, td_and, Bool.and_eq_true]
  refine ⟨(td_nr_bit c17 i').mpr ?_, hq2⟩
  unfold td_adj at ha
  dsimp only at ha
  rcases ha with ⟨e, e' | e'⟩ | ⟨e, e' | e'⟩
  · subst e; subst e'
    exact Or.inr (Or.inl ⟨by omega, hp2⟩)
  · subst e; subst e'
    exact Or.inr (Or.inr (Or.inl hp2))
  · subst e; subst e'
    exact Or.inr (Or.inr (Or.inr (Or.inl ⟨by omega, hp2⟩)))
  · subst e; subst e'
    exact Or.inr (Or.inr (Or.inr (Or.inr ⟨by omega, hp2⟩)))
theorem td_upd_id {f : Nat → Int32} {k : Nat} {x : Int32} (h : x = f k) : upd f k x = f := by
  funext j
  by_cases e : j = k
  · rw [e, pk_us, h]
  · rw [pk_un e]
theorem td_w_spread {post : St1 → Prop} {a1 a2 a3 a4 a5 a6 : Nat → Int32} (h17 : ∀ j, j < 17 → td_17 (a5 j)) (hsub : ∀ p, td_gs a6 p → td_gs a5 p) (H : ∀ b6, td_fill (td_gs a5) (td_gs a6) (td_gs b6) → post (a1, a2, a3, a4, a5, b6)) : wpX_spread post (a1, a2, a3, a4, a5, a6) := by
  unfold wpX_spread
  dsimp only
  have done : ∀ b6, td_way a5 a6 b6 → td_cl (td_gs a5) (td_gs b6) → post (a1, a2, a3, a4, a5, b6) := fun b6 hw hc => H b6 ⟨hw.1, hw.2.1, hc, hw.2.2⟩
  refine pk_loop (fun n i (u : Int32 × (Nat → Int32)) => wX_spread_4 post n u.1 (nI i) a1 a2 a3 a4 a5 u.2) (fun i u => td_way a5 a6 u.2 ∧ ((u.1 = 0 ∧ td_cl (td_gs a5) (td_gs u.2)) ∨ (u.1 = 1 ∧ i ≤ td_gc u.2))) 300 0 (1, a6) (by omega) ⟨⟨fun _ h => h, hsub, fun C hC _ => hC⟩, Or.inr ⟨rfl, Nat.zero_le _⟩⟩ ?_ ?_
  · intro n u h
    have := td_gc_le u.2
    refine pk_le 300 300 (fun _ => ?_) (fun z => absurd z (by omega))
    rcases h.2 with g | g
    · exact done u.2 h.1 g.2
    · exact absurd g.2 (by omega)
  · intro n i u hi h hn
    obtain ⟨x1, b6⟩ := u
    dsimp only at h hn
    refine pk_le 300 i (fun z => absurd z (by omega)) (fun _ => br_c (fun e => ?_) (fun e => ?_))
    · rcases h.2 with g | g
      · exact done b6 h.1 g.2
      · exact absurd (g.1.symm.trans e) (by decide)
    · have hgc : i ≤ td_gc b6 := by
        rcases h.2 with g | g
        · exact absurd g.1 e
        · exact g.2
      refine pk_loop (fun m j (u : Int32 × (Nat → Int32)) => wX_spread_19 post (wX_spread_4 post n) (nI i) m u.1 (nI j) a1 a2 a3 a4 a5 u.2) (fun j u => td_way a5 a6 u.2 ∧ ((u.1 = 0 ∧ u.2 = b6 ∧ ∀ t, t < j → td_nr b6 t &&& a5 t = b6 t) ∨ (u.1 = 1 ∧ i < td_gc u.2))) 17 0 (0, b6) (by omega) ⟨h.1, Or.inl ⟨rfl, rfl, fun t ht => absurd ht (by omega)⟩⟩ ?_ ?_
      · intro m u g
        refine pk_le 17 17 (fun _ => nm_r (nI_1 i) (hn u ⟨g.1, ?_⟩)) (fun z => absurd z (by omega))
        rcases g.2 with ⟨y1, y2, y3⟩ | ⟨y1, y2⟩
        · refine Or.inl ⟨y1, ?_⟩
          rw [y2]
          exact td_way_closed h17 h.1 y3
        · exact Or.inr ⟨y1, y2⟩
      · intro m j u hj g hm
        obtain ⟨x1, c⟩ := u
        dsimp only at g hm
        have hup := td_way_up h17 g.1 hj
        have fin : ∀ z0 z1 : Int32, z1 ||| z0 = td_nr c j → wX_spread_80 post (wX_spread_4 post n) (wX_spread_19 post (wX_spread_4 post n) (nI i) m) x1 (nI i) (nI j) (c j) z0 z1 a1 a2 a3 a4 a5 c := by
          intro z0 z1 hz
          have vin : vp_in (nI j) 17 := pk_in j 17 hj
          unfold wX_spread_80
          rw [hz, nI_clamp (show j < 2 ^ 31 by omega)]
          refine nm_e ⟨vin, vin, nm_e (br_c (fun e0 => ⟨vin, ?_⟩) (fun e0 => nm_r (nI_1 j) ?_))⟩
          · rw [pk_us]
            have hx : c = b6 ∧ ∀ t, t < j → td_nr b6 t &&& a5 t = b6 t := by
              rcases g.2 with y | y
              · exact y.2
              · exact absurd (y.1.symm.trans e0) (by decide)
            refine br_c (fun ev => nm_r (nI_1 j) ?_) (fun ev => nm_r (nI_1 j) ?_)
            · refine hm (0, _) ⟨hup.1, Or.inl ⟨rfl, ?_, ?_⟩⟩
              · show upd c j (td_nr c j &&& a5 j) = b6
                rw [td_upd_id ev]; exact hx.1
              · intro t ht
                rcases Nat.lt_or_ge t j with z | z
                · exact hx.2 t z
                · rw [show t = j by omega, ← hx.1]; exact ev
            · refine hm (1, _) ⟨hup.1, Or.inr ⟨rfl, ?_⟩⟩
              have := td_way_lt h17 g.1 hj ev
              rw [← hx.1] at hgc
              exact Nat.lt_of_le_of_lt hgc this
          · refine hm (1, _) ⟨hup.1, Or.inr ⟨rfl, ?_⟩⟩
            have hx : i < td_gc c := by
              rcases g.2 with y | y
              · exact absurd y.1 e0
              · exact y.2
            exact Nat.lt_of_lt_of_le hx (td_gc_mono (fun j' i' hj' hb => (hup.2 (j', i') ⟨hj', hb⟩).2))
        have fin2 : ∀ z0 z1 : Int32, z1 ||| z0 = ((c j ||| (c j <<< ((1 : Int32) &&& 31))) ||| (c j >>> ((1 : Int32) &&& 31))) ||| td_dn c j → wX_spread_61 post (wX_spread_4 post n) (wX_spread_19 post (wX_spread_4 post n) (nI i) m) x1 (nI i) (nI j) (c j) z0 z1 a1 a2 a3 a4 a5 c := by
          intro z0 z1 hz
          unfold wX_spread_61
          refine pk_le 16 j (fun z => fin _ _ ?_) (fun z => ?_)
          · rw [hz]
            unfold td_nr
            rw [if_pos z]
          · rw [nI_1]
            refine ⟨vp_in_nI (by omega) (by omega), ?_⟩
            rw [nI_clamp (show j + 1 < 2 ^ 31 by omega)]
            refine fin _ _ ?_
            rw [hz]
            unfold td_nr
            rw [if_neg (by omega)]
        refine pk_le 17 j (fun z => absurd z (by omega)) (fun _ => ⟨pk_in j 17 hj, nm_r (e' := c j) (by rw [nI_clamp (show j < 2 ^ 31 by omega)]) ?_⟩)
        refine pk_le j 0 (fun z => fin2 _ _ ?_) (fun z => ?_)
        · unfold td_dn
          rw [if_pos (show j = 0 by omega)]
        · obtain ⟨j', rfl⟩ : ∃ j', j = j' + 1 := ⟨j - 1, by omega⟩
          rw [nI_pred]
          refine ⟨vp_in_nI (by omega) (by omega), ?_⟩
          rw [nI_clamp (show j' < 2 ^ 31 by omega)]
          refine fin2 _ _ ?_
          unfold td_dn
          rw [if_neg (by omega), show j' + 1 - 1 = j' by omega]
theorem td_w_takeAway {post : St1 → Prop} {a1 a2 a3 a4 a5 a6 : Nat → Int32} (H : ∀ b5 b6, (∀ j, j < 17 → b5 j = a5 j &&& (a6 j ^^^ (-1)) ∧ b6 j = 0) → post (a1, a2, a3, a4, b5, b6)) : wpX_takeAway post (a1, a2, a3, a4, a5, a6) := by
  unfold wpX_takeAway
  dsimp only
  refine pk_loop (fun n i (u : (Nat → Int32) × (Nat → Int32)) => wX_takeAway_2 post n (nI i) a1 a2 a3 a4 u.1 u.2) (fun i u => (∀ j, j < i → u.1 j = a5 j &&& (a6 j ^^^ (-1)) ∧ u.2 j = 0) ∧ ∀ j, i ≤ j → u.1 j = a5 j ∧ u.2 j = a6 j) 17 0 (a5, a6) (by omega) ⟨fun j hj => absurd hj (by omega), fun _ _ => ⟨rfl, rfl⟩⟩ ?_ ?_
  · intro n u h
    exact pk_le 17 17 (fun _ => H _ _ h.1) (fun z => absurd z (by omega))
  · intro n i u hi h hn
    obtain ⟨b5, b6⟩ := u
    dsimp only at h hn
    have vin : vp_in (nI i) 17 := pk_in i 17 hi
    refine pk_le 17 i (fun z => absurd z (by omega)) (fun _ => ⟨vin, vin, vin, nm_e ⟨vin, nm_e (nm_r (nI_1 i) ?_)⟩⟩)
    rw [nI_clamp (show i < 2 ^ 31 by omega)]
    refine hn (upd b5 i (b5 i &&& (b6 i ^^^ (-1))), upd b6 i 0) ⟨fun j hj => ?_, fun j hj => ?_⟩
    · dsimp only
      by_cases e : j = i
      · rw [e, pk_us, pk_us, (h.2 i (by omega)).1, (h.2 i (by omega)).2]
        exact ⟨rfl, rfl⟩
      · rw [pk_un e, pk_un e]; exact h.1 j (by omega)
    · dsimp only
      rw [pk_un (by omega), pk_un (by omega)]; exact h.2 j (by omega)
/-! countPieces -/
def td_cp (a5 : Nat → Int32) (j n : Nat) (b5 b6 : Nat → Int32) : Prop := td_part (td_gs a5) (td_gs b5) n ∧ (∀ t, t < 17 → td_17 (b5 t)) ∧ (∀ t, t < 17 → b6 t = 0) ∧ (∀ t, t < j → b5 t = 0)
theorem td_cp_step {a5 b5 b6 c6 d5 d6 : Nat → Int32} {j n l : Nat} (hj : j < 17) (h : td_cp a5 j n b5 b6) (hl : td_b (b5 j) l = true) (hl2 : ∀ c, c < l → td_b (b5 j) c = false) (hF : td_fill (td_gs b5) (td_gs (upd b6 j (b5 j &&& (-(b5 j))))) (td_gs c6)) (hd : ∀ j, j < 17 → d5 j = b5 j &&& (c6 j ^^^ (-1)) ∧ d6 j = 0) : td_cp a5 j (n + 1) d5 d6 ∧ td_b (d5 j) l = false := by
  obtain ⟨h1, h2, h3, h4⟩ := h
  have es : td_gs (upd b6 j (b5 j &&& (-(b5 j)))) = fun q => q = (j, l) := by
    funext q
    obtain ⟨q1, q2⟩ := q
    apply propext
    constructor
    · rintro ⟨g1, g2⟩
      dsimp only at g1 g2
      by_cases e : q1 = j
      · subst e
        rw [pk_us, td_low hl hl2, decide_eq_true_eq] at g2
        rw [g2]
      · rw [pk_un e, h3 q1 g1, td_0] at g2
        exact absurd g2 (by decide)
    · intro e
      rw [Prod.mk.injEq] at e
      refine ⟨by dsimp only; omega, ?_⟩
      dsimp only
      rw [e.1, e.2, pk_us, td_low hl hl2]
      exact decide_eq_true rfl
  rw [es] at hF
  refine ⟨⟨td_part_step h1 (p := (j, l)) ⟨hj, hl⟩ hF ?_, ?_, fun t ht => (hd t ht).2, ?_⟩, ?_⟩
  · rintro ⟨q1, q2⟩
    constructor
    · rintro ⟨g1, g2⟩
      dsimp only at g1 g2
      rw [(hd q1 g1).1, td_andn, Bool.and_eq_true, Bool.not_eq_true'] at g2
      refine ⟨⟨g1, g2.1⟩, fun f => ?_⟩
      have := f.2
      dsimp only at this
      rw [g2.2] at this
      exact absurd this (by decide)
    · rintro ⟨⟨g1, g2⟩, g3⟩
      dsimp only at g1 g2
      refine ⟨g1, ?_⟩
      dsimp only
      rw [(hd q1 g1).1, td_andn, Bool.and_eq_true, Bool.not_eq_true']
      refine ⟨g2, ?_⟩
      cases e : td_b (c6 q1) q2
      · rfl
      · exact absurd ⟨g1, e⟩ g3
  · intro t ht i hi
    rw [(hd t ht).1, td_andn, h2 t ht i hi]
    rfl
  · intro t ht
    rw [(hd t (by omega)).1, h4 t ht, td_eq0]
    intro i
    rw [td_andn, td_0]
    rfl
  · rw [(hd j hj).1, td_andn, (hF.1 (j, l) rfl).2]
    simp
theorem td_w_countPieces {post : Int32 → St1 → Prop} {a1 a2 a3 a4 a5 a6 : Nat → Int32} (h17 : ∀ j, j < 17 → td_17 (a5 j)) (H : ∀ n b5 b6, n ≤ 289 → td_comp (td_gs a5) n → post (nI n) (a1, a2, a3, a4, b5, b6)) : wpX_countPieces post (a1, a2, a3, a4, a5, a6) := by
  unfold wpX_countPieces
  dsimp only
  refine pk_loop (fun n i (b6 : Nat → Int32) => wX_countPieces_4 post 0 n (nI i) a1 a2 a3 a4 a5 b6) (fun i b6 => ∀ j, j < i → b6 j = 0) 17 0 a6 (by omega) (fun j hj => absurd hj (by omega)) ?_ ?_
  · intro n b6 h
    refine pk_le 17 17 (fun _ => ?_) (fun z => absurd z (by omega))
    refine pk_loop (fun n j (u : Nat × (Nat → Int32) × (Nat → Int32)) => wX_countPieces_25 post n (nI u.1) (nI j) a1 a2 a3 a4 u.2.1 u.2.2) (fun j u => u.1 ≤ 17 * j ∧ td_cp a5 j u.1 u.2.1 u.2.2) 17 0 (0, a5, b6) (by omega) ⟨Nat.le_refl 0, td_part_0 _, h17, h, fun t ht => absurd ht (by omega)⟩ ?_ ?_
    · intro n u g
      obtain ⟨c, b5, b6⟩ := u
      dsimp only at g
      refine pk_le 17 17 (fun _ => H c _ _ (by omega) (td_part_end g.2.1 ?_)) (fun z => absurd z (by omega))
      rintro ⟨q1, q2⟩ ⟨y1, y2⟩
      dsimp only at y1 y2
      rw [g.2.2.2.2 q1 y1, td_0] at y2
      exact absurd y2 (by decide)
    · intro n j u hj g hn
      obtain ⟨c, b5, b6⟩ := u
      dsimp only at g hn
      refine pk_le 17 j (fun z => absurd z (by omega)) (fun _ => ?_)
      refine pk_loop (fun m i (u : Nat × (Nat → Int32) × (Nat → Int32)) => wX_countPieces_33 post (wX_countPieces_25 post n) (nI j) m (nI u.1) (nI i) a1 a2 a3 a4 u.2.1 u.2.2) (fun i u => u.1 ≤ 17 * j + i ∧ td_cp a5 j u.1 u.2.1 u.2.2 ∧ ∀ c, c < i → td_b (u.2.1 j) c = false) 17 0 (c, b5, b6) (by omega) ⟨g.1, g.2, fun c hc => absurd hc (by omega)⟩ ?_ ?_
      · intro m u g
        obtain ⟨c, b5, b6⟩ := u
        dsimp only at g
        refine pk_le 17 17 (fun _ => nm_r (nI_1 j) (hn (c, b5, b6) ⟨by dsimp only; omega, g.2.1.1, g.2.1.2.1, g.2.1.2.2.1, fun t ht => ?_⟩)) (fun z => absurd z (by omega))
        dsimp only
        rcases Nat.lt_or_ge t j with z | z
        · exact g.2.1.2.2.2 t z
        · rw [show t = j by omega, td_eq0]
          intro i
          rcases Nat.lt_or_ge i 17 with y | y
          · exact g.2.2 i y
          · exact g.2.1.2.1 j hj i y
      · intro m i u hi g hm
        obtain ⟨c, b5, b6⟩ := u
        dsimp only at g hm
        have vin : vp_in (nI j) 17 := pk_in j 17 hj
        refine pk_le 17 i (fun z => absurd z (by omega)) (fun _ => ⟨vin, ?_⟩)
        rw [nI_clamp (show j < 2 ^ 31 by omega)]
        refine br_c (fun e => nm_r (nI_1 j) (hn (c, b5, b6) ⟨by dsimp only; omega, g.2.1.1, g.2.1.2.1, g.2.1.2.2.1, fun t ht => ?_⟩)) (fun e => ⟨vin, vin, vin, nm_e ?_⟩)
        · dsimp only
          rcases Nat.lt_or_ge t j with z | z
          · exact g.2.1.2.2.2 t z
          · rw [show t = j by omega]; exact e
        · obtain ⟨l, hl, hl2⟩ := td_least e
          have hli : i ≤ l := by
            rcases Nat.lt_or_ge l i with z | z
            · rw [g.2.2 l z] at hl; exact absurd hl (by decide)
            · exact z
          refine td_w_spread g.2.1.2.1 ?_ (fun c6 hF => td_w_takeAway (fun d5 d6 hd => nm_r (nI_1 c) (nm_r (nI_1 i) ?_)))
          · rintro ⟨q1, q2⟩ ⟨y1, y2⟩
            dsimp only at y1 y2
            refine ⟨y1, ?_⟩
            dsimp only
            by_cases eq : q1 = j
            · subst eq
              rw [pk_us, td_and, Bool.and_eq_true] at y2
              exact y2.1
            · rw [pk_un eq, g.2.1.2.2.1 q1 y1, td_0] at y2
              exact absurd y2 (by decide)
          · have st := td_cp_step hj g.2.1 hl hl2 hF hd
            refine hm (c + 1, d5, d6) ⟨by dsimp only; omega, st.1, fun x hx => ?_⟩
            dsimp only
            by_cases ex : x = l
            · rw [ex]; exact st.2
            · rw [(hd j hj).1, td_andn, hl2 x (by omega)]
              rfl
  · intro n i b6 hi h hn
    refine pk_le 17 i (fun z => absurd z (by omega)) (fun _ => ⟨pk_in i 17 hi, nm_e (nm_r (nI_1 i) ?_)⟩)
    rw [nI_clamp (show i < 2 ^ 31 by omega)]
    refine hn _ (fun j hj => ?_)
    by_cases e : j = i
    · rw [e, pk_us]
    · rw [pk_un e]; exact h j (by omega)
end
section
/-! walks: pieces, holes, fill, rim, outline, part, rimless -/
theorem td_L0 {k : Int32} {R : Nat → Int32} {a3 a4 s3 s4 : Nat → Int32} (h : td_L k R 0 17 a3 a4 s3 s4) {j : Nat} (hj : j < 17) : s3 j = td_in k R j ∧ s4 j = td_rm k R j := by
  have := h.1 j hj
  rw [Nat.mul_zero, Nat.zero_add] at this
  exact this
theorem td_OK3 {a1 a2 : Nat → Int32} {s : Nat} (hOK : td_OK a1 a2) (hs : s < 12) (hk : a1 s = 3) : td_ok 3 (td_sh a2 s) := by
  have := hOK s hs
  rw [hk] at this
  exact this
theorem td_w_pieces {post : Int32 → St1 → Prop} {a1 a2 a3 a4 a5 a6 : Nat → Int32} {s : Nat} (hs : s < 12) (hOK : td_OK a1 a2) (hk : a1 s = 3) (H : ∀ n s3 s4 b5 b6, n ≤ 289 → td_comp (td_ins (td_pts (td_sh a2 s))) n → post (nI n) (a1, a2, s3, s4, b5, b6)) : wpX_pieces post (a1, a2, a3, a4, a5, a6) (nI s) := by
  have ok := td_OK3 hOK hs hk
  unfold wpX_pieces
  dsimp only
  refine td_w_isSlot hs (br_f (by decide) ⟨pk_in s 12 hs, ?_⟩)
  rw [nI_clamp (show s < 2 ^ 31 by omega)]
  refine br_f (by rw [hk]; decide) (td_w_lay (w := 0) hs (by omega) (fun s3 s4 h => ?_))
  rw [hk] at h
  refine pk_loop (fun n i (b5 : Nat → Int32) => wX_pieces_29 post (nI s) n (nI i) a1 a2 s3 s4 b5 a6) (fun i b5 => ∀ j, j < i → b5 j = td_in 3 (td_sh a2 s) j) 17 0 a5 (by omega) (fun j hj => absurd hj (by omega)) ?_ ?_
  · intro n b5 g
    have e : td_gs b5 = td_ins (td_pts (td_sh a2 s)) := by
      funext p
      obtain ⟨p1, p2⟩ := p
      apply propext
      constructor
      · rintro ⟨y1, y2⟩
        dsimp only at y1 y2
        rw [g p1 y1] at y2
        exact (td_insA ok.1 p1 p2).mp y2
      · intro y
        have y1 : p1 < 17 := by
          have := y.1
          dsimp only at this
          omega
        refine ⟨y1, ?_⟩
        dsimp only
        rw [g p1 y1]
        exact (td_insA ok.1 p1 p2).mpr y
    refine pk_le 17 17 (fun _ => td_w_countPieces (fun j hj => ?_) (fun c b5' b6 hc hcomp => ?_)) (fun z => absurd z (by omega))
    · rw [g j hj]
      exact td_in_17 ok (by decide) j
    · rw [e] at hcomp
      exact H c _ _ _ _ hc hcomp
  · intro n i b5 hi g hn
    refine pk_le 17 i (fun z => absurd z (by omega)) (fun _ => ⟨pk_in s 12 hs, ?_⟩)
    rw [nI_clamp (show s < 2 ^ 31 by omega), nI_clamp (show i < 2 ^ 31 by omega)]
    refine br_t hk ⟨vp_in_nI (by omega) (by omega), vp_in_nI (by omega) (by omega), nm_e (nm_r (nI_1 i) (hn _ (fun j hj => ?_)))⟩
    by_cases e : j = i
    · rw [e, pk_us]; exact (td_L0 h hi).1
    · rw [pk_un e]; exact g j (by omega)
/-! holes -/
def td_os (R : Nat → Int32) (j : Nat) : Int32 := 131071 &&& (td_bd 3 R j ^^^ (-1))
def td_bo (R : Nat → Int32) (j : Nat) : Int32 := td_os R j &&& (if j = 0 ∨ j = 16 then 131071 else 65537)
theorem td_os_bit {R : Nat → Int32} (h : td_fit 3 R) {j i : Nat} (hj : j < 17) : td_b (td_os R j) i = true ↔ td_out (td_pts R) (j, i) := by
  unfold td_os
  rw [td_andn, td_all, Bool.and_eq_true, decide_eq_true_eq, Bool.not_eq_true']
  unfold td_out
  dsimp only
  rw [← td_bdA h j i]
  constructor
  · rintro ⟨g1, g2⟩
    exact ⟨hj, g1, by rw [g2]; decide⟩
  · rintro ⟨_, g1, g2⟩
    refine ⟨g1, ?_⟩
    cases e : td_b (td_bd 3 R j) i
    · rfl
    · exact absurd e g2
theorem td_bo_bit {R : Nat → Int32} (h : td_fit 3 R) {j i : Nat} (hj : j < 17) : td_b (td_bo R j) i = true ↔ td_brd (td_pts R) (j, i) := by
  unfold td_bo td_brd td_edge
  rw [td_and, Bool.and_eq_true, td_os_bit h hj]
  dsimp only
  by_cases z : j = 0 ∨ j = 16
  · rw [if_pos z, td_all, decide_eq_true_eq]
    constructor
    · rintro ⟨g1, _⟩
      exact ⟨g1, by omega⟩
    · rintro ⟨g1, _⟩
      exact ⟨g1, g1.2.1⟩
  · rw [if_neg z, td_ends, decide_eq_true_eq]
    constructor
    · rintro ⟨g1, g2⟩
      exact ⟨g1, by omega⟩
    · rintro ⟨g1, g2⟩
      exact ⟨g1, by omega⟩
theorem td_w_layHoles {post : St1 → Prop} {a1 a2 a3 a4 a5 a6 : Nat → Int32} {s : Nat} (hs : s < 12) (hOK : td_OK a1 a2) (hk : a1 s = 3) (H : ∀ s3 s4 b5 b6 (F : Nat × Nat → Prop), td_fill (td_out (td_pts (td_sh a2 s))) (td_brd (td_pts (td_sh a2 s))) F → (∀ p, td_gs b5 p ↔ (td_out (td_pts (td_sh a2 s)) p ∧ ¬ F p)) → (∀ j, j < 17 → td_17 (b5 j)) → post (a1, a2, s3, s4, b5, b6)) : wpX_layHoles post (a1, a2, a3, a4, a5, a6) (nI s) := by
  have ok := td_OK3 hOK hs hk
  unfold wpX_layHoles
  dsimp only
  refine td_w_lay (w := 0) hs (by omega) (fun s3 s4 h => ?_)
  rw [hk] at h
  refine pk_loop (fun n i (u : (Nat → Int32) × (Nat → Int32)) => wX_layHoles_8 post n (nI i) a1 a2 s3 s4 u.1 u.2) (fun i u => ∀ j, j < i → u.1 j = td_os (td_sh a2 s) j ∧ u.2 j = td_bo (td_sh a2 s) j) 17 0 (a5, a6) (by omega) (fun j hj => absurd hj (by omega)) ?_ ?_
  · intro n u g
    obtain ⟨b5, b6⟩ := u
    dsimp only at g
    have e5 : td_gs b5 = td_out (td_pts (td_sh a2 s)) := by
      funext p
      obtain ⟨p1, p2⟩ := p
      apply propext
      constructor
      · rintro ⟨y1, y2⟩
        dsimp only at y1 y2
        rw [(g p1 y1).1] at y2
        exact (td_os_bit ok.1 y1).mp y2
      · intro y
        refine ⟨y.1, ?_⟩
        dsimp only
        rw [(g p1 y.1).1]
        exact (td_os_bit ok.1 y.1).mpr y
    have e6 : td_gs b6 = td_brd (td_pts (td_sh a2 s)) := by
      funext p
      obtain ⟨p1, p2⟩ := p
      apply propext
      constructor
      · rintro ⟨y1, y2⟩
        dsimp only at y1 y2
        rw [(g p1 y1).2] at y2
        exact (td_bo_bit ok.1 y1).mp y2
      · intro y
        refine ⟨y.1.1, ?_⟩
        dsimp only
        rw [(g p1 y.1.1).2]
        exact (td_bo_bit ok.1 y.1.1).mpr y
    have h17 : ∀ j, j < 17 → td_17 (b5 j) := by
      intro j hj i hi
      rw [(g j hj).1]
      unfold td_os
      rw [td_andn, td_all, decide_eq_false (by omega)]
      rfl
    refine pk_le 17 17 (fun _ => td_w_spread h17 (fun p hp => ?_) (fun c6 hF => td_w_takeAway (fun d5 d6 hd => ?_))) (fun z => absurd z (by omega))
    · rw [e6] at hp
      rw [e5]
      exact hp.1
    · have hF' := hF
      rw [e5, e6] at hF'
      refine H _ _ d5 d6 (td_gs c6) hF' ?_ ?_
      · rintro ⟨p1, p2⟩
        rw [← e5]
        constructor
        · rintro ⟨y1, y2⟩
          dsimp only at y1 y2
          rw [(hd p1 y1).1, td_andn, Bool.and_eq_true, Bool.not_eq_true'] at y2
          refine ⟨⟨y1, y2.1⟩, fun f => ?_⟩
          have := f.2
          dsimp only at this
          rw [y2.2] at this
          exact absurd this (by decide)
        · rintro ⟨⟨y1, y2⟩, y3⟩
          dsimp only at y1 y2
          refine ⟨y1, ?_⟩
          dsimp only
          rw [(hd p1 y1).1, td_andn, Bool.and_eq_true, Bool.not_eq_true']
          refine ⟨y2, ?_⟩
          cases e : td_b (c6 p1) p2
          · rfl
          · exact absurd ⟨y1, e⟩ y3
      · intro j hj i hi
        rw [(hd j hj).1, td_andn, h17 j hj i hi]
        rfl
  · intro n i u hi g hn
    obtain ⟨b5, b6⟩ := u
    dsimp only at g hn
    have l := td_L0 h hi
    have vin : vp_in (nI i) 17 := pk_in i 17 hi
    have fin : ∀ m : Int32, m = (if i = 0 ∨ i = 16 then 131071 else 65537) → wX_layHoles_8 post n (nI (i + 1)) a1 a2 s3 s4 (upd b5 i (131071 &&& ((s3 i ||| s4 i) ^^^ (-1)))) (upd b6 i ((131071 &&& ((s3 i ||| s4 i) ^^^ (-1))) &&& m)) := by
      intro m hm
      refine hn (upd b5 i (131071 &&& ((s3 i ||| s4 i) ^^^ (-1))), upd b6 i ((131071 &&& ((s3 i ||| s4 i) ^^^ (-1))) &&& m)) (fun j hj => ?_)
      dsimp only
      by_cases e : j = i
      · rw [e, pk_us, pk_us, l.1, l.2, hm]
        exact ⟨rfl, rfl⟩
      · rw [pk_un e, pk_un e]; exact g j (by omega)
    refine pk_le 17 i (fun z => absurd z (by omega)) (fun _ => td_w_outside (by omega) ⟨vin, nm_e ⟨vin, ?_⟩⟩)
    rw [nI_clamp (show i < 2 ^ 31 by omega), pk_us]
    refine pk_eq i 0 (fun z => ⟨vin, nm_e (nm_r (nI_1 i) (fin _ (by rw [if_pos (Or.inl z)])))⟩) (fun z => pk_eq i 16 (fun z2 => ⟨vin, nm_e (nm_r (nI_1 i) (fin _ (by rw [if_pos (Or.inr z2)])))⟩) (fun z2 => ⟨vin, nm_e (nm_r (nI_1 i) (fin _ (by rw [if_neg (by omega)])))⟩))
theorem td_w_holes {post : Int32 → St1 → Prop} {a1 a2 a3 a4 a5 a6 : Nat → Int32} {s : Nat} (hs : s < 12) (hOK : td_OK a1 a2) (hk : a1 s = 3) (H : ∀ n s3 s4 b5 b6 (F : Nat × Nat → Prop), n ≤ 289 → td_fill (td_out (td_pts (td_sh a2 s))) (td_brd (td_pts (td_sh a2 s))) F → td_comp (fun p => td_out (td_pts (td_sh a2 s)) p ∧ ¬ F p) n → post (nI n) (a1, a2, s3, s4, b5, b6)) : wpX_holes post (a1, a2, a3, a4, a5, a6) (nI s) := by
  unfold wpX_holes
  dsimp only
  refine td_w_areaRefusal hs (fun _ => br_t rfl (td_w_layHoles hs hOK hk (fun s3 s4 b5 b6 F hF hg h17 => td_w_countPieces h17 (fun n c5 c6 hn hc => H n _ _ _ _ F hn hF ?_)))) (fun g => absurd hk g)
  have e : td_gs b5 = fun p => td_out (td_pts (td_sh a2 s)) p ∧ ¬ F p := funext (fun p => propext (hg p))
  rw [e] at hc
  exact hc
theorem td_w_fill {post : Int32 → St1 → Prop} {a1 a2 a3 a4 a5 a6 : Nat → Int32} {s : Nat} (hs : s < 12) (hOK : td_OK a1 a2) (hk : a1 s = 3) (H : ∀ b s3 s4 b5 b6 (F : Nat × Nat → Prop), td_fr s a2 b → td_fill (td_out (td_pts (td_sh a2 s))) (td_brd (td_pts (td_sh a2 s))) F → (∀ p, td_pts (td_sh b s) p ↔ td_more (td_pts (td_sh a2 s)) F p) → td_OK a1 b → post (nI (td_gc (td_sh b s))) (a1, b, s3, s4, b5, b6)) : wpX_fill post (a1, a2, a3, a4, a5, a6) (nI s) := by
  have ok := td_OK3 hOK hs hk
  unfold wpX_fill
  dsimp only
  refine td_w_areaRefusal hs (fun _ => br_t rfl (td_w_layHoles hs hOK hk (fun s3 s4 b5 b6 F hF hg h17 => ?_))) (fun g => absurd hk g)
  refine pk_loop (fun n y (b : Nat → Int32) => wX_fill_19 post (nI s) n (nI (2 * y + 1)) a1 b s3 s4 b5 b6) (fun y b => td_fr s a2 b ∧ ∀ j, j < 17 → td_sh b s j = if j % 2 = 1 ∧ j < 2 * y + 1 then td_sh a2 s j ||| (b5 j &&& 43690) else td_sh a2 s j) 8 0 a2 (by omega) ⟨fun _ _ => rfl, fun j hj => by rw [if_neg (by omega)]⟩ ?_ ?_
  · intro n b g
    have hp : ∀ p, td_pts (td_sh b s) p ↔ td_more (td_pts (td_sh a2 s)) F p := by
      rintro ⟨j, i⟩
      unfold td_pts
      dsimp only
      constructor
      · intro hb
        have hj := td_sh_lt hb
        rw [g.2 j hj] at hb
        by_cases c : j % 2 = 1 ∧ j < 2 * 8 + 1
        · rw [if_pos c, td_or, td_and, td_odd] at hb
          simp only [Bool.or_eq_true, Bool.and_eq_true, decide_eq_true_eq] at hb
          rcases hb with hb | ⟨hb, hi⟩
          · exact Or.inl hb
          · have := (hg (j, i)).mp ⟨hj, hb⟩
            exact Or.inr ⟨⟨c.1, hi.2, hj, hi.1⟩, this⟩
        · rw [if_neg c] at hb
          exact Or.inl hb
      · rintro (hb | ⟨hc, ho⟩)
        · have c := td_fit3 ok.1 hb
          dsimp only at hb c
          rw [g.2 j c.2.2.1, if_pos ⟨c.1, by omega⟩, td_or, hb]
          rfl
        · have hb := ((hg (j, i)).mpr ho).2
          unfold td_cell at hc
          dsimp only at hb hc
          rw [g.2 j hc.2.2.1, if_pos ⟨hc.1, by omega⟩, td_or, td_and, td_odd, hb, decide_eq_true (show i < 17 ∧ i % 2 = 1 by omega)]
          simp
    have okb : td_OK a1 b := by
      refine td_OK_upd hOK g.1 (fun _ _ => rfl) ?_
      rw [hk]
      refine ⟨fun j i hb => ?_, Or.inr ⟨Or.inr (Or.inr rfl), ?_⟩⟩
      · have c := td_more_cell (td_pts_cell ok.1) _ ((hp (j, i)).mp hb)
        exact ⟨c.2.2.1, c.2.2.2, Or.inr (Or.inr ⟨rfl, c.1, c.2.1⟩)⟩
      · rcases ok.2 with e | ⟨_, j, hj⟩
        · exact absurd e (by decide)
        · obtain ⟨i, hi⟩ := td_ne0.mp hj
          exact ⟨j, td_ne0.mpr ⟨i, (hp (j, i)).mpr (Or.inl hi)⟩⟩
    exact pk_le 17 (2 * 8 + 1) (fun _ => td_w_count hs (fun j _ => td_OK_17 okb hs j) (H b _ _ _ _ F g.1 hF hp okb)) (fun z => absurd z (by omega))
  · intro n y b hy g hn
    refine pk_le 17 (2 * y + 1) (fun z => absurd z (by omega)) (fun _ => ?_)
    rw [td_ix]
    refine ⟨vp_in_nI (by omega) (by omega), vp_in_nI (by omega) (by omega), vp_in_nI (by omega) (by omega), nm_e (nm_r (e' := nI (2 * (y + 1) + 1)) (nI_add (2 * y + 1) 2) ?_)⟩
    rw [nI_clamp (show 17 * s + (2 * y + 1) < 2 ^ 31 by omega), nI_clamp (show 2 * y + 1 < 2 ^ 31 by omega)]
    refine hn _ ⟨fun t ht => ?_, fun j hj => ?_⟩
    · rw [pk_un (by omega)]; exact g.1 t ht
    · have gj := g.2 j hj
      rw [td_sh_in hj] at gj ⊢
      by_cases e : j = 2 * y + 1
      · rw [if_neg (by omega)] at gj
        rw [e] at gj ⊢
        rw [pk_us, if_pos (by omega), gj]
      · rw [pk_un (by omega), gj]
        by_cases c : j % 2 = 1 ∧ j < 2 * y + 1
        · rw [if_pos c, if_pos (by omega)]
        · rw [if_neg c, if_neg (by omega)]
/-! rim, outline -/
theorem td_w_rim {post : Int32 → St1 → Prop} {a1 a2 a3 a4 a5 a6 : Nat → Int32} {s : Nat} (hs : s < 12) (hOK : td_OK a1 a2) (hk : a1 s = 3) (H : ∀ s3 s4, post (nI (td_gc (td_ol (td_sh a2 s)))) (a1, a2, s3, s4, a5, a6)) : wpX_rim post (a1, a2, a3, a4, a5, a6) (nI s) := by
  have ok := td_OK3 hOK hs hk
  have h17 := td_fit_17 (td_ol_fit ok.1)
  unfold wpX_rim
  dsimp only
  refine td_w_areaRefusal hs (fun _ => br_t rfl (td_w_lay (w := 0) hs (by omega) (fun s3 s4 h => ?_))) (fun g => absurd hk g)
  rw [hk] at h
  refine pk_loop (σ := Unit) (fun n i _ => wX_rim_23 post a1 a2 s3 s4 a5 a6 n (nI (td_sum (fun j => td_pc (td_ol (td_sh a2 s) j)) i)) (nI i)) (fun _ _ => True) 17 0 () (by omega) trivial ?_ ?_
  · intro n _ _
    exact pk_le 17 17 (fun _ => H _ _) (fun z => absurd z (by omega))
  · intro n i _ hi _ hn
    have fin : ∀ z0 : Int32, z0 = (if i % 2 = 0 then 43690 else 87381) → wX_rim_52 post (wX_rim_23 post a1 a2 s3 s4 a5 a6 n) (nI i) z0 (s4 i) (nI (td_sum (fun j => td_pc (td_ol (td_sh a2 s) j)) i)) a1 a2 s3 s4 a5 a6 := by
      intro z0 hz
      have e : s4 i &&& z0 = td_ol (td_sh a2 s) i := by
        unfold td_ol
        rw [if_pos hi, hz, (td_L0 h hi).2, td_rm3]
      unfold wX_rim_52
      rw [e]
      exact td_w_ones (h17 i) (nm_r (e' := nI (td_sum (fun j => td_pc (td_ol (td_sh a2 s) j)) (i + 1))) (nI_add _ _) (nm_r (nI_1 i) (hn () trivial)))
    refine pk_le 17 i (fun z => absurd z (by omega)) (fun _ => ⟨vp_in_nI (by omega) (by omega), by decide, ?_⟩)
    rw [td_rem2 (by omega), nI_clamp (show i < 2 ^ 31 by omega)]
    exact pk_eq (i % 2) 0 (fun z => fin _ (by rw [if_pos z])) (fun z => fin _ (by rw [if_neg z]))
theorem td_w_outline {post : Int32 → St1 → Prop} {a1 a2 a3 a4 a5 a6 : Nat → Int32} {s o : Nat} (hs : s < 12) (ho : o < 12) (hOK : td_OK a1 a2) (hk : a1 s = 3) (H : ∀ b s3 s4, td_fr o a2 b → td_sh b o = td_ol (td_sh a2 s) → td_OK (upd a1 o 2) b → post (nI (td_gc (td_ol (td_sh a2 s)))) (upd a1 o 2, b, s3, s4, a5, a6)) : wpX_outline post (a1, a2, a3, a4, a5, a6) (nI s) (nI o) := by
  have ok := td_OK3 hOK hs hk
  unfold wpX_outline
  dsimp only
  refine td_w_isSlot ho (br_f (by decide) (td_w_areaRefusal hs (fun _ => br_t rfl (td_w_lay (w := 0) hs (by omega) (fun s3 s4 h => ⟨pk_in o 12 ho, nm_e ?_⟩))) (fun g => absurd hk g)))
  rw [hk] at h
  rw [nI_clamp (show o < 2 ^ 31 by omega)]
  refine pk_loop (fun n i (b : Nat → Int32) => wX_outline_37 post (nI o) n (nI i) (upd a1 o 2) b s3 s4 a5 a6) (fun i b => td_fr o a2 b ∧ ∀ j, j < i → b (17 * o + j) = td_ol (td_sh a2 s) j) 17 0 a2 (by omega) ⟨fun _ _ => rfl, fun j hj => absurd hj (by omega)⟩ ?_ ?_
  · intro n b g
    have e : td_sh b o = td_ol (td_sh a2 s) := by
      funext j
      by_cases z : j < 17
      · rw [td_sh_in z]; exact g.2 j z
      · unfold td_sh td_ol
        rw [if_neg z, if_neg z]
    have okb : td_OK (upd a1 o 2) b := by
      refine td_OK_upd hOK g.1 (fun q hq => pk_un hq) ?_
      rw [pk_us, e]
      exact td_ol_ok ok
    refine pk_le 17 17 (fun _ => td_w_count ho (fun j _ => td_OK_17 okb ho j) ?_) (fun z => absurd z (by omega))
    have := H b s3 s4 g.1 e okb
    rw [← e] at this
    exact this
  · intro n i b hi g hn
    have fin : ∀ x : Int32, x = td_ol (td_sh a2 s) i → wX_outline_37 post (nI o) n (nI (i + 1)) (upd a1 o 2) (upd b (17 * o + i) x) s3 s4 a5 a6 := by
      intro x hx
      refine hn _ ⟨fun t ht => ?_, fun j hj => ?_⟩
      · rw [pk_un (by omega)]; exact g.1 t ht
      · by_cases e : j = i
        · rw [e, pk_us]; exact hx
        · rw [pk_un (by omega)]; exact g.2 j (by omega)
    refine pk_le 17 i (fun z => absurd z (by omega)) (fun _ => ⟨vp_in_nI (by omega) (by omega), by decide, ?_⟩)
    rw [td_rem2 (by omega), td_ix, nI_clamp (show 17 * o + i < 2 ^ 31 by omega), nI_clamp (show i < 2 ^ 31 by omega), (td_L0 h hi).2, td_rm3]
    refine pk_eq (i % 2) 0 (fun z => ⟨vp_in_nI (by omega) (by omega), nm_e (nm_r (nI_1 i) (fin _ ?_))⟩) (fun z => ⟨vp_in_nI (by omega) (by omega), nm_e (nm_r (nI_1 i) (fin _ ?_))⟩)
    · unfold td_ol
      rw [if_pos hi, if_pos z]
    · unfold td_ol
      rw [if_pos hi, if_neg z]
theorem td_z1 : ∀ x, x < 17 → ¬ (((0 : Int32) >>> (nI x &&& 31)) &&& 1) = 1 := by decide +kernel
theorem td_w_part {post : Int32 → St1 → Prop} {a1 a2 a3 a4 a5 a6 : Nat → Int32} {s x y : Nat} (hs : s < 12) (hx : x < 17) (hy : y < 17) (hk : ¬ a1 s = 0) (h0 : td_rm (a1 s) (td_sh a2 s) y = 0) (H : ∀ r s3 s4, ¬ r = 1 → post r (a1, a2, s3, s4, a5, a6)) : wpX_part post (a1, a2, a3, a4, a5, a6) (nI s) (nI x) (nI y) := by
  unfold wpX_part
  dsimp only
  refine td_w_isSlot hs (br_f (by decide) ⟨pk_in s 12 hs, ?_⟩)
  rw [nI_clamp (show s < 2 ^ 31 by omega), nI_clamp (show y < 2 ^ 31 by omega)]
  refine br_f hk (pk_lt x 0 (fun z => absurd z (by omega)) (fun _ => pk_le 17 x (fun z => absurd z (by omega)) (fun _ => pk_lt y 0 (fun z => absurd z (by omega)) (fun _ => pk_lt y 17 (fun _ => ?_) (fun z => absurd z (by omega))))))
  refine td_w_lay (w := 0) hs (by omega) (fun s3 s4 h => ⟨vp_in_nI (by omega) (by omega), br_c (fun _ => H _ _ _ (by decide)) (fun _ => ⟨vp_in_nI (by omega) (by omega), br_f ?_ (H _ _ _ (by decide))⟩)⟩)
  show ¬ (s4 y >>> (nI x &&& 31)) &&& 1 = 1
  rw [(td_L0 h hy).2, h0]
  exact td_z1 x hx
theorem td_w_rimless {post : Int32 → St1 → Prop} {a1 a2 a3 a4 a5 a6 : Nat → Int32} {s : Nat} (hs : s < 12) (hk : ¬ a1 s = 0) (h0 : ∀ y, y < 9 → td_rm (a1 s) (td_sh a2 s) (2 * y) = 0) (H : ∀ s3 s4, post 1 (a1, a2, s3, s4, a5, a6)) : wpL_rimless post (a1, a2, a3, a4, a5, a6) (nI s) := by
  unfold wpL_rimless
  dsimp only
  refine pk_loop (fun n i (u : (Nat → Int32) × (Nat → Int32)) => wL_rimless_2 post (nI s) n (nI i) a1 a2 u.1 u.2 a5 a6) (fun _ _ => True) 81 0 (a3, a4) (by omega) trivial ?_ ?_
  · intro n u _
    exact pk_le 81 81 (fun _ => H _ _) (fun z => absurd z (by omega))
  · intro n i u hi _ hn
    refine pk_le 81 i (fun z => absurd z (by omega)) (fun _ => ⟨by decide, by decide, ?_⟩)
    rw [td_rem9 (show i < 2 ^ 31 by omega), td_div9 (show i < 2 ^ 31 by omega), td_mul2, td_mul2]
    refine td_w_part hs (by omega) (by omega) hk (h0 _ (by omega)) (fun r s3 s4 hr => br_f hr (nm_r (nI_1 i) (hn (s3, s4) trivial)))
end
section
/-! walks: filled -/
theorem td_w_kind {post : Int32 → Prop} {a1 a2 a3 a4 a5 a6 : Nat → Int32} {s : Nat} (hs : s < 12) (H : post (a1 s)) : wpX_kind post (a1, a2, a3, a4, a5, a6) (nI s) := by
  unfold wpX_kind
  dsimp only
  rw [nI_clamp (show s < 2 ^ 31 by omega)]
  exact td_w_isSlot hs (br_f (by decide) ⟨pk_in s 12 hs, H⟩)
theorem td_w_size {post : Int32 → Prop} {a1 a2 a3 a4 a5 a6 : Nat → Int32} {s : Nat} (hs : s < 12) (hOK : td_OK a1 a2) (H : post (nI (td_gc (td_sh a2 s)))) : wpX_size post (a1, a2, a3, a4, a5, a6) (nI s) := by
  unfold wpX_size
  dsimp only
  exact td_w_isSlot hs (br_f (by decide) (td_w_count hs (fun j _ => td_OK_17 hOK hs j) H))
theorem td_fill_le {G S F F' : Nat × Nat → Prop} (h : td_fill G S F) (h' : td_fill G S F') (p : Nat × Nat) (hp : F p) : F' p := h.2.2.2 F' h'.1 h'.2.2.1 p hp
theorem td_w_107 {post : Int32 → St1 → Prop} {a1 a2 a3 a4 a5 a6 : Nat → Int32} (hOK : td_OK a1 a2) (hk : a1 10 = 3) (H : ∀ c1 b s3 s4 s5 s6, td_OK c1 b → post 1 (c1, b, s3, s4, s5, s6)) : wL_filled_107 post (nI (td_gc (td_sh a2 10))) a1 a2 a3 a4 a5 a6 := by
  unfold wL_filled_107
  refine td_w_pieces (s := 10) (by omega) hOK hk (fun n _ _ _ _ hn hcomp => td_w_rim (s := 10) (by omega) hOK hk (fun _ _ => td_w_outline (s := 10) (o := 9) (by omega) (by omega) hOK hk (fun b _ _ hfr he ok => br_t rfl (td_w_kind (s := 9) (by omega) (br_t pk_us (td_w_size (s := 9) (by omega) ok ?_))))))
  rw [he]
  refine br_t rfl (td_w_rimless (s := 9) (by omega) (by rw [pk_us]; decide) (fun y hy => ?_) (fun _ _ => br_f (by decide) ?_))
  · rw [pk_us, td_rm2, he]
    unfold td_rmL
    rw [if_pos (by omega)]
    exact td_ol_un (td_OK3 hOK (by omega) hk).1 (by omega) (by omega)
  have hk9 : upd a1 9 2 10 = 3 := by rw [pk_un (by omega)]; exact hk
  have e10 : td_sh b 10 = td_sh a2 10 := td_fr_sh hfr (by omega)
  refine td_w_holes (s := 10) (by omega) ok hk9 (fun n2 _ _ _ _ F hn2 hF hcomp2 => td_w_fill (s := 10) (by omega) ok hk9 (fun b2 _ _ _ _ F2 hfr2 hF2 hp ok2 => td_w_holes (s := 10) (by omega) ok2 hk9 (fun n3 _ _ _ _ F3 hn3 hF3 hcomp3 => ?_)))
  have okA := td_OK3 ok (s := 10) (by omega) hk9
  have hA := td_pts_cell okA.1
  have eS : td_pts (td_sh b2 10) = td_more (td_pts (td_sh b 10)) F2 := funext (fun p => propext (hp p))
  rw [eS] at hF3 hcomp3
  have z3 : n3 = 0 := (td_comp_0 hcomp3).mpr (fun p g => g.2 (td_no_holes hA hF2 hF3 p g.1))
  subst z3
  refine br_t rfl (td_w_pieces (s := 10) (by omega) ok2 hk9 (fun n4 _ _ _ _ hn4 hcomp4 => ?_))
  rw [eS] at hcomp4
  rw [← e10] at hcomp
  have hle := td_pieces_le hA hF2 hcomp hcomp4
  have g1 := td_gc_le (td_sh b2 10)
  have g2 := td_gc_le (td_sh a2 10)
  have key : td_gc (td_sh b2 10) ≤ td_gc (td_sh a2 10) ↔ n2 = 0 := by
    rw [td_comp_0 hcomp2, ← e10]
    constructor
    · intro hgc p hpo
      obtain ⟨q, q1, q2, q3, q4⟩ := td_hole_cell hA hF hpo.1 hpo.2
      have q5 : ¬ F2 q := fun f => q4 (td_fill_le hF2 hF q f)
      have hq2 : td_b (td_sh b2 10 q.1) q.2 = true := (hp q).mpr (Or.inr ⟨q1, q3, q5⟩)
      have hq1 : td_b (td_sh b 10 q.1) q.2 = false := by
        cases e : td_b (td_sh b 10 q.1) q.2
        · rfl
        · exact absurd ⟨q, e, by unfold td_near; omega⟩ q3.2.2
      have := td_gc_lt (a := td_sh b 10) (c := td_sh b2 10) (fun j i _ hb => (hp (j, i)).mpr (Or.inl hb)) q1.2.2.1 q1.2.2.2 hq1 hq2
      omega
    · intro hno
      refine td_gc_mono (fun j i _ hb => ?_)
      rcases (hp (j, i)).mp hb with g | ⟨_, g3, g4⟩
      · exact g
      · exact absurd ⟨g3, fun f => g4 (td_fill_le hF hF2 _ f)⟩ (hno (j, i))
  refine pk_lt n n4 (fun z => absurd z (by omega)) (fun _ => pk_le (td_gc (td_sh b2 10)) (td_gc (td_sh a2 10)) (fun z => ?_) (fun z => ?_))
  · have e := key.mp z
    subst e
    exact br_t (by decide) (br_t rfl (H _ _ _ _ _ _ ok2))
  · have e : ¬ n2 = 0 := fun y => absurd (key.mpr y) (by omega)
    exact br_f (nI_nle (by omega) (by omega)) (br_t rfl (H _ _ _ _ _ _ ok2))
/-- the square at the corner and a shape -/
def td_mk (R : Nat → Int32) (j : Nat) : Int32 := (if j % 2 = 1 ∧ 1 ≤ j ∧ j < 3 then 0 ||| td_wide 0 1 else 0) ||| R j
theorem td_mk_of {t s : Nat} {a2 b d : Nat → Int32} (hst : ¬ s = t) (h0 : ∀ j, td_sh a2 t j = 0) (h1 : td_str t (fun x => x ||| td_wide (min (0 / 9) (10 / 9)) (max (0 / 9) (10 / 9))) (2 * min (0 % 9) (10 % 9) + 1) (2 * max (0 % 9) (10 % 9) + 1) a2 b) (h2 : td_fr t b d) (h3 : ∀ j, j < 17 → td_sh d t j = td_op 0 (td_sh b t j) (td_sh b s j)) : td_fr t a2 d ∧ ∀ j, j < 17 → td_sh d t j = td_mk (td_sh a2 s) j := by
  refine ⟨fun x hx => by rw [h2 x hx]; exact h1.1 x hx, fun j hj => ?_⟩
  have e := h1.2 j hj
  rw [h0 j] at e
  rw [h3 j hj, e, td_fr_sh h1.1 hst]
  rfl
theorem td_gc_pos {a1 a2 : Nat → Int32} {s : Nat} (h : td_OK a1 a2) (hs : s < 12) (hk : ¬ a1 s = 0) : ¬ td_gc (td_sh a2 s) = 0 := by
  intro e
  have z := (td_gc_0 (fun j _ => td_OK_17 h hs j)).mp e
  rcases (h s hs).2 with g | ⟨_, j, hj⟩
  · exact hk g
  · obtain ⟨i, hi⟩ := td_ne0.mp hj
    exact hj (z j (td_sh_lt hi))
theorem td_op0_pos {a b : Nat → Int32} {c : Nat → Int32} (h : ∀ j, j < 17 → a j = td_op 0 (b j) (c j)) (hb : ¬ td_gc b = 0) : ¬ td_gc a = 0 := by
  have := td_gc_mono (a := b) (c := a) (fun j i hj hi => by
    rw [h j hj]
    show td_b (b j ||| c j) i = true
    rw [td_or, hi]
    rfl)
  omega
theorem td_w_make {post : Int32 → St1 → Prop} {a1 a2 a3 a4 a5 a6 : Nat → Int32} {t s : Nat} (ht : t < 12) (hs : s < 12) (hst : ¬ s = t) (hOK : td_OK a1 a2) (hk : a1 s = 3) (h0 : a1 t = 0) (H : ∀ r b, td_fr t a2 b → (∀ j, j < 17 → td_sh b t j = td_mk (td_sh a2 s) j) → td_OK (upd a1 t 3) b → post r (upd a1 t 3, b, a3, a4, a5, a6)) (post' : Int32 → St1 → Prop) (hpost : ∀ r b1 b2 b3 b4 b5 b6, wpX_combine post (b1, b2, b3, b4, b5, b6) (nI t) (nI s) 0 → post' r (b1, b2, b3, b4, b5, b6)) : wpX_rectangle post' (a1, a2, a3, a4, a5, a6) (nI t) 0 10 := by
  have hz : ∀ j, td_sh a2 t j = 0 := by
    have := (hOK t ht).1
    rw [h0] at this
    exact td_fit0 this
  refine td_w_rectangle (f := 0) (t := 10) ht (by omega) (by omega) hOK (fun e => ?_) (fun r b hstr ok => hpost _ _ _ _ _ _ _ ?_)
  · exfalso
    rcases e with e | e
    · exact e (Or.inl h0)
    · omega
  · refine td_w_combine (h := 0) ht hs (by omega) ok (fun e => ?_) (fun e1 e2 d hfr hd okd => ?_)
    · exfalso
      rw [pk_us, pk_un hst, hk] at e
      rcases e with e | e | e
      · exact absurd e (by decide)
      · exact absurd e (by decide)
      · exact e rfl
    · have hp := td_op0_pos hd (td_gc_pos ok ht e1)
      rw [if_neg hp] at okd ⊢
      have m := td_mk_of hst hz hstr hfr hd
      exact H _ d m.1 m.2 okd
theorem td_sh_eq {a b : Nat → Int32} {s o : Nat} (h : ∀ j, j < 17 → td_sh a s j = td_sh b o j) : td_sh a s = td_sh b o := by
  funext j
  by_cases z : j < 17
  · exact h j z
  · unfold td_sh
    rw [if_neg z, if_neg z]
theorem td_w_filled {post : Int32 → St1 → Prop} {a1 a2 a3 a4 a5 a6 : Nat → Int32} {s o : Nat} (hs : s < 6) (ho : o < 6) (hOK : td_OK a1 a2) (hk : a1 s = 3) (H : ∀ c1 b s3 s4 s5 s6, td_OK c1 b → post 1 (c1, b, s3, s4, s5, s6)) : wpL_filled post (a1, a2, a3, a4, a5, a6) (nI s) (nI o) := by
  unfold wpL_filled
  dsimp only
  refine td_w_clear (s := 10) (by omega) hOK (fun _ b1 _ _ ok1 => ?_)
  dsimp only
  refine td_w_clear (s := 11) (by omega) ok1 (fun _ b2 _ _ ok2 => ?_)
  dsimp only
  refine td_w_make (t := 10) (s := s) (by omega) (by omega) (by omega) ok2 (by rw [pk_un (by omega), pk_un (by omega)]; exact hk) (by rw [pk_un (by omega), pk_us]) (fun _ b3 fr3 m3 ok3 => ?_) _ (fun _ _ _ _ _ _ _ h => h)
  dsimp only
  have hk3 : upd (upd (upd a1 10 0) 11 0) 10 3 s = 3 := by rw [pk_un (by omega), pk_un (by omega), pk_un (by omega)]; exact hk
  refine td_w_make (t := 11) (s := s) (by omega) (by omega) (by omega) ok3 hk3 (by rw [pk_un (by omega), pk_us]) (fun _ b4 fr4 m4 ok4 => ?_) _ (fun _ _ _ _ _ _ _ h => h)
  dsimp only
  have es : td_sh b3 s = td_sh b2 s := td_fr_sh fr3 (by omega)
  have eq : td_sh b4 11 = td_sh b4 10 := by
    refine td_sh_eq (fun j hj => ?_)
    rw [m4 j hj, td_fr_sh fr4 (show ¬ 10 = 11 by omega), m3 j hj, es]
  have k10 : upd (upd (upd (upd a1 10 0) 11 0) 10 3) 11 3 10 = 3 := by rw [pk_un (by omega), pk_us]
  have k11 : upd (upd (upd (upd a1 10 0) 11 0) 10 3) 11 3 11 = 3 := pk_us
  generalize upd (upd (upd (upd a1 10 0) 11 0) 10 3) 11 3 = c at ok4 k10 k11
  refine td_w_size (s := 10) (by omega) ok4 (td_w_kind (by omega) (br_c (fun ek => ?_) (fun _ => td_w_107 ok4 k10 H)))
  refine td_w_combine (s := 11) (o := o) (h := 2) (by omega) (by omega) (by omega) ok4 (fun e => ?_) (fun _ _ b5 fr5 m5 ok5 => ?_)
  · exfalso
    rw [k11, ek] at e
    rcases e with e | e | e
    · exact absurd e (by decide)
    · exact absurd e (by decide)
    · exact e rfl
  dsimp only
  have g5 := td_gc_le (td_sh b5 11)
  have e510 : td_sh b5 10 = td_sh b4 10 := td_fr_sh fr5 (by omega)
  refine pk_le (td_gc (td_sh b5 11)) 0 (fun z => ?_) (fun z => ?_)
  · rw [if_pos (by omega)] at ok5 ⊢
    rw [← e510]
    exact td_w_107 ok5 (by rw [pk_un (by omega)]; exact k10) H
  · rw [if_neg (by omega)] at ok5 ⊢
    refine td_w_combine (s := 11) (o := 10) (h := 0) (by omega) (by omega) (by omega) ok5 (fun e => ?_) (fun _ _ b6 fr6 m6 ok6 => ?_)
    · exfalso
      rw [k11, k10] at e
      rcases e with e | e | e
      · exact absurd e (by decide)
      · exact absurd e (by decide)
      · exact e rfl
    dsimp only
    have e610 : td_sh b6 10 = td_sh b4 10 := by rw [td_fr_sh fr6 (by omega), e510]
    have e611 : td_sh b6 11 = td_sh b4 10 := by
      refine td_sh_eq (fun j hj => ?_)
      rw [m6 j hj, m5 j hj, e510, eq]
      show (td_sh b4 10 j &&& (td_sh b4 o j ^^^ (-1))) ||| td_sh b4 10 j = td_sh b4 10 j
      apply td_ext
      intro i _
      rw [td_or, td_andn]
      cases td_b (td_sh b4 10 j) i <;> cases td_b (td_sh b4 o j) i <;> rfl
    have hp : ¬ td_gc (td_sh b6 11) = 0 := by
      rw [e611]
      exact td_gc_pos ok4 (by omega) (by rw [k10]; decide)
    rw [if_neg hp] at ok6 ⊢
    rw [e611]
    refine br_t rfl (td_w_is (s := 10) (o := 11) (m := 0) (by omega) (by omega) (by omega) ok6 (fun r t3 t4 g => ?_))
    dsimp only
    have q := (g (by rw [k10]; decide) (by rw [k11]; decide)).2.1 rfl
    refine br_t (q.mpr ?_) ?_
    · rw [e610, e611, k10, k11]
      exact fun _ _ => rfl
    · rw [← e610]
      exact td_w_107 ok6 k10 H
end
section
/-! the law -/
theorem td_w_cell {post : Int32 → Prop} {L : Nat} {xs : Nat → Int32} {u : St2} {i : Nat} (hL : L ≤ 260) (hi : i < 24) (H : ∀ c, post c) : wpL_cell post L xs u (nI i) :=
  pk_le L i (fun _ => H _) (fun z => ⟨vp_in_nI z (by omega), H _⟩)
theorem td_le0 {x : Int32} (h : ¬ x ≤ 0) : ¬ x = 0 := fun e => h (by rw [e]; decide)
theorem i_vc (xs : Nat → Int32) (L : Nat) (hL : L ≤ 260) : wpL_law (fun r => r = 1) L xs := by
  unfold wpL_law
  refine ⟨6, 318, by omega, by omega, ?_⟩
  unfold wpX_init
  refine ⟨by omega, by omega, by omega, by omega, by omega, by omega, by omega, by omega, by omega, by omega, by omega, by omega, nm_e ?_⟩
  dsimp only
  have h0 : td_OK (upd (fun _ => 0) 0 0) (fun _ => 0) := by
    intro s hs
    have e : upd (fun _ => 0) 0 0 s = 0 := by
      by_cases z : s = 0
      · rw [z, pk_us]
      · rw [pk_un z]
    rw [e]
    refine ⟨fun j i hb => ?_, Or.inl rfl⟩
    unfold td_sh at hb
    rw [ite_self, td_0] at hb
    exact absurd hb (by decide)
  refine pk_loop (fun n i (u : St1) => wL_law_10 (fun r => r = 1) L xs (1 + 6) (6 + 318) n (nI i) u.1 u.2.1 u.2.2.1 u.2.2.2.1 u.2.2.2.2.1 u.2.2.2.2.2) (fun _ u => td_OK u.1 u.2.1) 24 0 (upd (fun _ => 0) 0 0, (fun _ => 0), (fun _ => 0), (fun _ => 0), (fun _ => 0), (fun _ => 0)) (by omega) h0 ?_ ?_
  · intro n u h
    refine pk_le 24 24 (fun _ => td_w_pairs h (fun c _ _ hc => br_f (nI_pos (by omega)) rfl)) (fun z => absurd z (by omega))
  · intro n i u hi h hn
    obtain ⟨a1, a2, a3, a4, a5, a6⟩ := u
    dsimp only at h hn
    have go : ∀ b1 b2 b3 b4 b5 b6, td_OK b1 b2 → wL_law_10 (fun r => r = 1) L xs (1 + 6) (6 + 318) n (nI (i + 1)) b1 b2 b3 b4 b5 b6 := fun b1 b2 b3 b4 b5 b6 ok => hn (b1, b2, b3, b4, b5, b6) ok
    refine pk_le 24 i (fun z => absurd z (by omega)) (fun _ => td_w_cell hL hi (fun c => td_w_draw h (fun c1 b d5 ok => ?_)))
    obtain ⟨s, hs, es⟩ := td_mod6 (c >>> ((4 : Int32) &&& 31))
    obtain ⟨o, ho, eo⟩ := td_mod6 (c >>> ((26 : Int32) &&& 31))
    refine ⟨by decide, nm_r es ⟨by decide, nm_r eo ?_⟩⟩
    refine td_w_kind (by omega) (br_c (fun _ => nm_r (nI_1 i) (go _ _ _ _ _ _ ok)) (fun e1 => td_w_kind (by omega) (br_c (fun _ => nm_r (nI_1 i) (go _ _ _ _ _ _ ok)) (fun e2 => ?_))))
    have k1 := td_le0 e1
    have k2 := td_le0 e2
    refine td_w_relate (by omega) (by omega) k1 k2 (fun _ _ => td_w_relate (by omega) (by omega) k2 k1 (fun _ _ => td_w_turned (fun _ => td_MM_le ..) (fun _ => td_MM_le ..) (fun p hp => ?_) (br_f (by decide) (td_w_named (by omega) (by omega) ok k1 k2 (fun _ _ => br_f (by decide) (td_w_kind (by omega) (br_c (fun e3 => br_c (fun _ => td_w_filled hs ho ok e3 (fun _ _ _ _ _ _ ok' => br_f (by decide) (nm_r (nI_1 i) (go _ _ _ _ _ _ ok')))) (fun _ => nm_r (nI_1 i) (go _ _ _ _ _ _ ok))) (fun _ => nm_r (nI_1 i) (go _ _ _ _ _ _ ok)))))))))
    rw [td_MM_symm, show (p % 3 * 3 + p / 3) / 3 = p % 3 by omega, show (p % 3 * 3 + p / 3) % 3 = p / 3 by omega]
end
