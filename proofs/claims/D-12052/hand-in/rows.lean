section
/-! bits of an int: rb_t x i (began as the first family of laws/BITS.to-paste, its names changed) -/
def rb_t (x : Int32) (i : Nat) : Bool := x.toBitVec.getLsbD i
theorem rb_ext {x y : Int32} (h : ∀ i, i < 32 → rb_t x i = rb_t y i) : x = y := Int32.toBitVec_inj.mp (BitVec.eq_of_getLsbD_eq (fun i hi => h i hi))
theorem rb_or (x y : Int32) (i : Nat) : rb_t (x ||| y) i = (rb_t x i || rb_t y i) := by unfold rb_t; rw [Int32.toBitVec_or, BitVec.getLsbD_or]
theorem rb_and (x y : Int32) (i : Nat) : rb_t (x &&& y) i = (rb_t x i && rb_t y i) := by unfold rb_t; rw [Int32.toBitVec_and, BitVec.getLsbD_and]
theorem rb_xor (x y : Int32) (i : Nat) : rb_t (x ^^^ y) i = (rb_t x i ^^ rb_t y i) := by unfold rb_t; rw [Int32.toBitVec_xor, BitVec.getLsbD_xor]
theorem rb_big {x : Int32} {i : Nat} (h : 32 ≤ i) : rb_t x i = false := BitVec.getLsbD_of_ge _ _ h
theorem rb_m1 : ∀ i, i < 32 → rb_t (-1) i = true := by decide +kernel
theorem rb_0 (i : Nat) : rb_t 0 i = false := BitVec.getLsbD_zero
theorem rb_sl : ∀ n, n < 32 → ((nI n &&& 31).toBitVec.smod 32).toNat = n := by decide +kernel
theorem rb_shl (n : Nat) (hn : n < 32) (x : Int32) {i : Nat} (hi : i < 32) : rb_t (x <<< (nI n &&& 31)) i = (decide (n ≤ i) && rb_t x (i - n)) := by
  unfold rb_t
  rw [Int32.toBitVec_shiftLeft]
  show (x.toBitVec <<< ((nI n &&& 31).toBitVec.smod 32).toNat).getLsbD i = _
  rw [rb_sl n hn, BitVec.getLsbD_shiftLeft]
  rcases Nat.lt_or_ge i n with h | h
  · simp [h, Nat.not_le.mpr h]
  · simp [hi, h, Nat.not_lt.mpr h]
theorem rb_sshr (n : Nat) (hn : n < 32) (x : Int32) {i : Nat} (hi : i < 32) : rb_t (x >>> (nI n &&& 31)) i = if n + i < 32 then rb_t x (n + i) else rb_t x 31 := by
  unfold rb_t
  rw [Int32.toBitVec_shiftRight]
  show (x.toBitVec.sshiftRight ((nI n &&& 31).toBitVec.smod 32).toNat).getLsbD i = _
  rw [rb_sl n hn, BitVec.getLsbD_sshiftRight, BitVec.msb_eq_getLsbD_last]
  simp [hi]
theorem rb_1 : ∀ i, i < 32 → rb_t 1 i = decide (i = 0) := by decide +kernel
theorem rb_lo : ∀ i, i < 32 → rb_t 262143 i = decide (i < 18) := by decide +kernel
theorem rb_hi : ∀ i, i < 32 → rb_t 262144 i = decide (i = 18) := by decide +kernel
theorem rb_not (x : Int32) {i : Nat} (hi : i < 32) : rb_t (x ^^^ (-1)) i = !(rb_t x i) := by
  rw [rb_xor, rb_m1 i hi, Bool.xor_true]
theorem rb_tw {n i : Nat} (hn : n < 32) (hi : i < 32) : rb_t ((1 : Int32) <<< (nI n &&& 31)) i = decide (i = n) := by
  rw [rb_shl n hn 1 hi, rb_1 (i - n) (by omega)]
  by_cases h : i = n
  · subst h; simp
  · rw [decide_eq_false h]
    by_cases h2 : n ≤ i
    · rw [decide_eq_false (show ¬ i - n = 0 by omega), Bool.and_false]
    · rw [decide_eq_false h2, Bool.false_and]
/-- a bit as an int -/
def rb_i (b : Bool) : Int32 := if b = true then 1 else 0
theorem rb_i_bit (b : Bool) : ∀ i, i < 32 → rb_t (rb_i b) i = (b && decide (i = 0)) := by
  cases b
  · intro i _; exact rb_0 i
  · intro i hi; rw [Bool.true_and]; exact rb_1 i hi
theorem rb_bit (x : Int32) {i : Nat} (hi : i < 32) : (x >>> (nI i &&& 31)) &&& 1 = rb_i (rb_t x i) := by
  apply rb_ext
  intro j hj
  rw [rb_and, rb_sshr i hi x hj, rb_1 j hj, rb_i_bit _ j hj]
  by_cases h : j = 0
  · subst h; rw [if_pos (by omega), Nat.add_zero]
  · rw [decide_eq_false h, Bool.and_false, Bool.and_false]
theorem rb_i0 (b : Bool) : rb_i b = 0 ↔ b = false := by cases b <;> decide
theorem rb_i1 (b : Bool) : rb_i b = 1 ↔ b = true := by cases b <;> decide
/-- a test of one bit -/
theorem rb_if {x : Int32} {A B : Prop} (i : Nat) (hi : i < 32) (f : rb_t x i = false → A) (g : rb_t x i = true → B) : (((x >>> (nI i &&& 31)) &&& 1) = 0 → A) ∧ (¬ ((x >>> (nI i &&& 31)) &&& 1) = 0 → B) := by
  rw [rb_bit x hi, rb_i0]
  exact ⟨f, fun z => g (by cases h : rb_t x i; exact absurd h z; rfl)⟩
theorem rb_if1 {x : Int32} {A B : Prop} (i : Nat) (hi : i < 32) (f : rb_t x i = true → A) (g : rb_t x i = false → B) : (((x >>> (nI i &&& 31)) &&& 1) = 1 → A) ∧ (¬ ((x >>> (nI i &&& 31)) &&& 1) = 1 → B) := by
  rw [rb_bit x hi, rb_i1]
  exact ⟨f, fun z => g (by cases h : rb_t x i; rfl; exact absurd h z)⟩
theorem rb_lt {x : Int32} (m : Nat) (h : ∀ i, m ≤ i → i < 32 → rb_t x i = false) : ∃ k : Nat, k < 2 ^ m ∧ x = nI k := by
  refine ⟨x.toBitVec.toNat, Nat.lt_pow_two_of_testBit _ (fun i hi => ?_), Int32.toBitVec_inj.mp (by show _ = BitVec.ofNat 32 _; simp)⟩
  rcases Nat.lt_or_ge i 32 with h2 | h2
  · exact h i hi h2
  · exact rb_big (x := x) h2
theorem rb_sub0 {x y : Int32} (h : ∀ i, i < 32 → rb_t x i = true → rb_t y i = true) : x &&& (y ^^^ (-1)) = 0 := by
  apply rb_ext
  intro i hi
  rw [rb_and, rb_not y hi, rb_0]
  cases hx : rb_t x i
  · rfl
  · rw [h i hi hx]; rfl
theorem rb_iff {x y : Int32} (h : ∀ i, i < 32 → (rb_t x i = true ↔ rb_t y i = true)) : x = y := rb_ext (fun i hi => Bool.eq_iff_iff.mpr (h i hi))
/-- counting -/
def rb_c (P : Nat → Bool) : Nat → Nat
  | 0 => 0
  | n + 1 => rb_c P n + (P n).toNat
theorem rb_c_up (P : Nat → Bool) (m : Nat) : ∀ d, rb_c P m ≤ rb_c P (m + d)
  | 0 => Nat.le_refl _
  | d + 1 => Nat.le_trans (rb_c_up P m d) (Nat.le_add_right _ _)
theorem rb_c_up2 (P : Nat → Bool) {m n : Nat} (h : m ≤ n) : rb_c P m ≤ rb_c P n := by
  have := rb_c_up P m (n - m)
  rwa [show m + (n - m) = n by omega] at this
theorem rb_c_add {P Q R : Nat → Bool} : ∀ n, (∀ i, i < n → (P i).toNat = (Q i).toNat + (R i).toNat) → rb_c P n = rb_c Q n + rb_c R n
  | 0, _ => rfl
  | n + 1, h => by
    have ih := rb_c_add n (fun i hi => h i (by omega))
    have hn := h n (by omega)
    show rb_c P n + (P n).toNat = (rb_c Q n + (Q n).toNat) + (rb_c R n + (R n).toNat)
    omega
theorem rb_c_mono {P Q : Nat → Bool} : ∀ n, (∀ i, i < n → P i = true → Q i = true) → rb_c P n ≤ rb_c Q n
  | 0, _ => Nat.le_refl _
  | n + 1, h => by
    have ih := rb_c_mono n (fun i hi => h i (by omega))
    have hn : (P n).toNat ≤ (Q n).toNat := by
      cases hp : P n
      · exact Nat.zero_le _
      · rw [h n (by omega) hp]; exact Nat.le_refl _
    show rb_c P n + (P n).toNat ≤ rb_c Q n + (Q n).toNat
    omega
/-- sums -/
def rb_s (f : Nat → Int32) : Nat → Int32
  | 0 => 0
  | n + 1 => rb_s f n + f n
theorem rb_s_congr {f g : Nat → Int32} : ∀ n, (∀ i, i < n → f i = g i) → rb_s f n = rb_s g n
  | 0, _ => rfl
  | n + 1, h => by
    show rb_s f n + f n = rb_s g n + g n
    rw [rb_s_congr n (fun i hi => h i (by omega)), h n (by omega)]
theorem rb_s_add (f g : Nat → Int32) : ∀ n, rb_s (fun i => f i + g i) n = rb_s f n + rb_s g n
  | 0 => by show (0 : Int32) = 0 + 0; decide
  | n + 1 => by
    show rb_s (fun i => f i + g i) n + (f n + g n) = (rb_s f n + f n) + (rb_s g n + g n)
    rw [rb_s_add f g n]
    grind
theorem rb_s_0 : ∀ n, rb_s (fun _ => 0) n = 0
  | 0 => rfl
  | n + 1 => by
    show rb_s (fun _ => 0) n + 0 = 0
    rw [rb_s_0 n]; decide
theorem rb_s_swap (f : Nat → Nat → Int32) (m : Nat) : ∀ n, rb_s (fun i => rb_s (fun j => f i j) m) n = rb_s (fun j => rb_s (fun i => f i j) n) m
  | 0 => by
    show (0 : Int32) = rb_s (fun _ => 0) m
    rw [rb_s_0]
  | n + 1 => by
    show rb_s (fun i => rb_s (fun j => f i j) m) n + rb_s (fun j => f n j) m = rb_s (fun j => rb_s (fun i => f i j) n + f n j) m
    rw [rb_s_swap f m n, rb_s_add (fun j => rb_s (fun i => f i j) n) (fun j => f n j) m]
end
section
/-! the groups from which one comes to a group: the least set that is closed under the groups' own sources -/
def rs_p (N R : Nat → Int32) (g : Nat) : Int32 := N g ||| (R (g % 3) <<< (nI (g / 3 * 3) &&& 31))
def rs_c (N R : Nat → Int32) (S : Nat → Prop) : Prop := ∀ g, g < 18 → S g → ∀ h, h < 18 → rb_t (rs_p N R g) h = true → S h
def rs_r (N R : Nat → Int32) (g h : Nat) : Prop := ∀ S : Nat → Prop, S g → rs_c N R S → S h
theorem rs_refl (N R : Nat → Int32) (g : Nat) : rs_r N R g g := fun _ h _ => h
theorem rs_trans {N R : Nat → Int32} {a b c : Nat} (h : rs_r N R a b) (k : rs_r N R b c) : rs_r N R a c := fun S hs hc => k S (h S hs hc) hc
theorem rs_step {N R : Nat → Int32} {a b c : Nat} (h : rs_r N R a b) (hb : b < 18) (hc : c < 18) (k : rb_t (rs_p N R b) c = true) : rs_r N R a c := fun S hs hcl => hcl b hb (h S hs hcl) c hc k
noncomputable def rs_m (P : Nat → Prop) : Nat → Int32
  | 0 => 0
  | n + 1 => rs_m P n ||| (@ite Int32 (P n) (Classical.propDecidable _) ((1 : Int32) <<< (nI n &&& 31)) 0)
theorem rs_m_bit (P : Nat → Prop) {i : Nat} (hi : i < 32) : ∀ n, n ≤ 32 → (rb_t (rs_m P n) i = true ↔ i < n ∧ P i)
  | 0, _ => by
    show rb_t 0 i = true ↔ _
    rw [rb_0]
    exact ⟨fun z => absurd z (by decide), fun z => absurd z.1 (by omega)⟩
  | n + 1, hn => by
    show rb_t (rs_m P n ||| (@ite Int32 (P n) (Classical.propDecidable _) ((1 : Int32) <<< (nI n &&& 31)) 0)) i = true ↔ _
    have ih := rs_m_bit P hi n (by omega)
    rw [rb_or, Bool.or_eq_true, ih]
    by_cases hp : P n
    · rw [if_pos hp, rb_tw (by omega) hi, decide_eq_true_iff]
      constructor
      · rintro (h | h)
        · exact ⟨by omega, h.2⟩
        · exact ⟨by omega, by rw [h]; exact hp⟩
      · intro h
        by_cases e : i = n
        · exact Or.inr e
        · exact Or.inl ⟨by omega, h.2⟩
    · rw [if_neg hp, rb_0]
      constructor
      · rintro (h | h)
        · exact ⟨by omega, h.2⟩
        · exact absurd h (by decide)
      · intro h
        by_cases e : i = n
        · exact absurd h.2 (by rw [e]; exact hp)
        · exact Or.inl ⟨by omega, h.2⟩
noncomputable def rs_s (N R : Nat → Int32) (g : Nat) : Int32 := rs_m (rs_r N R g) 18
theorem rs_s_bit (N R : Nat → Int32) (g i : Nat) : rb_t (rs_s N R g) i = true ↔ i < 18 ∧ rs_r N R g i := by
  rcases Nat.lt_or_ge i 32 with h | h
  · exact rs_m_bit _ h 18 (by omega)
  · rw [rb_big h]
    exact ⟨fun z => absurd z (by decide), fun z => absurd z.1 (by omega)⟩
theorem rs_uniq {N R : Nat → Int32} {g : Nat} {x : Int32} (h1 : ∀ i, rb_t x i = true → i < 18 ∧ rs_r N R g i) (h2 : rb_t x g = true) (h3 : rs_c N R (fun i => rb_t x i = true)) : x = rs_s N R g :=
  rb_iff (fun i _ => by
    rw [rs_s_bit]
    exact ⟨h1 i, fun h => h.2 (fun i => rb_t x i = true) h2 h3⟩)
theorem rs_self (N R : Nat → Int32) {g : Nat} (hg : g < 18) : rb_t (rs_s N R g) g = true := (rs_s_bit N R g g).mpr ⟨hg, rs_refl N R g⟩
theorem rs_in {N R : Nat → Int32} {g h : Nat} (hh : rb_t (rs_s N R g) h = true) : ∀ i, rb_t (rs_s N R h) i = true → rb_t (rs_s N R g) i = true := fun i hi => by
  rw [rs_s_bit] at hh hi ⊢
  exact ⟨hi.1, rs_trans hh.2 hi.2⟩
/-- a group's own sources are in -/
theorem rs_one {N R : Nat → Int32} {g h : Nat} (hg : g < 18) (hh : h < 18) (k : rb_t (rs_p N R g) h = true) : rb_t (rs_s N R g) h = true := (rs_s_bit N R g h).mpr ⟨hh, rs_step (rs_refl N R g) hg hh k⟩
/-! the members of a group -/
def rm_f (E : Nat → Int32) (S : Int32) : Nat → Int32
  | 0 => 0
  | n + 1 => if rb_t S n = true then rm_f E S n ||| E n else rm_f E S n
theorem rm_f_bit (E : Nat → Int32) (S : Int32) (p : Nat) : ∀ n, (rb_t (rm_f E S n) p = true ↔ ∃ g, g < n ∧ rb_t S g = true ∧ rb_t (E g) p = true)
  | 0 => by
    show rb_t 0 p = true ↔ _
    rw [rb_0]
    exact ⟨fun z => absurd z (by decide), fun ⟨g, z, _⟩ => absurd z (by omega)⟩
  | n + 1 => by
    have ih := rm_f_bit E S p n
    show rb_t (if rb_t S n = true then rm_f E S n ||| E n else rm_f E S n) p = true ↔ _
    by_cases h : rb_t S n = true
    · rw [if_pos h, rb_or, Bool.or_eq_true, ih]
      constructor
      · rintro (⟨g, h1, h2, h3⟩ | h1)
        · exact ⟨g, by omega, h2, h3⟩
        · exact ⟨n, by omega, h, h1⟩
      · rintro ⟨g, h1, h2, h3⟩
        by_cases e : g = n
        · exact Or.inr (by rw [← e]; exact h3)
        · exact Or.inl ⟨g, by omega, h2, h3⟩
    · rw [if_neg h, ih]
      constructor
      · rintro ⟨g, h1, h2, h3⟩
        exact ⟨g, by omega, h2, h3⟩
      · rintro ⟨g, h1, h2, h3⟩
        by_cases e : g = n
        · exact absurd h2 (by rw [e]; exact h)
        · exact ⟨g, by omega, h2, h3⟩
/-- a state of the relations: entered, nested, ruledBy -/
abbrev rt_S : Type := (Nat → Int32) × (Nat → Int32) × (Nat → Int32)
noncomputable def rm_m (s : rt_S) (g : Nat) : Int32 := rm_f s.1 (rs_s s.2.1 s.2.2 g) 18
/-- its masks are narrow -/
def rt_o (s : rt_S) : Prop := (∀ g, g < 18 → ∀ i, 6 ≤ i → rb_t (s.1 g) i = false) ∧ (∀ g, g < 18 → ∀ i, 18 ≤ i → rb_t (s.2.1 g) i = false) ∧ (∀ g, g < 3 → ∀ i, 3 ≤ i → rb_t (s.2.2 g) i = false)
theorem rm_bit (s : rt_S) (g p : Nat) : rb_t (rm_m s g) p = true ↔ ∃ h, h < 18 ∧ rb_t (rs_s s.2.1 s.2.2 g) h = true ∧ rb_t (s.1 h) p = true := rm_f_bit _ _ _ 18
theorem rm_in {s : rt_S} {g h : Nat} (hh : rb_t (rs_s s.2.1 s.2.2 g) h = true) : ∀ i, rb_t (rm_m s h) i = true → rb_t (rm_m s g) i = true := fun i hi => by
  rw [rm_bit] at hi ⊢
  obtain ⟨y, h1, h2, h3⟩ := hi
  exact ⟨y, h1, rs_in hh y h2, h3⟩
theorem rm_hi {s : rt_S} (ho : rt_o s) (g : Nat) {i : Nat} (hi : 6 ≤ i) : rb_t (rm_m s g) i = false := by
  cases h : rb_t (rm_m s g) i
  · rfl
  · obtain ⟨y, h1, _, h3⟩ := (rm_bit s g i).mp h
    rw [ho.1 y h1 i hi] at h3
    exact absurd h3 (by decide)
theorem rm_63 {s : rt_S} (ho : rt_o s) (g : Nat) : ∃ k : Nat, k < 64 ∧ rm_m s g = nI k := rb_lt 6 (fun i hi _ => rm_hi ho g hi)
theorem rm_own {s : rt_S} {g p : Nat} (hg : g < 18) (h : rb_t (s.1 g) p = true) : rb_t (rm_m s g) p = true := (rm_bit s g p).mpr ⟨g, hg, rs_self _ _ hg, h⟩
/-- the mask of those below n of which f says so -/
def rg_f (f : Nat → Bool) : Nat → Int32
  | 0 => 0
  | n + 1 => if f n = true then rg_f f n ||| ((1 : Int32) <<< (nI n &&& 31)) else rg_f f n
theorem rg_bit (f : Nat → Bool) {i : Nat} (hi : i < 32) : ∀ n, n ≤ 32 → rb_t (rg_f f n) i = (decide (i < n) && f i)
  | 0, _ => by
    show rb_t 0 i = _
    rw [rb_0, decide_eq_false (by omega), Bool.false_and]
  | n + 1, hn => by
    have ih := rg_bit f hi n (by omega)
    show rb_t (if f n = true then rg_f f n ||| ((1 : Int32) <<< (nI n &&& 31)) else rg_f f n) i = _
    by_cases h : f n = true
    · rw [if_pos h, rb_or, ih, rb_tw (by omega) hi]
      by_cases e : i = n
      · subst e
        rw [h, decide_eq_true rfl, decide_eq_true (show i < i + 1 by omega), Bool.or_true, Bool.true_and]
      · rw [decide_eq_false e, Bool.or_false]
        by_cases e2 : i < n
        · rw [decide_eq_true e2, decide_eq_true (show i < n + 1 by omega)]
        · rw [decide_eq_false e2, decide_eq_false (show ¬ i < n + 1 by omega)]
    · rw [if_neg h, ih]
      by_cases e : i = n
      · subst e
        have h' : f i = false := by cases hf : f i; rfl; exact absurd hf h
        rw [h', Bool.and_false, Bool.and_false]
      · by_cases e2 : i < n
        · rw [decide_eq_true e2, decide_eq_true (show i < n + 1 by omega)]
        · rw [decide_eq_false e2, decide_eq_false (show ¬ i < n + 1 by omega)]
/-! one change -/
def rt_w (x : Int32) (p : Nat) (v : Int32) : Int32 := if v = 0 then x &&& (((1 : Int32) <<< (nI p &&& 31)) ^^^ (-1)) else x ||| ((1 : Int32) <<< (nI p &&& 31))
theorem rt_w_bit (x : Int32) {p : Nat} (v : Int32) (hp : p < 32) {i : Nat} (hi : i < 32) : rb_t (rt_w x p v) i = if i = p then decide (¬ v = 0) else rb_t x i := by
  unfold rt_w
  by_cases hv : v = 0
  · rw [if_pos hv, rb_and, rb_not _ hi, rb_tw hp hi]
    by_cases e : i = p
    · rw [if_pos e, decide_eq_true e, decide_eq_false (show ¬ ¬ v = 0 from fun z => z hv), Bool.not_true, Bool.and_false]
    · rw [if_neg e, decide_eq_false e, Bool.not_false, Bool.and_true]
  · rw [if_neg hv, rb_or, rb_tw hp hi]
    by_cases e : i = p
    · rw [if_pos e, decide_eq_true e, decide_eq_true hv, Bool.or_true]
    · rw [if_neg e, decide_eq_false e, Bool.or_false]
theorem rt_w_back (x : Int32) {p : Nat} (v b : Int32) (hp : p < 32) (hb : b = rb_i (rb_t x p)) : rt_w (rt_w x p v) p b = x := by
  apply rb_ext
  intro i hi
  rw [rt_w_bit _ b hp hi]
  by_cases e : i = p
  · rw [if_pos e, e, hb]
    cases rb_t x p <;> decide
  · rw [if_neg e, rt_w_bit _ v hp hi, if_neg e]
theorem rt_w_hi (x : Int32) {p m : Nat} (v : Int32) (hp : p < m) (hm : m ≤ 32) (h : ∀ i, m ≤ i → rb_t x i = false) : ∀ i, m ≤ i → rb_t (rt_w x p v) i = false := fun i hi => by
  rcases Nat.lt_or_ge i 32 with z | z
  · rw [rt_w_bit x v (by omega) z, if_neg (by omega)]
    exact h i hi
  · exact rb_big z
theorem rt_uu (f : Nat → Int32) (i : Nat) (v : Int32) : upd (upd f i v) i (f i) = f := by
  funext j
  by_cases e : j = i
  · rw [e, pk_us]
  · rw [pk_un e, pk_un e]
def rt_k (so p q : Nat) (v : Int32) (s : rt_S) : rt_S := if so = 0 then (upd s.1 q (rt_w (s.1 q) p v), s.2.1, s.2.2) else if so = 1 then (s.1, upd s.2.1 q (rt_w (s.2.1 q) p v), s.2.2) else (s.1, s.2.1, upd s.2.2 q (rt_w (s.2.2 q) p v))
/-- the mask that a change is about -/
def rt_a (so q : Nat) (s : rt_S) : Int32 := if so = 0 then s.1 q else if so = 1 then s.2.1 q else s.2.2 q
theorem rt_k0 (p q : Nat) (v : Int32) (s : rt_S) : rt_k 0 p q v s = (upd s.1 q (rt_w (s.1 q) p v), s.2.1, s.2.2) := rfl
theorem rt_k1 (p q : Nat) (v : Int32) (s : rt_S) : rt_k 1 p q v s = (s.1, upd s.2.1 q (rt_w (s.2.1 q) p v), s.2.2) := rfl
theorem rt_k2 (p q : Nat) (v : Int32) (s : rt_S) : rt_k 2 p q v s = (s.1, s.2.1, upd s.2.2 q (rt_w (s.2.2 q) p v)) := rfl
theorem rt_3 {so : Nat} {P : Nat → Prop} (h : so ≤ 2) (h0 : P 0) (h1 : P 1) (h2 : P 2) : P so := co_3 h0 h1 h2 (by omega)
theorem rt_back {so p q : Nat} {v b : Int32} {s : rt_S} (hso : so ≤ 2) (hp : p < 32) (hb : b = rb_i (rb_t (rt_a so q s) p)) : rt_k so p q b (rt_k so p q v s) = s := by
  revert hb
  refine rt_3 (P := fun so => b = rb_i (rb_t (rt_a so q s) p) → rt_k so p q b (rt_k so p q v s) = s) hso ?_ ?_ ?_
  · intro hb
    rw [rt_k0, rt_k0]
    show (upd (upd s.1 q (rt_w (s.1 q) p v)) q (rt_w (upd s.1 q (rt_w (s.1 q) p v) q) p b), s.2.1, s.2.2) = s
    rw [pk_us, rt_w_back (s.1 q) v b hp hb, rt_uu]
  · intro hb
    rw [rt_k1, rt_k1]
    show (s.1, upd (upd s.2.1 q (rt_w (s.2.1 q) p v)) q (rt_w (upd s.2.1 q (rt_w (s.2.1 q) p v) q) p b), s.2.2) = s
    rw [pk_us, rt_w_back (s.2.1 q) v b hp hb, rt_uu]
  · intro hb
    rw [rt_k2, rt_k2]
    show (s.1, s.2.1, upd (upd s.2.2 q (rt_w (s.2.2 q) p v)) q (rt_w (upd s.2.2 q (rt_w (s.2.2 q) p v) q) p b)) = s
    rw [pk_us, rt_w_back (s.2.2 q) v b hp hb, rt_uu]
theorem rt_upd_hi {f : Nat → Int32} {N m q p : Nat} {v : Int32} (hm : m ≤ 32) (hp : p < m) (h : ∀ g, g < N → ∀ i, m ≤ i → rb_t (f g) i = false) (hq : q < N) : ∀ g, g < N → ∀ i, m ≤ i → rb_t (upd f q (rt_w (f q) p v) g) i = false := fun g hg i hi => by
  by_cases e : g = q
  · rw [e, pk_us]
    exact rt_w_hi _ v hp hm (h q hq) i hi
  · rw [pk_un e]
    exact h g hg i hi
/-- what a change may be about -/
def rt_g (so p q : Nat) : Prop := so ≤ 2 ∧ p < 18 ∧ (so = 0 → p < 6 ∧ q < 18) ∧ (so = 1 → q < 18) ∧ (so = 2 → p < 3 ∧ q < 3)
theorem rt_k_o {so p q : Nat} {v : Int32} {s : rt_S} (hg : rt_g so p q) (ho : rt_o s) : rt_o (rt_k so p q v s) := by
  obtain ⟨h, hp, g0, g1, g2⟩ := hg
  revert g0 g1 g2
  refine rt_3 (P := fun so => (so = 0 → p < 6 ∧ q < 18) → (so = 1 → q < 18) → (so = 2 → p < 3 ∧ q < 3) → rt_o (rt_k so p q v s)) h ?_ ?_ ?_
  · intro g0 _ _
    exact ⟨rt_upd_hi (by omega) (g0 rfl).1 ho.1 (g0 rfl).2, ho.2.1, ho.2.2⟩
  · intro _ g1 _
    exact ⟨ho.1, rt_upd_hi (by omega) hp ho.2.1 (g1 rfl), ho.2.2⟩
  · intro _ _ g2
    exact ⟨ho.1, ho.2.1, rt_upd_hi (by omega) (g2 rfl).1 ho.2.2 (g2 rfl).2⟩
end
section
/-! the picture of a whole state -/
/-- what is known of sources is right -/
def rt_v (N R a9 : Nat → Int32) : Prop := ∀ g, g < 18 → rb_t (a9 g) 18 = true → a9 g &&& 262143 = rs_s N R g
/-- the change that made state c + 1 out of state c, as it is written down -/
def rt_j (H : Nat → rt_S) (a4 a5 a6 a7 a8 : Nat → Int32) (c : Nat) : Prop := ∃ so p q : Nat, a4 ((c + 1) % 8) = nI so ∧ a5 ((c + 1) % 8) = nI p ∧ a6 ((c + 1) % 8) = nI q ∧ rt_g so p q ∧ rt_k so p q (a7 ((c + 1) % 8)) (H (c + 1)) = H c ∧ rt_k so p q (a8 ((c + 1) % 8)) (H c) = H (c + 1)
/-- state n is the latest, state k is loaded, c is what is compared -/
def rt_I (H : Nat → rt_S) (n k : Nat) (c : Nat → Int32) (u : St1) : Prop := match u with
  | (l, lt, w, a1, a2, a3, a4, a5, a6, a7, a8, a9, a10, a11) => l = nI k ∧ lt = nI n ∧ a1 = (H k).1 ∧ a2 = (H k).2.1 ∧ a3 = (H k).2.2 ∧ a11 = c ∧ k ≤ n ∧ n < k + 8 ∧ n < 1000 ∧ (∀ j, j < n → n ≤ j + 8 → rt_j H a4 a5 a6 a7 a8 j) ∧ rt_v (H k).2.1 (H k).2.2 a9 ∧ (∀ j, j ≤ n → rt_o (H j))
theorem rt_v_k {so p q : Nat} {v : Int32} {s t : rt_S} {a9 a9' : Nat → Int32} (h : rt_v s.2.1 s.2.2 a9) (h0 : so = 0 → a9' = a9) (h1 : so ≠ 0 → ∀ g, g < 18 → a9' g = 0) (e : rt_k so p q v s = t) : rt_v t.2.1 t.2.2 a9' := by
  by_cases z : so = 0
  · subst z
    rw [h0 rfl, ← e]
    exact h
  · intro g hg hb
    rw [h1 z g hg, rb_0] at hb
    exact absurd hb (by decide)
theorem rt_make_149 {post : St1 → Prop} {l lt w : Int32} {a1 a2 a3 a4 a5 a6 a7 a8 a9 a10 a11 : Nat → Int32} (H : ∀ a9', (∀ g, g < 18 → a9' g = 0) → post (l, lt, w, a1, a2, a3, a4, a5, a6, a7, a8, a9', a10, a11)) : ∃ n, wX_make_149 post l lt w n 0 a1 a2 a3 a4 a5 a6 a7 a8 a9 a10 a11 :=
  pk_loop (fun n i s => wX_make_149 post l lt w n (nI i) a1 a2 a3 a4 a5 a6 a7 a8 s a10 a11) (fun i s => ∀ g, g < i → s g = 0) 18 0 a9 (by omega) (fun g hg => absurd hg (by omega))
    (fun n s h => pk_le 18 18 (fun _ => H s h) (fun z => absurd z (by omega)))
    (fun n i s hi h hw => pk_le 18 i (fun z => absurd z (by omega)) (fun _ => ⟨pk_in i 18 hi, nm_r (by rw [nI_clamp (by omega)]) (nm_r (nI_1 i) (hw (upd s i 0) (fun g hg => by
      by_cases e : g = i
      · rw [e, pk_us]
      · rw [pk_un e]; exact h g (by omega))))⟩))
theorem rt_make {post : St1 → Prop} {l lt w : Int32} {a1 a2 a3 a4 a5 a6 a7 a8 a9 a10 a11 : Nat → Int32} {i so p q : Nat} {v : Int32} (hi : i < 8) (h4 : a4 i = nI so) (h5 : a5 i = nI p) (h6 : a6 i = nI q) (hg : rt_g so p q)
    (H : ∀ a9', (so = 0 → a9' = a9) → (so ≠ 0 → ∀ g, g < 18 → a9' g = 0) → post (l, lt, w, (rt_k so p q v (a1, a2, a3)).1, (rt_k so p q v (a1, a2, a3)).2.1, (rt_k so p q v (a1, a2, a3)).2.2, a4, a5, a6, a7, a8, a9', a10, a11)) :
    wpX_make post (l, lt, w, a1, a2, a3, a4, a5, a6, a7, a8, a9, a10, a11) (nI i) v := by
  obtain ⟨hso, hp, g0, g1, g2⟩ := hg
  refine ⟨pk_in i 8 hi, fun x3 e3 => ⟨pk_in i 8 hi, fun x4 e4 => ⟨pk_in i 8 hi, fun x5 e5 => ?_⟩⟩⟩
  rw [nI_clamp (by omega), h4] at e3
  rw [nI_clamp (by omega), h5] at e4
  rw [nI_clamp (by omega), h6] at e5
  subst e3 e4 e5
  rcases (show so = 0 ∨ so = 1 ∨ so = 2 by omega) with rfl | rfl | rfl
  · have hq := (g0 rfl).2
    refine br_t rfl (br_c (fun hv => ⟨pk_in q 18 hq, pk_in q 18 hq, fun a ea => ?_⟩) (fun hv => ⟨pk_in q 18 hq, pk_in q 18 hq, fun a ea => ?_⟩))
    · rw [nI_clamp (by omega)] at ea
      have := H a9 (fun _ => rfl) (fun z => absurd rfl z)
      rw [rt_k0, rt_w, if_pos hv] at this
      rw [ea]; exact this
    · rw [nI_clamp (by omega)] at ea
      have := H a9 (fun _ => rfl) (fun z => absurd rfl z)
      rw [rt_k0, rt_w, if_neg hv] at this
      rw [ea]; exact this
  · have hq := g1 rfl
    refine br_f (by decide) (br_t rfl (br_c (fun hv => ⟨pk_in q 18 hq, pk_in q 18 hq, fun a ea => rt_make_149 (fun a9' h9 => ?_)⟩) (fun hv => ⟨pk_in q 18 hq, pk_in q 18 hq, fun a ea => rt_make_149 (fun a9' h9 => ?_)⟩)))
    · rw [nI_clamp (by omega)] at ea
      have := H a9' (fun z => absurd z (by decide)) (fun _ => h9)
      rw [rt_k1, rt_w, if_pos hv] at this
      rw [ea]; exact this
    · rw [nI_clamp (by omega)] at ea
      have := H a9' (fun z => absurd z (by decide)) (fun _ => h9)
      rw [rt_k1, rt_w, if_neg hv] at this
      rw [ea]; exact this
  · have hq := (g2 rfl).2
    refine br_f (by decide) (br_f (by decide) (br_c (fun hv => ⟨pk_in q 3 hq, pk_in q 3 hq, fun a ea => rt_make_149 (fun a9' h9 => ?_)⟩) (fun hv => ⟨pk_in q 3 hq, pk_in q 3 hq, fun a ea => rt_make_149 (fun a9' h9 => ?_)⟩)))
    · rw [nI_clamp (by omega)] at ea
      have := H a9' (fun z => absurd z (by decide)) (fun _ => h9)
      rw [rt_k2, rt_w, if_pos hv] at this
      rw [ea]; exact this
    · rw [nI_clamp (by omega)] at ea
      have := H a9' (fun z => absurd z (by decide)) (fun _ => h9)
      rw [rt_k2, rt_w, if_neg hv] at this
      rw [ea]; exact this
theorem rt_r8 {a : Nat} (h : a < 1001) : nI a - nI a / 8 * 8 = nI (a % 8) := pk_rem (a := a) (d := 8) (by omega) (by omega) (by omega)
theorem rt_load_44 {post : St1 → Prop} {H : Nat → rt_S} {n m : Nat} {c : Nat → Int32} (hm : m ≤ n) (hp : ∀ u, rt_I H n m c u → post u) : ∀ d k, k + d = m → ∀ (l lt w : Int32) (a1 a2 a3 a4 a5 a6 a7 a8 a9 a10 a11 : Nat → Int32), rt_I H n k c (l, lt, w, a1, a2, a3, a4, a5, a6, a7, a8, a9, a10, a11) → wX_load_44 post (nI m) (d + 1) l lt w a1 a2 a3 a4 a5 a6 a7 a8 a9 a10 a11
  | 0, k, e => by
    intro l lt w a1 a2 a3 a4 a5 a6 a7 a8 a9 a10 a11 hI
    have e' : k = m := by omega
    subst e'
    have h := hp _ hI
    obtain ⟨rfl, _, _, _, _, _, _, _, hn, _⟩ := hI
    exact br_t (nI_le (Nat.le_refl k) (by omega)) h
  | d + 1, k, e => by
    intro l lt w a1 a2 a3 a4 a5 a6 a7 a8 a9 a10 a11 hI
    obtain ⟨rfl, rfl, rfl, rfl, rfl, rfl, h1, h2, hn, hj, hv, ho⟩ := hI
    obtain ⟨so, p, q, e4, e5, e6, hg, _, hk⟩ := hj k (by omega) (by omega)
    refine br_f (nI_ge (by omega) (by omega)) (fun f ef => ?_)
    rw [nI_1] at ef
    subst ef
    refine ⟨by decide, by decide, ?_⟩
    rw [rt_r8 (by omega)]
    refine ⟨vp_in_nI (show (k + 1) % 8 < 8 by omega) (by omega), ?_⟩
    rw [nI_clamp (by omega)]
    refine rt_make (by omega) e4 e5 e6 hg (fun a9' h9 h9' => ?_)
    refine rt_load_44 hm hp d (k + 1) (by omega) _ _ _ _ _ _ _ _ _ _ _ _ _ _ ⟨rfl, rfl, ?_, ?_, ?_, rfl, by omega, by omega, hn, hj, rt_v_k hv h9 h9' hk, ho⟩
    · exact congrArg (fun s : rt_S => s.1) hk
    · exact congrArg (fun s : rt_S => s.2.1) hk
    · exact congrArg (fun s : rt_S => s.2.2) hk
theorem rt_load_0 {post : St1 → Prop} {H : Nat → rt_S} {n m : Nat} {c : Nat → Int32} (hm : m ≤ n) (hm2 : n < m + 8) (hp : ∀ u, rt_I H n m c u → post u) : ∀ d k, k ≤ m + d → ∀ (l lt w : Int32) (a1 a2 a3 a4 a5 a6 a7 a8 a9 a10 a11 : Nat → Int32), rt_I H n k c (l, lt, w, a1, a2, a3, a4, a5, a6, a7, a8, a9, a10, a11) → wX_load_0 post (nI m) (d + 1) l lt w a1 a2 a3 a4 a5 a6 a7 a8 a9 a10 a11
  | 0, k, e => by
    intro l lt w a1 a2 a3 a4 a5 a6 a7 a8 a9 a10 a11 hI
    have h := rt_load_44 hm hp (m - k) k (by omega) l lt w a1 a2 a3 a4 a5 a6 a7 a8 a9 a10 a11 hI
    obtain ⟨rfl, _, _, _, _, _, _, _, hn, _⟩ := hI
    exact br_t (nI_le (by omega) (by omega)) ⟨_, h⟩
  | d + 1, k, e => by
    intro l lt w a1 a2 a3 a4 a5 a6 a7 a8 a9 a10 a11 hI
    by_cases hk : k ≤ m
    · have h := rt_load_44 hm hp (m - k) k (by omega) l lt w a1 a2 a3 a4 a5 a6 a7 a8 a9 a10 a11 hI
      obtain ⟨rfl, _, _, _, _, _, _, _, hn, _⟩ := hI
      exact br_t (nI_le (by omega) (by omega)) ⟨_, h⟩
    · obtain ⟨j, rfl⟩ : ∃ j, k = j + 1 := ⟨k - 1, by omega⟩
      obtain ⟨rfl, rfl, rfl, rfl, rfl, rfl, h1, h2, hn, hj, hv, ho⟩ := hI
      obtain ⟨so, p, q, e4, e5, e6, hg, hk, _⟩ := hj j (by omega) (by omega)
      refine br_f (nI_ge (by omega) (by omega)) ⟨by decide, by decide, ?_⟩
      rw [rt_r8 (by omega)]
      refine ⟨vp_in_nI (show (j + 1) % 8 < 8 by omega) (by omega), ?_⟩
      rw [nI_clamp (by omega)]
      refine rt_make (by omega) e4 e5 e6 hg (fun a9' h9 h9' => ?_)
      refine nm_r (nI_pred j) ?_
      refine rt_load_0 hm hm2 hp d j (by omega) _ _ _ _ _ _ _ _ _ _ _ _ _ _ ⟨rfl, rfl, ?_, ?_, ?_, rfl, by omega, by omega, hn, hj, rt_v_k hv h9 h9' hk, ho⟩
      · exact congrArg (fun s : rt_S => s.1) hk
      · exact congrArg (fun s : rt_S => s.2.1) hk
      · exact congrArg (fun s : rt_S => s.2.2) hk
theorem rt_load {post : St1 → Prop} {H : Nat → rt_S} {n k m : Nat} {c : Nat → Int32} {u : St1} (hI : rt_I H n k c u) (hm : m ≤ n) (hm2 : n < m + 8) (hp : ∀ u, rt_I H n m c u → post u) : wpX_load post u (nI m) := by
  obtain ⟨l, lt, w, a1, a2, a3, a4, a5, a6, a7, a8, a9, a10, a11⟩ := u
  exact ⟨k + 1, rt_load_0 hm hm2 hp k k (by omega) l lt w a1 a2 a3 a4 a5 a6 a7 a8 a9 a10 a11 hI⟩
end
section
/-! sourcesTo and membersOf -/
theorem rt_i8 : ∀ h, h < 18 → (nI h).toInt8.toInt32 = nI h := by decide +kernel
theorem rt_rule {a3 : Nat → Int32} {g : Nat} (hg : g < 18) : nI g - nI g / 3 * 3 = nI (g % 3) ∧ (nI g / 3) * 3 = nI (g / 3 * 3) := by
  have h1 : nI g - nI g / 3 * 3 = nI (g % 3) := pk_rem (a := g) (d := 3) (by omega) (by omega) (by omega)
  have h2 : nI g / 3 = nI (g / 3) := pk_div (a := g) (d := 3) (by omega) (by omega) (by omega)
  refine ⟨h1, ?_⟩
  rw [h2]
  exact pk_mul (g / 3) 3
theorem rt_byRules {post : Int32 → Prop} {l lt w : Int32} {a1 a2 a3 a4 a5 a6 a7 a8 a9 a10 a11 : Nat → Int32} {g : Nat} (hg : g < 18) (h : post (a3 (g % 3) <<< (nI (g / 3 * 3) &&& 31))) : wpX_byRules post (l, lt, w, a1, a2, a3, a4, a5, a6, a7, a8, a9, a10, a11) (nI g) := by
  obtain ⟨e1, e2⟩ := rt_rule (a3 := a3) hg
  refine ⟨by decide, ?_⟩
  rw [e1, e2]
  refine ⟨vp_in_nI (show g % 3 < 3 by omega) (by omega), by decide, ?_⟩
  rw [nI_clamp (by omega)]
  exact h
/-- the loop that lays the fresh groups on the pile -/
theorem rt_123 {post : Int32 → St1 → Prop} {J : Int32 → Int32 → (Nat → Int32) → (Nat → Int32) → (Nat → Int32) → (Nat → Int32) → (Nat → Int32) → (Nat → Int32) → (Nat → Int32) → (Nat → Int32) → (Nat → Int32) → (Nat → Int32) → (Nat → Int32) → Prop} {x1 x2 x5 : Int32} {l lt : Int32} {a1 a2 a3 a4 a5 a6 a7 a8 a9 a10 a11 : Nat → Int32} {w : Nat}
    (hw : w + rb_c (rb_t x5) 18 ≤ 17)
    (H : ∀ a10', (∀ j, j < w → a10' j = a10 j) → (∀ j, w ≤ j → j < w + rb_c (rb_t x5) 18 → ∃ h, h < 18 ∧ rb_t x5 h = true ∧ a10' j = nI h) → (∀ h, h < 18 → rb_t x5 h = true → ∃ j, j < w + rb_c (rb_t x5) 18 ∧ a10' j = nI h) → J x2 (nI (w + rb_c (rb_t x5) 18)) a1 a2 a3 a4 a5 a6 a7 a8 a9 a10' a11) :
    ∃ n, wX_sourcesTo_123 post J x1 x2 x5 l lt n 0 (nI w) a1 a2 a3 a4 a5 a6 a7 a8 a9 a10 a11 :=
  pk_loop (fun n i s => wX_sourcesTo_123 post J x1 x2 x5 l lt n (nI i) (nI (w + rb_c (rb_t x5) i)) a1 a2 a3 a4 a5 a6 a7 a8 a9 s a11)
    (fun i s => (∀ j, j < w → s j = a10 j) ∧ (∀ j, w ≤ j → j < w + rb_c (rb_t x5) i → ∃ h, h < 18 ∧ rb_t x5 h = true ∧ s j = nI h) ∧ (∀ h, h < i → rb_t x5 h = true → ∃ j, j < w + rb_c (rb_t x5) i ∧ s j = nI h)) 18 0 a10 (by omega)
    ⟨fun _ _ => rfl, fun j h1 h2 => absurd (show j < w from h2) (by omega), fun h hh => absurd hh (by omega)⟩
    (fun n s h => pk_le 18 18 (fun _ => H s h.1 h.2.1 h.2.2) (fun z => absurd z (by omega)))
    (fun n i s hi h hs => pk_le 18 i (fun z => absurd z (by omega)) (fun _ => rb_if i (by omega)
      (fun hb => nm_r (nI_1 i) (by
        have e : rb_c (rb_t x5) (i + 1) = rb_c (rb_t x5) i := by
          show rb_c (rb_t x5) i + (rb_t x5 i).toNat = _
          rw [hb]; rfl
        have t := hs s (by
          rw [e]
          refine ⟨h.1, h.2.1, fun y hy hb' => ?_⟩
          by_cases ey : y = i
          · rw [ey, hb] at hb'; exact absurd hb' (by decide)
          · exact h.2.2 y (by omega) hb')
        rw [e] at t
        exact t))
      (fun hb => by
        have e : rb_c (rb_t x5) (i + 1) = rb_c (rb_t x5) i + 1 := by
          show rb_c (rb_t x5) i + (rb_t x5 i).toNat = _
          rw [hb]; rfl
        have hle := rb_c_up2 (rb_t x5) (show i + 1 ≤ 18 by omega)
        have t := hs (upd s (w + rb_c (rb_t x5) i) (nI i)) (by
          rw [e]
          refine ⟨fun j hj => ?_, fun j h1 h2 => ?_, fun y hy hb' => ?_⟩
          · rw [pk_un (by omega)]; exact h.1 j hj
          · by_cases ej : j = w + rb_c (rb_t x5) i
            · exact ⟨i, hi, hb, by rw [ej, pk_us]⟩
            · obtain ⟨y, y1, y2, y3⟩ := h.2.1 j h1 (by omega)
              exact ⟨y, y1, y2, by rw [pk_un ej]; exact y3⟩
          · by_cases ey : y = i
            · exact ⟨w + rb_c (rb_t x5) i, by omega, by rw [ey, pk_us]⟩
            · obtain ⟨j, j1, j2⟩ := h.2.2 y (by omega) hb'
              exact ⟨j, by omega, by rw [pk_un (by omega)]; exact j2⟩)
        rw [e] at t
        refine ⟨pk_in (w + rb_c (rb_t x5) i) 18 (by omega), nm_r (by rw [nI_clamp (by omega), rt_i8 i hi]) (nm_r (nI_1 _) (nm_r (nI_1 i) t))⟩)))
/-- the pile's picture -/
def rt_Q (N R a10 : Nat → Int32) (g w : Nat) (x2 : Int32) : Prop :=
  (∀ j, j < w → ∃ h, h < 18 ∧ rb_t x2 h = true ∧ a10 j = nI h) ∧ (∀ i, rb_t x2 i = true → i < 18 ∧ rs_r N R g i) ∧ rb_t x2 g = true ∧
  (∀ h, h < 18 → rb_t x2 h = true → (∃ j, j < w ∧ a10 j = nI h) ∨ ∀ y, y < 18 → rb_t (rs_p N R h) y = true → rb_t x2 y = true) ∧ w + rb_c (fun i => !(rb_t x2 i)) 18 ≤ 18
theorem rt_Q_end {N R a10 : Nat → Int32} {g : Nat} {x2 : Int32} (h : rt_Q N R a10 g 0 x2) : x2 = rs_s N R g := by
  obtain ⟨_, h1, h2, h3, _⟩ := h
  refine rs_uniq h1 h2 (fun y hy hb z hz k => ?_)
  rcases h3 y hy hb with ⟨j, hj, _⟩ | h
  · exact absurd hj (by omega)
  · exact h z hz k
theorem rt_Q_known {N R a10 : Nat → Int32} {g h w : Nat} {x2 : Int32} (hQ : rt_Q N R a10 g (w + 1) x2) (hh : h < 18) (hb : rb_t x2 h = true) (ha : a10 w = nI h) : rt_Q N R a10 g w (x2 ||| rs_s N R h) := by
  obtain ⟨h0, h1, h2, h3, h4⟩ := hQ
  have hor : ∀ i, rb_t (x2 ||| rs_s N R h) i = true ↔ rb_t x2 i = true ∨ rb_t (rs_s N R h) i = true := fun i => by rw [rb_or, Bool.or_eq_true]
  refine ⟨fun j hj => ?_, fun i hi => ?_, (hor g).mpr (Or.inl h2), fun y hy hyb => ?_, ?_⟩
  · obtain ⟨z, z1, z2, z3⟩ := h0 j (by omega)
    exact ⟨z, z1, (hor z).mpr (Or.inl z2), z3⟩
  · rcases (hor i).mp hi with k | k
    · exact h1 i k
    · have k' := (rs_s_bit N R h i).mp k
      exact ⟨k'.1, rs_trans (h1 h hb).2 k'.2⟩
  · have cl : rb_t (rs_s N R h) y = true → ∀ z, z < 18 → rb_t (rs_p N R y) z = true → rb_t (x2 ||| rs_s N R h) z = true := fun k z hz kz => by
      have k' := (rs_s_bit N R h y).mp k
      exact (hor z).mpr (Or.inr ((rs_s_bit N R h z).mpr ⟨hz, rs_step k'.2 hy hz kz⟩))
    rcases (hor y).mp hyb with k | k
    · rcases h3 y hy k with ⟨j, hj, ej⟩ | hc
      · by_cases e : j = w
        · subst e
          rw [ha] at ej
          have : h = y := (nI_eq (by omega) (by omega)).mp ej
          subst this
          exact Or.inr (cl (rs_self N R hh))
        · exact Or.inl ⟨j, by omega, ej⟩
      · exact Or.inr (fun z hz kz => (hor z).mpr (Or.inl (hc z hz kz)))
    · exact Or.inr (cl k)
  · have : rb_c (fun i => !(rb_t (x2 ||| rs_s N R h) i)) 18 ≤ rb_c (fun i => !(rb_t x2 i)) 18 := rb_c_mono 18 (fun i _ hi => by
      have hi' : (!(rb_t (x2 ||| rs_s N R h) i)) = true := hi
      show (!(rb_t x2 i)) = true
      rw [rb_or] at hi'
      cases k : rb_t x2 i
      · rfl
      · rw [k, Bool.true_or] at hi'; exact absurd hi' (by decide))
    omega
/-- the fresh ones of a group that was taken off -/
theorem rt_fresh_bit (N R : Nat → Int32) (h : Nat) (x2 : Int32) {i : Nat} (hi : i < 32) : rb_t ((rs_p N R h) &&& (x2 ^^^ (-1))) i = (rb_t (rs_p N R h) i && !(rb_t x2 i)) := by rw [rb_and, rb_not x2 hi]
theorem rt_Q_c (N R : Nat → Int32) (h : Nat) (x2 : Int32) : rb_c (fun i => !(rb_t x2 i)) 18 = rb_c (rb_t ((rs_p N R h) &&& (x2 ^^^ (-1)))) 18 + rb_c (fun i => !(rb_t (x2 ||| ((rs_p N R h) &&& (x2 ^^^ (-1)))) i)) 18 :=
  rb_c_add 18 (fun i hi => by
    show (!(rb_t x2 i)).toNat = (rb_t ((rs_p N R h) &&& (x2 ^^^ (-1))) i).toNat + (!(rb_t (x2 ||| ((rs_p N R h) &&& (x2 ^^^ (-1)))) i)).toNat
    rw [rb_or, rt_fresh_bit N R h x2 (by omega)]
    cases rb_t x2 i <;> cases rb_t (rs_p N R h) i <;> rfl)
theorem rt_Q_fresh {N R a10 a10' : Nat → Int32} {g h w w' : Nat} {x2 x5 : Int32} (hQ : rt_Q N R a10 g (w + 1) x2) (hh : h < 18) (hb : rb_t x2 h = true) (ha : a10 w = nI h) (e5 : x5 = (rs_p N R h) &&& (x2 ^^^ (-1))) (ew : w' = w + rb_c (rb_t x5) 18) (hp : ∀ i, 18 ≤ i → rb_t (rs_p N R h) i = false)
    (k1 : ∀ j, j < w → a10' j = a10 j) (k2 : ∀ j, w ≤ j → j < w' → ∃ h, h < 18 ∧ rb_t x5 h = true ∧ a10' j = nI h) (k3 : ∀ h, h < 18 → rb_t x5 h = true → ∃ j, j < w' ∧ a10' j = nI h) : rt_Q N R a10' g w' (x2 ||| x5) := by
  have hc := rt_Q_c N R h x2
  rw [← e5] at hc
  obtain ⟨h0, h1, h2, h3, h4⟩ := hQ
  have hor : ∀ i, rb_t (x2 ||| x5) i = true ↔ rb_t x2 i = true ∨ rb_t x5 i = true := fun i => by rw [rb_or, Bool.or_eq_true]
  have h5 : ∀ i, rb_t x5 i = true → i < 18 ∧ rb_t (rs_p N R h) i = true := fun i hi => by
    have hp1 : rb_t (rs_p N R h) i = true := by
      rw [e5, rb_and, Bool.and_eq_true] at hi
      exact hi.1
    rcases Nat.lt_or_ge i 18 with z | z
    · exact ⟨z, hp1⟩
    · rw [hp i z] at hp1; exact absurd hp1 (by decide)
  refine ⟨fun j hj => ?_, fun i hi => ?_, (hor g).mpr (Or.inl h2), fun y hy hyb => ?_, by omega⟩
  · by_cases hjw : j < w
    · obtain ⟨z, z1, z2, z3⟩ := h0 j (by omega)
      exact ⟨z, z1, (hor z).mpr (Or.inl z2), by rw [k1 j hjw]; exact z3⟩
    · obtain ⟨z, z1, z2, z3⟩ := k2 j (by omega) hj
      exact ⟨z, z1, (hor z).mpr (Or.inr z2), z3⟩
  · rcases (hor i).mp hi with k | k
    · exact h1 i k
    · exact ⟨(h5 i k).1, rs_step (h1 h hb).2 hh (h5 i k).1 (h5 i k).2⟩
  · rcases (hor y).mp hyb with k | k
    · rcases h3 y hy k with ⟨j, hj, ej⟩ | hcl
      · by_cases e : j = w
        · subst e
          rw [ha] at ej
          have : h = y := (nI_eq (by omega) (by omega)).mp ej
          subst this
          refine Or.inr (fun z hz kz => (hor z).mpr ?_)
          cases kx : rb_t x2 z
          · refine Or.inr ?_
            rw [e5, rt_fresh_bit N R h x2 (by omega), kz, kx]; rfl
          · exact Or.inl rfl
        · exact Or.inl ⟨j, by omega, by rw [k1 j (by omega)]; exact ej⟩
      · exact Or.inr (fun z hz kz => (hor z).mpr (Or.inl (hcl z hz kz)))
    · exact Or.inl (k3 y hy k)
/-- the masks' widths -/
theorem rs_p_hi {N R : Nat → Int32} (hN : ∀ g, g < 18 → ∀ i, 18 ≤ i → rb_t (N g) i = false) (hR : ∀ g, g < 3 → ∀ i, 3 ≤ i → rb_t (R g) i = false) {g : Nat} (hg : g < 18) : ∀ i, 18 ≤ i → rb_t (rs_p N R g) i = false := fun i hi => by
  rcases Nat.lt_or_ge i 32 with z | z
  · unfold rs_p
    rw [rb_or, hN g hg i hi, Bool.false_or, rb_shl _ (by omega) _ z, hR (g % 3) (by omega) (i - g / 3 * 3) (by omega), Bool.and_false]
  · exact rb_big z
theorem rt_lo_s {x : Int32} (h : ∀ i, rb_t x i = true → i < 18) : (x ||| 262144) &&& 262143 = x := by
  apply rb_ext
  intro i hi
  rw [rb_and, rb_or, rb_lo i hi, rb_hi i hi]
  by_cases e : i < 18
  · rw [decide_eq_true e, decide_eq_false (show ¬ i = 18 by omega), Bool.or_false, Bool.and_true]
  · rw [decide_eq_false e, Bool.and_false]
    cases k : rb_t x i
    · rfl
    · exact absurd (h i k) e
/-- the loop over the pile -/
theorem rt_41 {post : Int32 → St1 → Prop} {l lt : Int32} {a1 N R a4 a5 a6 a7 a8 a9 a11 : Nat → Int32} {g : Nat} (hg : g < 18) (hv : rt_v N R a9) (hN : ∀ g, g < 18 → ∀ i, 18 ≤ i → rb_t (N g) i = false) (hR : ∀ g, g < 3 → ∀ i, 3 ≤ i → rb_t (R g) i = false)
    (H : ∀ w' a9' a10', rt_v N R a9' → post (rs_s N R g) (l, lt, w', a1, N, R, a4, a5, a6, a7, a8, a9', a10', a11)) :
    ∀ d w x2 a10, w + rb_c (fun i => !(rb_t x2 i)) 18 ≤ d → rt_Q N R a10 g w x2 → wX_sourcesTo_41 post (nI g) l lt (d + 1) x2 (nI w) a1 N R a4 a5 a6 a7 a8 a9 a10 a11 := by
  have hend : ∀ n x2 a10, rt_Q N R a10 g 0 x2 → wX_sourcesTo_41 post (nI g) l lt (n + 1) x2 (nI 0) a1 N R a4 a5 a6 a7 a8 a9 a10 a11 := by
    intro n x2 a10 hQ
    have e := rt_Q_end hQ
    subst e
    refine br_t (by decide) ⟨pk_in g 18 hg, nm_r (by rw [nI_clamp (by omega)]) (H _ _ _ (fun y hy hb => ?_))⟩
    by_cases e : y = g
    · subst e
      rw [pk_us]
      exact rt_lo_s (fun i hi => ((rs_s_bit N R y i).mp hi).1)
    · rw [pk_un e] at hb ⊢
      exact hv y hy hb
  intro d
  induction d with
  | zero =>
    intro w x2 a10 hd hQ
    have e : w = 0 := by omega
    subst e
    exact hend 0 x2 a10 hQ
  | succ d ih =>
    intro w x2 a10 hd hQ
    cases w with
    | zero => exact hend (d + 1) x2 a10 hQ
    | succ w =>
      have hw18 : w < 18 := by have := hQ.2.2.2.2; omega
      obtain ⟨h, hh, hb, ha⟩ := hQ.1 w (by omega)
      refine br_f (nI_nle (by omega) (by omega)) (nm_r (nI_pred w) ⟨pk_in w 18 hw18, ?_⟩)
      rw [nI_clamp (by omega), ha]
      refine nm_e ⟨pk_in h 18 hh, ?_⟩
      rw [nI_clamp (by omega)]
      refine nm_e (rb_if 18 (by omega) (fun k => ⟨pk_in h 18 hh, rt_byRules hh ?_⟩) (fun k => ?_))
      · have hc := rt_Q_c N R h x2
        have hc2 := hQ.2.2.2.2
        refine nm_r (e' := (rs_p N R h) &&& (x2 ^^^ (-1))) rfl (nm_e (rt_123 (by omega) (fun a10' k1 k2 k3 => ?_)))
        exact ih _ _ a10' (by omega) (rt_Q_fresh hQ hh hb ha rfl rfl (rs_p_hi hN hR hh) k1 k2 k3)
      · rw [hv h hh k]
        have hQ' := rt_Q_known hQ hh hb ha
        have hm : rb_c (fun i => !(rb_t (x2 ||| rs_s N R h) i)) 18 ≤ rb_c (fun i => !(rb_t x2 i)) 18 := rb_c_mono 18 (fun i _ hi => by
          have hi' : (!(rb_t (x2 ||| rs_s N R h) i)) = true := hi
          show (!(rb_t x2 i)) = true
          rw [rb_or] at hi'
          cases k : rb_t x2 i
          · rfl
          · rw [k, Bool.true_or] at hi'; exact absurd hi' (by decide))
        exact nm_e (ih w _ a10 (by omega) hQ')
theorem rt_Q_0 {N R a10 : Nat → Int32} {g : Nat} (hg : g < 18) : rt_Q N R (upd a10 0 (nI g)) g 1 ((1 : Int32) <<< (nI g &&& 31)) := by
  have hb : ∀ i, rb_t ((1 : Int32) <<< (nI g &&& 31)) i = true ↔ i = g := fun i => by
    rcases Nat.lt_or_ge i 32 with z | z
    · rw [rb_tw (by omega) z, decide_eq_true_iff]
    · rw [rb_big z]
      exact ⟨fun z => absurd z (by decide), fun z => by omega⟩
  refine ⟨fun j hj => ⟨g, hg, (hb g).mpr rfl, ?_⟩, fun i hi => ?_, (hb g).mpr rfl, fun y hy hyb => Or.inl ⟨0, by omega, ?_⟩, ?_⟩
  · rw [show j = 0 by omega, pk_us]
  · rw [(hb i).mp hi]
    exact ⟨hg, rs_refl N R g⟩
  · rw [pk_us, (hb y).mp hyb]
  · have h1 : rb_c (fun _ => true) 18 = rb_c (fun i => !(rb_t ((1 : Int32) <<< (nI g &&& 31)) i)) 18 + rb_c (rb_t ((1 : Int32) <<< (nI g &&& 31))) 18 := rb_c_add 18 (fun i _ => by
      show (1 : Nat) = (!(rb_t ((1 : Int32) <<< (nI g &&& 31)) i)).toNat + (rb_t ((1 : Int32) <<< (nI g &&& 31)) i).toNat
      cases rb_t ((1 : Int32) <<< (nI g &&& 31)) i <;> rfl)
    have h2 : rb_c (fun _ => true) 18 = 18 := rfl
    have h3 := rb_c_up2 (rb_t ((1 : Int32) <<< (nI g &&& 31))) (show g + 1 ≤ 18 by omega)
    have h4 : rb_c (rb_t ((1 : Int32) <<< (nI g &&& 31))) (g + 1) = rb_c (rb_t ((1 : Int32) <<< (nI g &&& 31))) g + (rb_t ((1 : Int32) <<< (nI g &&& 31)) g).toNat := rfl
    rw [(hb g).mpr rfl] at h4
    have h5 : (true).toNat = 1 := rfl
    omega
theorem rt_sourcesTo {post : Int32 → St1 → Prop} {H : Nat → rt_S} {n k g : Nat} {c : Nat → Int32} {u : St1} (hI : rt_I H n k c u) (hg : g < 18) (hp : ∀ u, rt_I H n k c u → post (rs_s (H k).2.1 (H k).2.2 g) u) : wpX_sourcesTo post u (nI g) := by
  obtain ⟨l, lt, w, a1, a2, a3, a4, a5, a6, a7, a8, a9, a10, a11⟩ := u
  obtain ⟨rfl, rfl, rfl, rfl, rfl, rfl, h1, h2, hn, hj, hv, ho⟩ := hI
  have hk := ho k h1
  refine ⟨pk_in g 18 hg, ?_⟩
  rw [nI_clamp (by omega)]
  refine rb_if 18 (by omega) (fun kb => ?_) (fun kb => ⟨pk_in g 18 hg, ?_⟩)
  · rw [rt_i8 g hg]
    have hQ0 := rt_Q_0 (N := (H k).2.1) (R := (H k).2.2) (a10 := a10) hg
    refine nm_e (nm_e ⟨19, ?_⟩)
    exact rt_41 hg hv hk.2.1 hk.2.2 (fun w' a9' a10' hv' => hp _ ⟨rfl, rfl, rfl, rfl, rfl, rfl, h1, h2, hn, hj, hv', ho⟩) 18 1 _ _ hQ0.2.2.2.2 hQ0
  · rw [hv g hg kb]
    exact hp _ ⟨rfl, rfl, rfl, rfl, rfl, rfl, h1, h2, hn, hj, hv, ho⟩
theorem rt_membersOf {post : Int32 → St1 → Prop} {H : Nat → rt_S} {n k g : Nat} {c : Nat → Int32} {u : St1} (hI : rt_I H n k c u) (hg : g < 18) (hp : ∀ u, rt_I H n k c u → post (rm_m (H k) g) u) : wpX_membersOf post u (nI g) := by
  obtain ⟨l, lt, w, a1, a2, a3, a4, a5, a6, a7, a8, a9, a10, a11⟩ := u
  unfold wpX_membersOf
  refine rt_sourcesTo hI hg (fun u hI => ?_)
  obtain ⟨l, lt, w, a1, a2, a3, a4, a5, a6, a7, a8, a9, a10, a11⟩ := u
  have hpost := hp _ hI
  obtain ⟨rfl, rfl, rfl, rfl, rfl, rfl, h1, h2, hn, hj, hv, ho⟩ := hI
  exact pk_loop (σ := Unit) (fun f i _ => wX_membersOf_11 post (rs_s (H k).2.1 (H k).2.2 g) (nI k) (nI n) w (H k).1 (H k).2.1 (H k).2.2 a4 a5 a6 a7 a8 a9 a10 a11 f (rm_f (H k).1 (rs_s (H k).2.1 (H k).2.2 g) i) (nI i)) (fun _ _ => True) 18 0 () (by omega) trivial
    (fun f _ _ => pk_le 18 18 (fun _ => hpost) (fun z => absurd z (by omega)))
    (fun f i _ hi _ hw => pk_le 18 i (fun z => absurd z (by omega)) (fun _ => by
      have t := hw () trivial
      refine rb_if i (by omega) (fun hb => nm_r (nI_1 i) ?_) (fun hb => ⟨pk_in i 18 hi, nm_r (by rw [nI_clamp (by omega)]) (nm_r (nI_1 i) ?_)⟩)
      · rw [rm_f, if_neg (by rw [hb]; decide)] at t
        exact t
      · rw [rm_f, if_pos hb] at t
        exact t))
end
section
/-! the answers -/
theorem rt_person {post : Int32 → Prop} {u : St1} {p : Nat} (hp : p < 6) (h : post 1) : wpX_isPerson post u (nI p) := by
  obtain ⟨l, lt, w, a1, a2, a3, a4, a5, a6, a7, a8, a9, a10, a11⟩ := u
  exact br_f (nI_pos (by omega)) (br_f (show ¬ nI 5 < nI p from nI_nlt (by omega) (by omega)) h)
theorem rt_group {post : Int32 → Prop} {u : St1} {g : Nat} (hg : g < 18) (h : post 1) : wpX_isGroup post u (nI g) := by
  obtain ⟨l, lt, w, a1, a2, a3, a4, a5, a6, a7, a8, a9, a10, a11⟩ := u
  exact br_f (nI_pos (by omega)) (br_f (show ¬ nI 18 ≤ nI g from nI_ge hg (by omega)) h)
theorem rt_state {post : Int32 → Prop} {H : Nat → rt_S} {n k m : Nat} {c : Nat → Int32} {u : St1} (hI : rt_I H n k c u) (hm : m ≤ n) (h : post 1) : wpX_isState post u (nI m) := by
  obtain ⟨l, lt, w, a1, a2, a3, a4, a5, a6, a7, a8, a9, a10, a11⟩ := u
  obtain ⟨rfl, rfl, rfl, rfl, rfl, rfl, h1, h2, hn, hj, hv, ho⟩ := hI
  exact br_f (nI_pos (by omega)) (br_f (nI_nlt hm (by omega)) h)
theorem rt_sub8 {n m : Nat} (hn : n < 1001) (hm : m < 1001) : nI m ≤ nI n - 8 ↔ m + 8 ≤ n := by
  have e : (nI n - nI 8).toInt = (n : Int) - (8 : Nat) := pk_sub_toInt (by omega) (by omega)
  have e2 : (nI n - 8).toInt = (n : Int) - (8 : Nat) := e
  rw [Int32.le_iff_toInt_le, e2, nI_toInt (by omega)]
  omega
theorem rt_kept {post : Int32 → Prop} {H : Nat → rt_S} {n k m : Nat} {c : Nat → Int32} {u : St1} (hI : rt_I H n k c u) (hm : m ≤ n) (hm2 : n < m + 8) (h : post 1) : wpX_isKept post u (nI m) := by
  obtain ⟨l, lt, w, a1, a2, a3, a4, a5, a6, a7, a8, a9, a10, a11⟩ := u
  have hI' := hI
  obtain ⟨rfl, rfl, rfl, rfl, rfl, rfl, h1, h2, hn, hj, hv, ho⟩ := hI'
  unfold wpX_isKept
  exact rt_state hI hm (br_f (by decide) (br_f (fun z => by have := (rt_sub8 (by omega) (by omega)).mp z; omega) h))
theorem rt_members {post : Int32 → St1 → Prop} {H : Nat → rt_S} {n k m g : Nat} {c : Nat → Int32} {u : St1} (hI : rt_I H n k c u) (hm : m ≤ n) (hm2 : n < m + 8) (hg : g < 18) (hp : ∀ u, rt_I H n m c u → post (rm_m (H m) g) u) : wpX_members post u (nI m) (nI g) := by
  obtain ⟨l, lt, w, a1, a2, a3, a4, a5, a6, a7, a8, a9, a10, a11⟩ := u
  unfold wpX_members
  refine rt_group hg (br_f (by decide) (rt_state hI hm (br_f (by decide) (rt_kept hI hm hm2 (br_f (by decide) (rt_load hI hm hm2 (fun u hI => ?_)))))))
  obtain ⟨l, lt, w, a1, a2, a3, a4, a5, a6, a7, a8, a9, a10, a11⟩ := u
  refine rt_membersOf hI hg (fun u hI => ?_)
  obtain ⟨l, lt, w, a1, a2, a3, a4, a5, a6, a7, a8, a9, a10, a11⟩ := u
  exact hp _ hI
theorem rt_sources {post : Int32 → St1 → Prop} {H : Nat → rt_S} {n k m g : Nat} {c : Nat → Int32} {u : St1} (hI : rt_I H n k c u) (hm : m ≤ n) (hm2 : n < m + 8) (hg : g < 18) (hp : ∀ u, rt_I H n m c u → post (rs_s (H m).2.1 (H m).2.2 g) u) : wpX_sources post u (nI m) (nI g) := by
  obtain ⟨l, lt, w, a1, a2, a3, a4, a5, a6, a7, a8, a9, a10, a11⟩ := u
  unfold wpX_sources
  refine rt_group hg (br_f (by decide) (rt_state hI hm (br_f (by decide) (rt_kept hI hm hm2 (br_f (by decide) (rt_load hI hm hm2 (fun u hI => ?_)))))))
  obtain ⟨l, lt, w, a1, a2, a3, a4, a5, a6, a7, a8, a9, a10, a11⟩ := u
  refine rt_sourcesTo hI hg (fun u hI => ?_)
  obtain ⟨l, lt, w, a1, a2, a3, a4, a5, a6, a7, a8, a9, a10, a11⟩ := u
  exact hp _ hI
theorem rt_check {post : Int32 → St1 → Prop} {H : Nat → rt_S} {n k m p g : Nat} {c : Nat → Int32} {u : St1} (hI : rt_I H n k c u) (hm : m ≤ n) (hm2 : n < m + 8) (hpp : p < 6) (hg : g < 18) (hp : ∀ u, rt_I H n m c u → post (rb_i (rb_t (rm_m (H m) g) p)) u) : wpX_check post u (nI m) (nI p) (nI g) := by
  obtain ⟨l, lt, w, a1, a2, a3, a4, a5, a6, a7, a8, a9, a10, a11⟩ := u
  unfold wpX_check
  refine rt_person hpp (br_f (by decide) (rt_group hg (br_f (by decide) (rt_state hI hm (br_f (by decide) (rt_kept hI hm hm2 (br_f (by decide) (rt_load hI hm hm2 (fun u hI => ?_)))))))))
  obtain ⟨l, lt, w, a1, a2, a3, a4, a5, a6, a7, a8, a9, a10, a11⟩ := u
  refine rt_membersOf hI hg (fun u hI => ?_)
  obtain ⟨l, lt, w, a1, a2, a3, a4, a5, a6, a7, a8, a9, a10, a11⟩ := u
  show post ((rm_m (H m) g >>> (nI p &&& 31)) &&& 1) (l, lt, w, a1, a2, a3, a4, a5, a6, a7, a8, a9, a10, a11)
  rw [rb_bit _ (by omega)]
  exact hp _ hI
theorem rt_groups {post : Int32 → St1 → Prop} {H : Nat → rt_S} {n k m p : Nat} {c : Nat → Int32} {u : St1} (hI : rt_I H n k c u) (hm : m ≤ n) (hm2 : n < m + 8) (hpp : p < 6) (hp : ∀ u, rt_I H n m c u → post (rg_f (fun g => rb_t (rm_m (H m) g) p) 18) u) : wpX_groups post u (nI m) (nI p) := by
  obtain ⟨l, lt, w, a1, a2, a3, a4, a5, a6, a7, a8, a9, a10, a11⟩ := u
  unfold wpX_groups
  refine rt_person hpp (br_f (by decide) (rt_state hI hm (br_f (by decide) (rt_kept hI hm hm2 (br_f (by decide) (rt_load hI hm hm2 (fun u hI => ?_)))))))
  obtain ⟨l, lt, w, a1, a2, a3, a4, a5, a6, a7, a8, a9, a10, a11⟩ := u
  refine pk_loop (fun f i s => wX_groups_39 post (nI p) f (rg_f (fun g => rb_t (rm_m (H m) g) p) i) (nI i) s.1 s.2.1 s.2.2.1 s.2.2.2.1 s.2.2.2.2.1 s.2.2.2.2.2.1 s.2.2.2.2.2.2.1 s.2.2.2.2.2.2.2.1 s.2.2.2.2.2.2.2.2.1 s.2.2.2.2.2.2.2.2.2.1 s.2.2.2.2.2.2.2.2.2.2.1 s.2.2.2.2.2.2.2.2.2.2.2.1 s.2.2.2.2.2.2.2.2.2.2.2.2.1 s.2.2.2.2.2.2.2.2.2.2.2.2.2) (fun _ s => rt_I H n m c s) 18 0 (l, lt, w, a1, a2, a3, a4, a5, a6, a7, a8, a9, a10, a11) (by omega) hI ?_ ?_
  · intro f s h
    exact pk_le 18 18 (fun _ => hp s h) (fun z => absurd z (by omega))
  · intro f i s hi h hw
    refine pk_le 18 i (fun z => absurd z (by omega)) (fun _ => rt_membersOf (u := s) h hi (fun u hI => ?_))
    have t := hw u hI
    obtain ⟨l, lt, w, a1, a2, a3, a4, a5, a6, a7, a8, a9, a10, a11⟩ := u
    refine rb_if p (by omega) (fun hb => nm_r (nI_1 i) ?_) (fun hb => nm_e (nm_r (nI_1 i) ?_))
    · dsimp only at t
      rw [rg_f, if_neg (by rw [hb]; decide)] at t
      exact t
    · dsimp only at t
      rw [rg_f, if_pos hb] at t
      exact t
/-- what since answers: the first kept state in which it holds -/
def rt_z (H : Nat → rt_S) (n p q : Nat) (r : Int32) : Prop := (r = -3 ∧ ∀ j, n - 7 ≤ j → j ≤ n → rb_t (rm_m (H j) q) p = false) ∨ ∃ s, n - 7 ≤ s ∧ s ≤ n ∧ r = nI s ∧ rb_t (rm_m (H s) q) p = true ∧ ∀ j, n - 7 ≤ j → j < s → rb_t (rm_m (H j) q) p = false
theorem rt_since_55 {post : Int32 → St1 → Prop} {H : Nat → rt_S} {n k p q : Nat} {c : Nat → Int32} {u : St1} (hI : rt_I H n k c u) (hpp : p < 6) (hq : q < 18) (hp : ∀ k r u, rt_I H n k c u → rt_z H n p q r → post r u) : ∃ f, wX_since_55 post (nI p) (nI q) f (nI (n - 7)) u.1 u.2.1 u.2.2.1 u.2.2.2.1 u.2.2.2.2.1 u.2.2.2.2.2.1 u.2.2.2.2.2.2.1 u.2.2.2.2.2.2.2.1 u.2.2.2.2.2.2.2.2.1 u.2.2.2.2.2.2.2.2.2.1 u.2.2.2.2.2.2.2.2.2.2.1 u.2.2.2.2.2.2.2.2.2.2.2.1 u.2.2.2.2.2.2.2.2.2.2.2.2.1 u.2.2.2.2.2.2.2.2.2.2.2.2.2 := by
  have hn : n < 1000 := by
    obtain ⟨l, lt, w, a1, a2, a3, a4, a5, a6, a7, a8, a9, a10, a11⟩ := u
    exact hI.2.2.2.2.2.2.2.2.1
  refine pk_loop (fun f i s => wX_since_55 post (nI p) (nI q) f (nI i) s.1 s.2.1 s.2.2.1 s.2.2.2.1 s.2.2.2.2.1 s.2.2.2.2.2.1 s.2.2.2.2.2.2.1 s.2.2.2.2.2.2.2.1 s.2.2.2.2.2.2.2.2.1 s.2.2.2.2.2.2.2.2.2.1 s.2.2.2.2.2.2.2.2.2.2.1 s.2.2.2.2.2.2.2.2.2.2.2.1 s.2.2.2.2.2.2.2.2.2.2.2.2.1 s.2.2.2.2.2.2.2.2.2.2.2.2.2) (fun i s => n - 7 ≤ i ∧ (∃ k, rt_I H n k c s) ∧ ∀ j, n - 7 ≤ j → j < i → rb_t (rm_m (H j) q) p = false) (n + 1) (n - 7) u (by omega) ⟨Nat.le_refl _, ⟨k, hI⟩, fun j h1 h2 => absurd h2 (by omega)⟩ ?_ ?_
  · intro f s h
    obtain ⟨_, ⟨k, hI⟩, h⟩ := h
    obtain ⟨l, lt, w, a1, a2, a3, a4, a5, a6, a7, a8, a9, a10, a11⟩ := s
    have hpost := hp k (-3) _ hI (Or.inl ⟨rfl, fun j h1 h2 => h j h1 (by omega)⟩)
    obtain ⟨rfl, rfl, _⟩ := hI
    exact br_t (nI_lt (by omega) (by omega)) hpost
  · intro f i s hi h hw
    obtain ⟨hi7, ⟨k, hI⟩, h⟩ := h
    obtain ⟨l, lt, w, a1, a2, a3, a4, a5, a6, a7, a8, a9, a10, a11⟩ := s
    have hlt : lt = nI n := hI.2.1
    subst hlt
    refine br_f (nI_nlt (by omega) (by omega)) (rt_load hI (by omega) (by omega) (fun u hI => ?_))
    obtain ⟨l, lt, w, a1, a2, a3, a4, a5, a6, a7, a8, a9, a10, a11⟩ := u
    refine rt_membersOf hI hq (fun u hI => ?_)
    have hpost := hp i (nI i) u hI
    have hws := hw u
    obtain ⟨l, lt, w, a1, a2, a3, a4, a5, a6, a7, a8, a9, a10, a11⟩ := u
    refine rb_if p (by omega) (fun hb => nm_r (nI_1 i) ?_) (fun hb => ?_)
    · exact hws ⟨by omega, ⟨i, hI⟩, fun j h1 h2 => by
        by_cases e : j = i
        · rw [e]; exact hb
        · exact h j h1 (by omega)⟩
    · exact hpost (Or.inr ⟨i, hi7, by omega, rfl, hb, h⟩)
theorem rt_since {post : Int32 → St1 → Prop} {H : Nat → rt_S} {n k p q : Nat} {c : Nat → Int32} {u : St1} (hI : rt_I H n k c u) (hpp : p < 6) (hq : q < 18) (hp : ∀ k r u, rt_I H n k c u → rt_z H n p q r → post r u) : wpX_since post u (nI p) (nI q) (nI (n - 8)) := by
  have t := rt_since_55 hI hpp hq hp
  obtain ⟨l, lt, w, a1, a2, a3, a4, a5, a6, a7, a8, a9, a10, a11⟩ := u
  unfold wpX_since
  refine rt_person hpp (br_f (by decide) (rt_group hq (br_f (by decide) (rt_state hI (by omega) (br_f (by decide) ?_)))))
  have hI' := hI
  obtain ⟨rfl, rfl, rfl, rfl, rfl, rfl, h1, h2, hn, hj, hv, ho⟩ := hI'
  refine nm_e ?_
  have e : (nI n - nI 7).toInt = (n : Int) - (7 : Nat) := pk_sub_toInt (by omega) (by omega)
  have e2 : (nI n - 8) + 1 = nI n - nI 7 := by
    have e3 : (nI 7 : Int32) = 8 - 1 := by decide
    rw [e3]; grind
  rw [e2]
  by_cases h8 : n < 8
  · have e4 : n - 8 = n - 7 := by omega
    refine br_t ?_ ?_
    · rw [Int32.le_iff_toInt_le, e, nI_toInt (by omega)]; omega
    · rw [e4]; exact t
  · refine br_f ?_ ?_
    · rw [Int32.le_iff_toInt_le, e, nI_toInt (by omega)]; omega
    · rw [pk_sub (by omega)]; exact t
end
section
/-! changed -/
theorem rt_I_c {H : Nat → rt_S} {n k : Nat} {c c' : Nat → Int32} {l lt w : Int32} {a1 a2 a3 a4 a5 a6 a7 a8 a9 a10 a11 : Nat → Int32} (h : rt_I H n k c (l, lt, w, a1, a2, a3, a4, a5, a6, a7, a8, a9, a10, a11)) : rt_I H n k c' (l, lt, w, a1, a2, a3, a4, a5, a6, a7, a8, a9, a10, c') := by
  obtain ⟨h1, h2, h3, h4, h5, h6, h7⟩ := h
  exact ⟨h1, h2, h3, h4, h5, rfl, h7⟩
theorem rt_2_123 (post : Int32 → St1 → Prop) (J : Int32 → Int32 → (Nat → Int32) → (Nat → Int32) → (Nat → Int32) → (Nat → Int32) → (Nat → Int32) → (Nat → Int32) → (Nat → Int32) → (Nat → Int32) → (Nat → Int32) → (Nat → Int32) → (Nat → Int32) → Prop) (x1 x2 x5 l lt : Int32) : ∀ n, wX_sourcesTo_2_123 post J x1 x2 x5 l lt n = wX_sourcesTo_123 post J x1 x2 x5 l lt n
  | 0 => rfl
  | n + 1 => by
    rw [wX_sourcesTo_2_123, wX_sourcesTo_123, rt_2_123 post J x1 x2 x5 l lt n]
theorem rt_2_41 (post : Int32 → St1 → Prop) (x1 l lt : Int32) : ∀ n, wX_sourcesTo_2_41 post x1 l lt n = wX_sourcesTo_41 post x1 l lt n
  | 0 => rfl
  | n + 1 => by
    rw [wX_sourcesTo_2_41, wX_sourcesTo_41, rt_2_41 post x1 l lt n]
    simp only [rt_2_123]
theorem rt_2_11 (post : Int32 → St1 → Prop) (x2 : Int32) (l lt w : Int32) (a1 a2 a3 a4 a5 a6 a7 a8 a9 a10 a11 : Nat → Int32) : ∀ n, wX_membersOf_2_11 post x2 l lt w a1 a2 a3 a4 a5 a6 a7 a8 a9 a10 a11 n = wX_membersOf_11 post x2 l lt w a1 a2 a3 a4 a5 a6 a7 a8 a9 a10 a11 n
  | 0 => rfl
  | n + 1 => by
    rw [wX_membersOf_2_11, wX_membersOf_11, rt_2_11 post x2 l lt w a1 a2 a3 a4 a5 a6 a7 a8 a9 a10 a11 n]
theorem rt_2_s (post : Int32 → St1 → Prop) (u : St1) (p : Int32) : wpX_sourcesTo_2 post u p = wpX_sourcesTo post u p := by
  obtain ⟨l, lt, w, a1, a2, a3, a4, a5, a6, a7, a8, a9, a10, a11⟩ := u
  unfold wpX_sourcesTo_2 wpX_sourcesTo
  simp only [rt_2_41]
theorem rt_2_m (post : Int32 → St1 → Prop) (u : St1) (p : Int32) : wpX_membersOf_2 post u p = wpX_membersOf post u p := by
  obtain ⟨l, lt, w, a1, a2, a3, a4, a5, a6, a7, a8, a9, a10, a11⟩ := u
  unfold wpX_membersOf_2 wpX_membersOf
  simp only [rt_2_s, rt_2_11]
/-- how many bits differ between two states -/
noncomputable def rt_d (H : Nat → rt_S) (a b : Nat) : Int32 := rb_s (fun g => rb_s (fun p => rb_i (rb_t (rm_m (H b) g ^^^ rm_m (H a) g) p)) 6) 18
theorem rt_d_comm (H : Nat → rt_S) (a b : Nat) : rt_d H a b = rt_d H b a :=
  rb_s_congr 18 (fun g _ => rb_s_congr 6 (fun p _ => by
    show rb_i (rb_t (rm_m (H b) g ^^^ rm_m (H a) g) p) = rb_i (rb_t (rm_m (H a) g ^^^ rm_m (H b) g) p)
    rw [rb_xor, rb_xor, Bool.xor_comm]))
theorem rt_changed_95 {post : Int32 → St1 → Prop} {J : Int32 → Int32 → Int32 → Int32 → Int32 → (Nat → Int32) → (Nat → Int32) → (Nat → Int32) → (Nat → Int32) → (Nat → Int32) → (Nat → Int32) → (Nat → Int32) → (Nat → Int32) → (Nat → Int32) → (Nat → Int32) → (Nat → Int32) → Prop} {l lt w : Int32} {a1 a2 a3 a4 a5 a6 a7 a8 a9 a10 a11 : Nat → Int32} {x3 x5 : Int32} {g : Nat} (hg : g < 18) (h : J (x3 + rb_s (fun p => rb_i (rb_t (x5 ^^^ a11 g) p)) 6) (nI (g + 1)) l lt w a1 a2 a3 a4 a5 a6 a7 a8 a9 a10 a11) : ∃ f, wX_changed_95 post J (nI g) x5 l lt w a1 a2 a3 a4 a5 a6 a7 a8 a9 a10 a11 f x3 0 := by
  have t := pk_loop (σ := Unit) (fun f i _ => wX_changed_95 post J (nI g) x5 l lt w a1 a2 a3 a4 a5 a6 a7 a8 a9 a10 a11 f (x3 + rb_s (fun p => rb_i (rb_t (x5 ^^^ a11 g) p)) i) (nI i)) (fun _ _ => True) 6 0 () (by omega) trivial
    (fun f _ _ => pk_le 6 6 (fun _ => nm_r (nI_1 g) h) (fun z => absurd z (by omega)))
    (fun f i _ hi _ hw => pk_le 6 i (fun z => absurd z (by omega)) (fun _ => ⟨pk_in g 18 hg, nm_r (by rw [nI_clamp (by omega), rb_bit _ (by omega), Int32.add_assoc]; rfl) (nm_r (nI_1 i) (hw () trivial))⟩))
  obtain ⟨f, t⟩ := t
  have t' : wX_changed_95 post J (nI g) x5 l lt w a1 a2 a3 a4 a5 a6 a7 a8 a9 a10 a11 f (x3 + 0) 0 := t
  rw [Int32.add_zero] at t'
  exact ⟨f, t'⟩
theorem rt_changed_77 {post : Int32 → St1 → Prop} {H : Nat → rt_S} {n a b : Nat} {c : Nat → Int32} {u : St1} (hI : rt_I H n b c u) (hc : ∀ g, g < 18 → c g = rm_m (H a) g) (hp : ∀ u, rt_I H n b c u → post (rt_d H a b) u) : ∃ f, wX_changed_77 post f 0 0 u.1 u.2.1 u.2.2.1 u.2.2.2.1 u.2.2.2.2.1 u.2.2.2.2.2.1 u.2.2.2.2.2.2.1 u.2.2.2.2.2.2.2.1 u.2.2.2.2.2.2.2.2.1 u.2.2.2.2.2.2.2.2.2.1 u.2.2.2.2.2.2.2.2.2.2.1 u.2.2.2.2.2.2.2.2.2.2.2.1 u.2.2.2.2.2.2.2.2.2.2.2.2.1 u.2.2.2.2.2.2.2.2.2.2.2.2.2 := by
  refine pk_loop (fun f i s => wX_changed_77 post f (rb_s (fun g => rb_s (fun p => rb_i (rb_t (rm_m (H b) g ^^^ rm_m (H a) g) p)) 6) i) (nI i) s.1 s.2.1 s.2.2.1 s.2.2.2.1 s.2.2.2.2.1 s.2.2.2.2.2.1 s.2.2.2.2.2.2.1 s.2.2.2.2.2.2.2.1 s.2.2.2.2.2.2.2.2.1 s.2.2.2.2.2.2.2.2.2.1 s.2.2.2.2.2.2.2.2.2.2.1 s.2.2.2.2.2.2.2.2.2.2.2.1 s.2.2.2.2.2.2.2.2.2.2.2.2.1 s.2.2.2.2.2.2.2.2.2.2.2.2.2) (fun _ s => rt_I H n b c s) 18 0 u (by omega) hI ?_ ?_
  · intro f s h
    exact pk_le 18 18 (fun _ => hp s h) (fun z => absurd z (by omega))
  · intro f i s hi h hw
    refine pk_le 18 i (fun z => absurd z (by omega)) (fun _ => rt_membersOf (u := s) h hi (fun u hI => ?_))
    have t := hw u hI
    obtain ⟨l, lt, w, a1, a2, a3, a4, a5, a6, a7, a8, a9, a10, a11⟩ := u
    have e11 : a11 = c := hI.2.2.2.2.2.1
    subst e11
    refine rt_changed_95 hi ?_
    rw [hc i hi]
    exact t
theorem rt_changed_44 {post : Int32 → St1 → Prop} {H : Nat → rt_S} {n a b : Nat} {c : Nat → Int32} {u : St1} (hI : rt_I H n a c u) (hb : b ≤ n) (hb2 : n < b + 8) (hp : ∀ c u, rt_I H n b c u → post (rt_d H a b) u) : ∃ f, wX_changed_44 post (nI b) f 0 u.1 u.2.1 u.2.2.1 u.2.2.2.1 u.2.2.2.2.1 u.2.2.2.2.2.1 u.2.2.2.2.2.2.1 u.2.2.2.2.2.2.2.1 u.2.2.2.2.2.2.2.2.1 u.2.2.2.2.2.2.2.2.2.1 u.2.2.2.2.2.2.2.2.2.2.1 u.2.2.2.2.2.2.2.2.2.2.2.1 u.2.2.2.2.2.2.2.2.2.2.2.2.1 u.2.2.2.2.2.2.2.2.2.2.2.2.2 := by
  refine pk_loop (fun f i s => wX_changed_44 post (nI b) f (nI i) s.1 s.2.1 s.2.2.1 s.2.2.2.1 s.2.2.2.2.1 s.2.2.2.2.2.1 s.2.2.2.2.2.2.1 s.2.2.2.2.2.2.2.1 s.2.2.2.2.2.2.2.2.1 s.2.2.2.2.2.2.2.2.2.1 s.2.2.2.2.2.2.2.2.2.2.1 s.2.2.2.2.2.2.2.2.2.2.2.1 s.2.2.2.2.2.2.2.2.2.2.2.2.1 s.2.2.2.2.2.2.2.2.2.2.2.2.2) (fun i s => ∃ c, rt_I H n a c s ∧ ∀ g, g < i → c g = rm_m (H a) g) 18 0 u (by omega) ⟨c, hI, fun g hg => absurd hg (by omega)⟩ ?_ ?_
  · intro f s h
    obtain ⟨c, hI, hc⟩ := h
    refine pk_le 18 18 (fun _ => rt_load (u := s) hI hb hb2 (fun u hI => ?_)) (fun z => absurd z (by omega))
    have t := rt_changed_77 hI hc (hp c)
    obtain ⟨l, lt, w, a1, a2, a3, a4, a5, a6, a7, a8, a9, a10, a11⟩ := u
    exact t
  · intro f i s hi h hw
    obtain ⟨c, hI, hc⟩ := h
    refine pk_le 18 i (fun z => absurd z (by omega)) (fun _ => ?_)
    rw [rt_2_m]
    refine rt_membersOf (u := s) hI hi (fun u hI => ?_)
    obtain ⟨l, lt, w, a1, a2, a3, a4, a5, a6, a7, a8, a9, a10, a11⟩ := u
    have e11 : a11 = c := hI.2.2.2.2.2.1
    subst e11
    refine ⟨pk_in i 18 hi, nm_r (by rw [nI_clamp (by omega)]) (nm_r (nI_1 i) ?_)⟩
    exact hw (l, lt, w, a1, a2, a3, a4, a5, a6, a7, a8, a9, a10, upd a11 i (rm_m (H a) i)) ⟨_, rt_I_c hI, fun g hg => by
      by_cases e : g = i
      · rw [e, pk_us]
      · rw [pk_un e]; exact hc g (by omega)⟩
theorem rt_changed {post : Int32 → St1 → Prop} {H : Nat → rt_S} {n k a b : Nat} {c : Nat → Int32} {u : St1} (hI : rt_I H n k c u) (ha : a ≤ n) (ha2 : n < a + 8) (hb : b ≤ n) (hb2 : n < b + 8) (hp : ∀ c u, rt_I H n b c u → post (rt_d H a b) u) : wpX_changed post u (nI a) (nI b) := by
  obtain ⟨l, lt, w, a1, a2, a3, a4, a5, a6, a7, a8, a9, a10, a11⟩ := u
  unfold wpX_changed
  refine rt_state hI ha (br_f (by decide) (rt_state hI hb (br_f (by decide) (rt_kept hI ha ha2 (br_f (by decide) (rt_kept hI hb hb2 (br_f (by decide) (rt_load hI ha ha2 (fun u hI => ?_)))))))))
  have t := rt_changed_44 hI hb hb2 hp
  obtain ⟨l, lt, w, a1, a2, a3, a4, a5, a6, a7, a8, a9, a10, a11⟩ := u
  exact t
end
section
/-! changes -/
def rt_x (H : Nat → rt_S) (n : Nat) (s : rt_S) : Nat → rt_S := fun j => if j = n + 1 then s else H j
theorem rt_x_new (H : Nat → rt_S) (n : Nat) (s : rt_S) : rt_x H n s (n + 1) = s := if_pos rfl
theorem rt_x_old (H : Nat → rt_S) {n : Nat} (s : rt_S) {j : Nat} (h : j ≤ n) : rt_x H n s j = H j := if_neg (by omega)
theorem rt_nb (b : Bool) : vp_nar .boolean (rb_i b) = rb_i b := by cases b <;> rfl
theorem rt_nv {v : Int32} (h : v = 0 ∨ v = 1) : vp_nar .boolean v = v := by
  rcases h with rfl | rfl <;> rfl
theorem rt_note {post : St1 → Prop} {H : Nat → rt_S} {n so p q : Nat} {c : Nat → Int32} {u : St1} {b v : Int32} (hI : rt_I H n n c u) (hn : n + 1 < 1000) (hg : rt_g so p q) (hb : b = rb_i (rb_t (rt_a so q (H n)) p)) (hv : v = 0 ∨ v = 1)
    (hp : ∀ u, rt_I (rt_x H n (rt_k so p q v (H n))) (n + 1) (n + 1) c u → post u) : wpX_noteChange post u (nI so) (nI p) (nI q) b v := by
  obtain ⟨l, lt, w, a1, a2, a3, a4, a5, a6, a7, a8, a9, a10, a11⟩ := u
  obtain ⟨rfl, rfl, rfl, rfl, rfl, rfl, h1, h2, _, hj, hvv, ho⟩ := hI
  have hq : q < 18 := by
    obtain ⟨g1, g2, g3, g4, g5⟩ := hg
    rcases (show so = 0 ∨ so = 1 ∨ so = 2 by omega) with z | z | z
    · exact (g3 z).2
    · exact g4 z
    · have := (g5 z).2; omega
  have i8 : (n + 1) % 8 < 8 := by omega
  have eb : vp_nar .boolean b = b := by rw [hb]; exact rt_nb _
  unfold wpX_noteChange
  refine nm_r (nI_1 n) ⟨by decide, nm_r (rt_r8 (by omega)) ⟨pk_in _ 8 i8, ?_⟩⟩
  rw [nI_clamp (by omega), rt_i8 so (by have := hg.1; omega), rt_i8 p hg.2.1, rt_i8 q hq, eb, rt_nv hv]
  refine nm_e ⟨pk_in _ 8 i8, nm_e ⟨pk_in _ 8 i8, nm_e ⟨pk_in _ 8 i8, nm_e ⟨pk_in _ 8 i8, nm_e ?_⟩⟩⟩⟩
  refine rt_make i8 pk_us pk_us pk_us hg (fun a9' h9 h9' => hp _ ⟨rfl, rfl, ?_, ?_, ?_, rfl, by omega, by omega, hn, ?_, ?_, ?_⟩)
  · rw [rt_x_new]
  · rw [rt_x_new]
  · rw [rt_x_new]
  · intro j hjn hj8
    by_cases e : j = n
    · subst e
      refine ⟨so, p, q, pk_us, pk_us, pk_us, hg, ?_, ?_⟩
      · rw [pk_us, rt_x_new, rt_x_old H _ (Nat.le_refl j)]
        exact rt_back hg.1 (by have := hg.2.1; omega) hb
      · rw [pk_us, rt_x_new, rt_x_old H _ (Nat.le_refl j)]
    · obtain ⟨so', p', q', e4, e5, e6, hg', k1, k2⟩ := hj j (by omega) (by omega)
      have ne : (j + 1) % 8 ≠ (n + 1) % 8 := by omega
      refine ⟨so', p', q', ?_, ?_, ?_, hg', ?_, ?_⟩
      · rw [pk_un ne]; exact e4
      · rw [pk_un ne]; exact e5
      · rw [pk_un ne]; exact e6
      · rw [pk_un ne, rt_x_old H _ (by omega), rt_x_old H _ (by omega)]; exact k1
      · rw [pk_un ne, rt_x_old H _ (by omega), rt_x_old H _ (by omega)]; exact k2
  · exact rt_v_k hvv h9 h9' (rt_x_new H n _).symm
  · intro j hjn
    by_cases e : j = n + 1
    · rw [e, rt_x_new]; exact rt_k_o hg (ho n (Nat.le_refl n))
    · rw [rt_x_old H _ (by omega)]; exact ho j (by omega)
theorem rt_bit0 {x : Int32} {p : Nat} (h : rb_t x p = false) : (0 : Int32) = rb_i (rb_t x p) := by rw [h]; rfl
theorem rt_bit1 {x : Int32} {p : Nat} (h : rb_t x p = true) : (1 : Int32) = rb_i (rb_t x p) := by rw [h]; rfl
theorem rt_enter {post : Int32 → St1 → Prop} {H : Nat → rt_S} {n k p q : Nat} {c : Nat → Int32} {u : St1} {v : Int32} (hI : rt_I H n k c u) (hn : n + 1 < 1000) (hp : p < 6) (hq : q < 18) (hv : v = 0 ∨ v = 1)
    (hpost : ∀ u, rt_I (rt_x H n (rt_k 0 p q v (H n))) (n + 1) (n + 1) c u → post (nI (n + 1)) u) : wpX_enter post u (nI p) (nI q) v := by
  obtain ⟨l, lt, w, a1, a2, a3, a4, a5, a6, a7, a8, a9, a10, a11⟩ := u
  have hlt : lt = nI n := hI.2.1
  subst hlt
  unfold wpX_enter
  refine rt_person hp (br_f (by decide) (rt_group hq (br_f (by decide) (rt_load hI (Nat.le_refl n) (by omega) (fun u hI => ?_)))))
  obtain ⟨l, lt, w, a1, a2, a3, a4, a5, a6, a7, a8, a9, a10, a11⟩ := u
  have e1 : a1 = (H n).1 := hI.2.2.1
  subst e1
  have hg : rt_g 0 p q := ⟨by omega, by omega, fun _ => ⟨hp, hq⟩, fun _ => hq, fun z => absurd z (by decide)⟩
  refine ⟨pk_in q 18 hq, ?_⟩
  rw [nI_clamp (by omega)]
  refine rb_if p (by omega) (fun kb => ?_) (fun kb => ?_)
  · refine rt_note (so := 0) hI hn hg (rt_bit0 kb) hv (fun u hI => ?_)
    obtain ⟨l, lt, w, a1, a2, a3, a4, a5, a6, a7, a8, a9, a10, a11⟩ := u
    have h := hpost _ hI
    have e2 : lt = nI (n + 1) := hI.2.1
    rw [← e2] at h
    exact h
  · refine rt_note (so := 0) hI hn hg (rt_bit1 kb) hv (fun u hI => ?_)
    obtain ⟨l, lt, w, a1, a2, a3, a4, a5, a6, a7, a8, a9, a10, a11⟩ := u
    have h := hpost _ hI
    have e2 : lt = nI (n + 1) := hI.2.1
    rw [← e2] at h
    exact h
theorem rt_nest {post : Int32 → St1 → Prop} {H : Nat → rt_S} {n k p q : Nat} {c : Nat → Int32} {u : St1} {v : Int32} (hI : rt_I H n k c u) (hn : n + 1 < 1000) (hp : p < 18) (hq : q < 18) (hv : v = 0 ∨ v = 1)
    (hpost : ∀ u, rt_I (rt_x H n (rt_k 1 p q v (H n))) (n + 1) (n + 1) c u → post (nI (n + 1)) u) : wpX_nest post u (nI p) (nI q) v := by
  obtain ⟨l, lt, w, a1, a2, a3, a4, a5, a6, a7, a8, a9, a10, a11⟩ := u
  have hlt : lt = nI n := hI.2.1
  subst hlt
  unfold wpX_nest
  refine rt_group hp (br_f (by decide) (rt_group hq (br_f (by decide) (rt_load hI (Nat.le_refl n) (by omega) (fun u hI => ?_)))))
  obtain ⟨l, lt, w, a1, a2, a3, a4, a5, a6, a7, a8, a9, a10, a11⟩ := u
  have e1 : a2 = (H n).2.1 := hI.2.2.2.1
  subst e1
  have hg : rt_g 1 p q := ⟨by omega, by omega, fun z => absurd z (by decide), fun _ => hq, fun z => absurd z (by decide)⟩
  refine ⟨pk_in q 18 hq, ?_⟩
  rw [nI_clamp (by omega)]
  refine rb_if p (by omega) (fun kb => ?_) (fun kb => ?_)
  · refine rt_note (so := 1) hI hn hg (rt_bit0 kb) hv (fun u hI => ?_)
    obtain ⟨l, lt, w, a1, a2, a3, a4, a5, a6, a7, a8, a9, a10, a11⟩ := u
    have h := hpost _ hI
    have e2 : lt = nI (n + 1) := hI.2.1
    rw [← e2] at h
    exact h
  · refine rt_note (so := 1) hI hn hg (rt_bit1 kb) hv (fun u hI => ?_)
    obtain ⟨l, lt, w, a1, a2, a3, a4, a5, a6, a7, a8, a9, a10, a11⟩ := u
    have h := hpost _ hI
    have e2 : lt = nI (n + 1) := hI.2.1
    rw [← e2] at h
    exact h
theorem rt_rules {post : Int32 → St1 → Prop} {H : Nat → rt_S} {n k p q : Nat} {c : Nat → Int32} {u : St1} {v : Int32} (hI : rt_I H n k c u) (hn : n + 1 < 1000) (hp : p < 3) (hq : q < 3) (hpq : p ≠ q) (hv : v = 0 ∨ v = 1)
    (hpost : ∀ u, rt_I (rt_x H n (rt_k 2 p q v (H n))) (n + 1) (n + 1) c u → post (nI (n + 1)) u) : wpX_rule post u (nI p) (nI q) v := by
  obtain ⟨l, lt, w, a1, a2, a3, a4, a5, a6, a7, a8, a9, a10, a11⟩ := u
  have hlt : lt = nI n := hI.2.1
  subst hlt
  unfold wpX_rule
  refine br_f (nI_pos (by omega)) (br_f (show ¬ nI 2 < nI p from nI_nlt (by omega) (by omega)) (br_f (nI_pos (by omega)) (br_f (show ¬ nI 2 < nI q from nI_nlt (by omega) (by omega)) (br_f (fun z => hpq ((nI_eq (by omega) (by omega)).mp z)) (rt_load hI (Nat.le_refl n) (by omega) (fun u hI => ?_))))))
  obtain ⟨l, lt, w, a1, a2, a3, a4, a5, a6, a7, a8, a9, a10, a11⟩ := u
  have e1 : a3 = (H n).2.2 := hI.2.2.2.2.1
  subst e1
  have hg : rt_g 2 p q := ⟨by omega, by omega, fun z => absurd z (by decide), fun z => absurd z (by decide), fun _ => ⟨hp, hq⟩⟩
  refine ⟨pk_in q 3 hq, ?_⟩
  rw [nI_clamp (by omega)]
  refine rb_if p (by omega) (fun kb => ?_) (fun kb => ?_)
  · refine rt_note (so := 2) hI hn hg (rt_bit0 kb) hv (fun u hI => ?_)
    obtain ⟨l, lt, w, a1, a2, a3, a4, a5, a6, a7, a8, a9, a10, a11⟩ := u
    have h := hpost _ hI
    have e2 : lt = nI (n + 1) := hI.2.1
    rw [← e2] at h
    exact h
  · refine rt_note (so := 2) hI hn hg (rt_bit1 kb) hv (fun u hI => ?_)
    obtain ⟨l, lt, w, a1, a2, a3, a4, a5, a6, a7, a8, a9, a10, a11⟩ := u
    have h := hpost _ hI
    have e2 : lt = nI (n + 1) := hI.2.1
    rw [← e2] at h
    exact h
end
section
/-! holds -/
theorem rh_ones {post : Int32 → Prop} {v : Int32} (h : post (rb_s (fun g => rb_i (rb_t v g)) 18)) : wpL_ones post () v :=
  pk_loop (σ := Unit) (fun f i _ => wL_ones_4 post v f (rb_s (fun g => rb_i (rb_t v g)) i) (nI i)) (fun _ _ => True) 18 0 () (by omega) trivial
    (fun f _ _ => pk_le 18 18 (fun _ => h) (fun z => absurd z (by omega)))
    (fun f i _ hi _ hw => pk_le 18 i (fun z => absurd z (by omega)) (fun _ => nm_r (by rw [rb_bit _ (by omega)]; rfl) (nm_r (nI_1 i) (hw () trivial))))
theorem rh_122 {post : Int32 → St1 → Prop} {J : Int32 → Int32 → Int32 → Int32 → (Nat → Int32) → (Nat → Int32) → (Nat → Int32) → (Nat → Int32) → (Nat → Int32) → (Nat → Int32) → (Nat → Int32) → (Nat → Int32) → (Nat → Int32) → (Nat → Int32) → (Nat → Int32) → Prop} {H : Nat → rt_S} {n m g : Nat} {c : Nat → Int32} {u : St1} {x2 x3 : Int32} (hI : rt_I H n m c u) (hm : m ≤ n) (hm2 : n < m + 8) (hJ : ∀ u : St1, rt_I H n m c u → J (nI (g + 1)) u.1 u.2.1 u.2.2.1 u.2.2.2.1 u.2.2.2.2.1 u.2.2.2.2.2.1 u.2.2.2.2.2.2.1 u.2.2.2.2.2.2.2.1 u.2.2.2.2.2.2.2.2.1 u.2.2.2.2.2.2.2.2.2.1 u.2.2.2.2.2.2.2.2.2.2.1 u.2.2.2.2.2.2.2.2.2.2.2.1 u.2.2.2.2.2.2.2.2.2.2.2.2.1 u.2.2.2.2.2.2.2.2.2.2.2.2.2) :
    ∃ f, wL_holds_122 post J (nI m) x2 x3 (nI g) (rs_s (H m).2.1 (H m).2.2 g) (rm_m (H m) g) f 0 u.1 u.2.1 u.2.2.1 u.2.2.2.1 u.2.2.2.2.1 u.2.2.2.2.2.1 u.2.2.2.2.2.2.1 u.2.2.2.2.2.2.2.1 u.2.2.2.2.2.2.2.2.1 u.2.2.2.2.2.2.2.2.2.1 u.2.2.2.2.2.2.2.2.2.2.1 u.2.2.2.2.2.2.2.2.2.2.2.1 u.2.2.2.2.2.2.2.2.2.2.2.2.1 u.2.2.2.2.2.2.2.2.2.2.2.2.2 := by
  refine pk_loop (fun f i s => wL_holds_122 post J (nI m) x2 x3 (nI g) (rs_s (H m).2.1 (H m).2.2 g) (rm_m (H m) g) f (nI i) s.1 s.2.1 s.2.2.1 s.2.2.2.1 s.2.2.2.2.1 s.2.2.2.2.2.1 s.2.2.2.2.2.2.1 s.2.2.2.2.2.2.2.1 s.2.2.2.2.2.2.2.2.1 s.2.2.2.2.2.2.2.2.2.1 s.2.2.2.2.2.2.2.2.2.2.1 s.2.2.2.2.2.2.2.2.2.2.2.1 s.2.2.2.2.2.2.2.2.2.2.2.2.1 s.2.2.2.2.2.2.2.2.2.2.2.2.2) (fun _ s => rt_I H n m c s) 18 0 u (by omega) hI ?_ ?_
  · intro f s h
    exact pk_le 18 18 (fun _ => nm_r (nI_1 g) (hJ s h)) (fun z => absurd z (by omega))
  · intro f i s hi h hw
    refine pk_le 18 i (fun z => absurd z (by omega)) (fun _ => rb_if1 i (by omega) (fun kb => rt_members (u := s) h hm hm2 hi (fun u hI => ?_)) (fun kb => nm_r (nI_1 i) (hw s h)))
    obtain ⟨l, lt, w, a1, a2, a3, a4, a5, a6, a7, a8, a9, a10, a11⟩ := u
    refine br_t (rb_sub0 (fun j _ => rm_in kb j)) (rt_sources hI hm hm2 hi (fun u hI => ?_))
    have t := hw u hI
    obtain ⟨l, lt, w, a1, a2, a3, a4, a5, a6, a7, a8, a9, a10, a11⟩ := u
    exact br_t (rb_sub0 (fun j _ => rs_in kb j)) (nm_r (nI_1 i) t)
theorem rh_69 {post : Int32 → St1 → Prop} {H : Nat → rt_S} {n k a b : Nat} {c : Nat → Int32} {u : St1} (hI : rt_I H n k c u) (ha : a ≤ n) (ha2 : n < a + 8) (hb : b ≤ n) (hb2 : n < b + 8) (hp : ∀ k c u, rt_I H n k c u → post 1 u) :
    ∃ f, wL_holds_69 post (nI a) (nI b) (rt_d H a b) f 0 u.1 u.2.1 u.2.2.1 u.2.2.2.1 u.2.2.2.2.1 u.2.2.2.2.2.1 u.2.2.2.2.2.2.1 u.2.2.2.2.2.2.2.1 u.2.2.2.2.2.2.2.2.1 u.2.2.2.2.2.2.2.2.2.1 u.2.2.2.2.2.2.2.2.2.2.1 u.2.2.2.2.2.2.2.2.2.2.2.1 u.2.2.2.2.2.2.2.2.2.2.2.2.1 u.2.2.2.2.2.2.2.2.2.2.2.2.2 := by
  have ho : rt_o (H a) := by
    obtain ⟨l, lt, w, a1, a2, a3, a4, a5, a6, a7, a8, a9, a10, a11⟩ := u
    obtain ⟨_, _, _, _, _, _, _, _, _, _, _, ho⟩ := hI
    exact ho a ha
  refine pk_loop (fun f i s => wL_holds_69 post (nI a) (nI b) (rt_d H a b) f (nI i) s.1 s.2.1 s.2.2.1 s.2.2.2.1 s.2.2.2.2.1 s.2.2.2.2.2.1 s.2.2.2.2.2.2.1 s.2.2.2.2.2.2.2.1 s.2.2.2.2.2.2.2.2.1 s.2.2.2.2.2.2.2.2.2.1 s.2.2.2.2.2.2.2.2.2.2.1 s.2.2.2.2.2.2.2.2.2.2.2.1 s.2.2.2.2.2.2.2.2.2.2.2.2.1 s.2.2.2.2.2.2.2.2.2.2.2.2.2) (fun _ s => ∃ k, rt_I H n k c s) 18 0 u (by omega) ⟨k, hI⟩ ?_ ?_
  · intro f s h
    obtain ⟨k, hI⟩ := h
    refine pk_le 18 18 (fun _ => rt_changed (u := s) hI ha ha2 hb hb2 (fun c u hI => ?_)) (fun z => absurd z (by omega))
    obtain ⟨l, lt, w, a1, a2, a3, a4, a5, a6, a7, a8, a9, a10, a11⟩ := u
    refine br_t rfl (rt_changed hI hb hb2 ha ha2 (fun c u hI => ?_))
    have t := hp a c u hI
    obtain ⟨l, lt, w, a1, a2, a3, a4, a5, a6, a7, a8, a9, a10, a11⟩ := u
    exact br_t (rt_d_comm H b a) t
  · intro f i s hi h hw
    obtain ⟨k, hI⟩ := h
    refine pk_le 18 i (fun z => absurd z (by omega)) (fun _ => rt_sources (u := s) hI ha ha2 hi (fun u hI => ?_))
    obtain ⟨l, lt, w, a1, a2, a3, a4, a5, a6, a7, a8, a9, a10, a11⟩ := u
    refine rt_members hI ha ha2 hi (fun u hI => ?_)
    have t := rh_122 (post := post) (J := wL_holds_69 post (nI a) (nI b) (rt_d H a b) f) (g := i) (x2 := nI b) (x3 := rt_d H a b) hI ha ha2 (fun u hI => hw u ⟨a, hI⟩)
    obtain ⟨l, lt, w, a1, a2, a3, a4, a5, a6, a7, a8, a9, a10, a11⟩ := u
    obtain ⟨y, hy, ey⟩ := rm_63 ho i
    refine rb_if1 i (by omega) (fun _ => br_f ?_ (br_t ?_ t)) (fun kb => ?_)
    · rw [ey]; exact nI_pos (by omega)
    · rw [ey]; exact (show nI y ≤ nI 63 from nI_le (by omega) (by omega))
    · rw [rs_self _ _ hi] at kb; exact absurd kb (by decide)
/-- the groups of a person in a state -/
noncomputable def rh_G (H : Nat → rt_S) (m p : Nat) : Int32 := rg_f (fun g => rb_t (rm_m (H m) g) p) 18
theorem rh_G_in (H : Nat → rt_S) (m p : Nat) : ∃ k : Nat, k < 262144 ∧ rh_G H m p = nI k := rb_lt 18 (fun i hi h => by
  unfold rh_G
  rw [rg_bit _ h 18 (by omega), decide_eq_false (by omega), Bool.false_and])
noncomputable def rh_D (H : Nat → rt_S) (a b : Nat) : Nat → Int32 := rb_s (fun p => rb_s (fun g => rb_i (rb_t (rh_G H a p ^^^ rh_G H b p) g)) 18)
theorem rh_D_eq (H : Nat → rt_S) (a b : Nat) : rh_D H a b 6 = rt_d H a b := by
  unfold rh_D rt_d
  rw [← rb_s_swap (fun g p => rb_i (rb_t (rh_G H a p ^^^ rh_G H b p) g)) 6 18]
  refine rb_s_congr 18 (fun g hg => rb_s_congr 6 (fun p hp => ?_))
  show rb_i (rb_t (rh_G H a p ^^^ rh_G H b p) g) = rb_i (rb_t (rm_m (H b) g ^^^ rm_m (H a) g) p)
  unfold rh_G
  rw [rb_xor, rb_xor, rg_bit _ (by omega) 18 (by omega), rg_bit _ (by omega) 18 (by omega), decide_eq_true hg, Bool.true_and, Bool.true_and, Bool.xor_comm]
theorem rh_holds {post : Int32 → St1 → Prop} {H : Nat → rt_S} {n k a b : Nat} {c : Nat → Int32} {u : St1} (hI : rt_I H n k c u) (ha : a ≤ n) (ha2 : n < a + 8) (hb : b ≤ n) (hb2 : n < b + 8) (hp : ∀ k c u, rt_I H n k c u → post 1 u) : wpL_holds post u (nI a) (nI b) := by
  have main : ∃ f, wL_holds_5 post (nI a) (nI b) f 0 0 u.1 u.2.1 u.2.2.1 u.2.2.2.1 u.2.2.2.2.1 u.2.2.2.2.2.1 u.2.2.2.2.2.2.1 u.2.2.2.2.2.2.2.1 u.2.2.2.2.2.2.2.2.1 u.2.2.2.2.2.2.2.2.2.1 u.2.2.2.2.2.2.2.2.2.2.1 u.2.2.2.2.2.2.2.2.2.2.2.1 u.2.2.2.2.2.2.2.2.2.2.2.2.1 u.2.2.2.2.2.2.2.2.2.2.2.2.2 := by
    refine pk_loop (fun f i s => wL_holds_5 post (nI a) (nI b) f (rh_D H a b i) (nI i) s.1 s.2.1 s.2.2.1 s.2.2.2.1 s.2.2.2.2.1 s.2.2.2.2.2.1 s.2.2.2.2.2.2.1 s.2.2.2.2.2.2.2.1 s.2.2.2.2.2.2.2.2.1 s.2.2.2.2.2.2.2.2.2.1 s.2.2.2.2.2.2.2.2.2.2.1 s.2.2.2.2.2.2.2.2.2.2.2.1 s.2.2.2.2.2.2.2.2.2.2.2.2.1 s.2.2.2.2.2.2.2.2.2.2.2.2.2) (fun _ s => ∃ k, rt_I H n k c s) 6 0 u (by omega) ⟨k, hI⟩ ?_ ?_
    · intro f s h
      obtain ⟨k, hI⟩ := h
      refine pk_le 6 6 (fun _ => ?_) (fun z => absurd z (by omega))
      rw [rh_D_eq]
      exact rh_69 hI ha ha2 hb hb2 hp
    · intro f i s hi h hw
      obtain ⟨k, hI⟩ := h
      refine pk_le 6 i (fun z => absurd z (by omega)) (fun _ => rt_groups (u := s) hI ha ha2 hi (fun u hI => ?_))
      obtain ⟨l, lt, w, a1, a2, a3, a4, a5, a6, a7, a8, a9, a10, a11⟩ := u
      refine rt_groups hI hb hb2 hi (fun u hI => ?_)
      have t := hw u ⟨b, hI⟩
      obtain ⟨l, lt, w, a1, a2, a3, a4, a5, a6, a7, a8, a9, a10, a11⟩ := u
      obtain ⟨y, hy, ey⟩ := rh_G_in H a i
      obtain ⟨z, hz, ez⟩ := rh_G_in H b i
      refine br_f ?_ (br_f ?_ (br_t ?_ (rh_ones (nm_e (nm_r (nI_1 i) t)))))
      · show ¬ rh_G H a i < 0
        rw [ey]; exact nI_pos (by omega)
      · show ¬ 262144 ≤ rh_G H a i
        rw [ey]; exact (show ¬ nI 262144 ≤ nI y from nI_ge hy (by omega))
      · show 0 ≤ rh_G H b i
        rw [ez]; exact nI_pos' (by omega)
  obtain ⟨l, lt, w, a1, a2, a3, a4, a5, a6, a7, a8, a9, a10, a11⟩ := u
  exact main
end
section
/-! the law's turn, from its end to its beginning -/
theorem rl_person0 {post : Int32 → Prop} {u : St1} {x : Int32} (hx : x < 0 ∨ 5 < x) (h : post 0) : wpX_isPerson post u x := by
  obtain ⟨l, lt, w, a1, a2, a3, a4, a5, a6, a7, a8, a9, a10, a11⟩ := u
  exact br_c (fun _ => h) (fun z => br_t (hx.resolve_left z) h)
theorem rl_17 {x : Int32} (h : 17 < x) : 18 ≤ x := by
  rw [Int32.lt_iff_toInt_lt] at h
  rw [Int32.le_iff_toInt_le]
  have e1 : (17 : Int32).toInt = 17 := by decide
  have e2 : (18 : Int32).toInt = 18 := by decide
  omega
theorem rl_group0 {post : Int32 → Prop} {u : St1} {x : Int32} (hx : x < 0 ∨ 17 < x) (h : post 0) : wpX_isGroup post u x := by
  obtain ⟨l, lt, w, a1, a2, a3, a4, a5, a6, a7, a8, a9, a10, a11⟩ := u
  exact br_c (fun _ => h) (fun z => br_t (rl_17 (hx.resolve_left z)) h)
theorem rl_personC {post : Int32 → Prop} {u : St1} {x : Int32} (h0 : post 0) (h1 : post 1) : wpX_isPerson post u x := by
  obtain ⟨l, lt, w, a1, a2, a3, a4, a5, a6, a7, a8, a9, a10, a11⟩ := u
  exact br_c (fun _ => h0) (fun z => br_c (fun _ => h0) (fun _ => h1))
theorem rl_groupC {post : Int32 → Prop} {u : St1} {x : Int32} (h0 : post 0) (h1 : post 1) : wpX_isGroup post u x := by
  obtain ⟨l, lt, w, a1, a2, a3, a4, a5, a6, a7, a8, a9, a10, a11⟩ := u
  exact br_c (fun _ => h0) (fun z => br_c (fun _ => h0) (fun _ => h1))
theorem rl_check_bad {post : Int32 → St1 → Prop} {u : St1} (h : post (-1) u) : wpX_check post u 0 6 0 := by
  obtain ⟨l, lt, w, a1, a2, a3, a4, a5, a6, a7, a8, a9, a10, a11⟩ := u
  unfold wpX_check
  exact rl_person0 (Or.inr (by decide)) (br_t rfl h)
theorem rl_groups_bad {post : Int32 → St1 → Prop} {u : St1} {x : Int32} (h : post (-1) u) : wpX_groups post u x (-1) := by
  obtain ⟨l, lt, w, a1, a2, a3, a4, a5, a6, a7, a8, a9, a10, a11⟩ := u
  unfold wpX_groups
  exact rl_person0 (Or.inl (by decide)) (br_t rfl h)
theorem rl_since_bad {post : Int32 → St1 → Prop} {u : St1} (h : post (-1) u) : wpX_since post u 0 18 0 := by
  obtain ⟨l, lt, w, a1, a2, a3, a4, a5, a6, a7, a8, a9, a10, a11⟩ := u
  unfold wpX_since
  exact rl_personC (br_t rfl h) (br_f (by decide) (rl_group0 (Or.inr (by decide)) (br_t rfl h)))
theorem rl_members_bad {post : Int32 → St1 → Prop} {H : Nat → rt_S} {n k : Nat} {c : Nat → Int32} {u : St1} (hI : rt_I H n k c u) (h : post (-1) u) : wpX_members post u (nI (n + 1)) 0 := by
  obtain ⟨l, lt, w, a1, a2, a3, a4, a5, a6, a7, a8, a9, a10, a11⟩ := u
  obtain ⟨rfl, rfl, _, _, _, _, h1, h2, hn, _⟩ := hI
  unfold wpX_members
  exact rt_group (g := 0) (by omega) (br_f (by decide) (br_f (nI_pos (by omega)) (br_t (nI_lt (by omega) (by omega)) (br_t rfl h))))
theorem rl_members_gone {post : Int32 → St1 → Prop} {H : Nat → rt_S} {n k : Nat} {c : Nat → Int32} {u : St1} (hI : rt_I H n k c u) (h8 : 8 ≤ n) (h : post (-2) u) : wpX_members post u (nI (n - 8)) 0 := by
  obtain ⟨l, lt, w, a1, a2, a3, a4, a5, a6, a7, a8, a9, a10, a11⟩ := u
  have hI' := hI
  obtain ⟨rfl, rfl, _, _, _, _, h1, h2, hn, _⟩ := hI'
  unfold wpX_members
  refine rt_group (g := 0) (by omega) (br_f (by decide) (rt_state hI (by omega) (br_f (by decide) ?_)))
  unfold wpX_isKept
  exact rt_state hI (by omega) (br_f (by decide) (br_t ((rt_sub8 (by omega) (by omega)).mpr (by omega)) (br_t rfl h)))
theorem rl_enter_bad {post : Int32 → St1 → Prop} {u : St1} {x y v : Int32} (hx : (x < 0 ∨ 5 < x) ∨ (y < 0 ∨ 17 < y)) (h : post (-1) u) : wpX_enter post u x y v := by
  obtain ⟨l, lt, w, a1, a2, a3, a4, a5, a6, a7, a8, a9, a10, a11⟩ := u
  unfold wpX_enter
  rcases hx with hx | hx
  · exact rl_person0 hx (br_t rfl h)
  · exact rl_personC (br_t rfl h) (br_f (by decide) (rl_group0 hx (br_t rfl h)))
theorem rl_nest_bad {post : Int32 → St1 → Prop} {u : St1} {x y v : Int32} (hx : (x < 0 ∨ 17 < x) ∨ (y < 0 ∨ 17 < y)) (h : post (-1) u) : wpX_nest post u x y v := by
  obtain ⟨l, lt, w, a1, a2, a3, a4, a5, a6, a7, a8, a9, a10, a11⟩ := u
  unfold wpX_nest
  rcases hx with hx | hx
  · exact rl_group0 hx (br_t rfl h)
  · exact rl_groupC (br_t rfl h) (br_f (by decide) (rl_group0 hx (br_t rfl h)))
theorem rl_rule_bad {post : Int32 → St1 → Prop} {u : St1} {x y v : Int32} (hx : ((x < 0 ∨ 2 < x) ∨ (y < 0 ∨ 2 < y)) ∨ x = y) (h : post (-1) u) : wpX_rule post u x y v := by
  obtain ⟨l, lt, w, a1, a2, a3, a4, a5, a6, a7, a8, a9, a10, a11⟩ := u
  unfold wpX_rule
  refine br_c (fun _ => h) (fun z1 => br_c (fun _ => h) (fun z2 => br_c (fun _ => h) (fun z3 => br_c (fun _ => h) (fun z4 => br_c (fun _ => h) (fun z5 => ?_)))))
  rcases hx with ((hx | hx) | (hx | hx)) | hx
  · exact absurd hx z1
  · exact absurd hx z2
  · exact absurd hx z3
  · exact absurd hx z4
  · exact absurd hx z5
theorem rl_mod (x : Int32) (d : Nat) (h0 : 0 < d) (hd : d < 256) : ∃ p : Nat, p < d ∧ (x &&& 255) - (x &&& 255) / nI d * nI d = nI p := by
  obtain ⟨j, hj, e⟩ := pk_andE x (m := 255) 8 (by decide)
  refine ⟨j % d, Nat.mod_lt _ h0, ?_⟩
  rw [e, pk_rem (by omega) h0 (by omega)]
section
variable {post : Int32 → Prop} {L : Nat} {xs : Nat → Int32} {J : Int32 → Int32 → Int32 → Int32 → Int32 → (Nat → Int32) → (Nat → Int32) → (Nat → Int32) → (Nat → Int32) → (Nat → Int32) → (Nat → Int32) → (Nat → Int32) → (Nat → Int32) → (Nat → Int32) → (Nat → Int32) → (Nat → Int32) → Prop} {kc ks i n : Nat} {x4 x5 : Int32} {p q : Nat} {H : Nat → rt_S}
theorem rl_652 {J6 : Int32 → Int32 → Int32 → Int32 → (Nat → Int32) → (Nat → Int32) → (Nat → Int32) → (Nat → Int32) → (Nat → Int32) → (Nat → Int32) → (Nat → Int32) → (Nat → Int32) → (Nat → Int32) → (Nat → Int32) → (Nat → Int32) → Prop} {k j : Nat} {c : Nat → Int32} {u : St1} {x3 x11 : Int32} (hp : p < 6) (hq : q < 18) (e6 : (x4 &&& 255) - (x4 &&& 255) / 6 * 6 = nI p) (e18 : (x5 &&& 255) - (x5 &&& 255) / 18 * 18 = nI q) (hI : rt_I H n k c u) (hj : j ≤ n) (hj2 : n < j + 8) (hb : rb_t (rm_m (H j) q) p = false)
    (h6 : ∀ u : St1, rt_I H n j c u → J6 (nI (j + 1)) u.1 u.2.1 u.2.2.1 u.2.2.2.1 u.2.2.2.2.1 u.2.2.2.2.2.1 u.2.2.2.2.2.2.1 u.2.2.2.2.2.2.2.1 u.2.2.2.2.2.2.2.2.1 u.2.2.2.2.2.2.2.2.2.1 u.2.2.2.2.2.2.2.2.2.2.1 u.2.2.2.2.2.2.2.2.2.2.2.1 u.2.2.2.2.2.2.2.2.2.2.2.2.1 u.2.2.2.2.2.2.2.2.2.2.2.2.2) : wL_law_652 post L xs J J6 (nI n) x3 x4 x5 x11 (nI j) kc ks u.1 u.2.1 u.2.2.1 u.2.2.2.1 u.2.2.2.2.1 u.2.2.2.2.2.1 u.2.2.2.2.2.2.1 u.2.2.2.2.2.2.2.1 u.2.2.2.2.2.2.2.2.1 u.2.2.2.2.2.2.2.2.2.1 u.2.2.2.2.2.2.2.2.2.2.1 u.2.2.2.2.2.2.2.2.2.2.2.1 u.2.2.2.2.2.2.2.2.2.2.2.2.1 u.2.2.2.2.2.2.2.2.2.2.2.2.2 := by
  unfold wL_law_652
  rw [e6, e18]
  refine ⟨by decide, by decide, rt_check (u := u) hI hj hj2 hp hq (fun u hI => ?_)⟩
  have t := h6 u hI
  obtain ⟨l, lt, w, a1, a2, a3, a4, a5, a6, a7, a8, a9, a10, a11⟩ := u
  exact br_t (by rw [hb]; rfl) (nm_r (nI_1 j) t)
theorem rl_634 {k : Nat} {c : Nat → Int32} {u : St1} {x11 : Int32} (hp : p < 6) (hq : q < 18) (e6 : (x4 &&& 255) - (x4 &&& 255) / 6 * 6 = nI p) (e18 : (x5 &&& 255) - (x5 &&& 255) / 18 * 18 = nI q) (hI : rt_I H n k c u) (hn : n < 1000)
    (hz : ∀ j, n - 7 ≤ j → j ≤ n → (x11 < 0 ∨ ¬ x11 ≤ nI j) → rb_t (rm_m (H j) q) p = false) (hJ : ∀ k c (u : St1), rt_I H n k c u → J (nI n) (nI (i + 4)) u.1 u.2.1 u.2.2.1 u.2.2.2.1 u.2.2.2.2.1 u.2.2.2.2.2.1 u.2.2.2.2.2.2.1 u.2.2.2.2.2.2.2.1 u.2.2.2.2.2.2.2.2.1 u.2.2.2.2.2.2.2.2.2.1 u.2.2.2.2.2.2.2.2.2.2.1 u.2.2.2.2.2.2.2.2.2.2.2.1 u.2.2.2.2.2.2.2.2.2.2.2.2.1 u.2.2.2.2.2.2.2.2.2.2.2.2.2) :
    ∃ f, wL_law_634 post L xs J (nI n) (nI i) x4 x5 x11 kc ks f (nI (n - 7)) u.1 u.2.1 u.2.2.1 u.2.2.2.1 u.2.2.2.2.1 u.2.2.2.2.2.1 u.2.2.2.2.2.2.1 u.2.2.2.2.2.2.2.1 u.2.2.2.2.2.2.2.2.1 u.2.2.2.2.2.2.2.2.2.1 u.2.2.2.2.2.2.2.2.2.2.1 u.2.2.2.2.2.2.2.2.2.2.2.1 u.2.2.2.2.2.2.2.2.2.2.2.2.1 u.2.2.2.2.2.2.2.2.2.2.2.2.2 := by
  refine pk_loop (fun f j s => wL_law_634 post L xs J (nI n) (nI i) x4 x5 x11 kc ks f (nI j) s.1 s.2.1 s.2.2.1 s.2.2.2.1 s.2.2.2.2.1 s.2.2.2.2.2.1 s.2.2.2.2.2.2.1 s.2.2.2.2.2.2.2.1 s.2.2.2.2.2.2.2.2.1 s.2.2.2.2.2.2.2.2.2.1 s.2.2.2.2.2.2.2.2.2.2.1 s.2.2.2.2.2.2.2.2.2.2.2.1 s.2.2.2.2.2.2.2.2.2.2.2.2.1 s.2.2.2.2.2.2.2.2.2.2.2.2.2) (fun j s => n - 7 ≤ j ∧ ∃ k, rt_I H n k c s) (n + 1) (n - 7) u (by omega) ⟨Nat.le_refl _, k, hI⟩ ?_ ?_
  · intro f s h
    obtain ⟨_, k, hI⟩ := h
    exact br_t (nI_lt (by omega) (by omega)) (nm_r (nI_add i 4) (hJ k c s hI))
  · intro f j s hj h hw
    obtain ⟨h7, k, hI⟩ := h
    have go : (x11 < 0 ∨ ¬ x11 ≤ nI j) → wL_law_652 post L xs J (wL_law_634 post L xs J (nI n) (nI i) x4 x5 x11 kc ks f) (nI n) (nI i) x4 x5 x11 (nI j) kc ks s.1 s.2.1 s.2.2.1 s.2.2.2.1 s.2.2.2.2.1 s.2.2.2.2.2.1 s.2.2.2.2.2.2.1 s.2.2.2.2.2.2.2.1 s.2.2.2.2.2.2.2.2.1 s.2.2.2.2.2.2.2.2.2.1 s.2.2.2.2.2.2.2.2.2.2.1 s.2.2.2.2.2.2.2.2.2.2.2.1 s.2.2.2.2.2.2.2.2.2.2.2.2.1 s.2.2.2.2.2.2.2.2.2.2.2.2.2 := fun z =>
      rl_652 hp hq e6 e18 hI (by omega) (by omega) (hz j h7 (by omega) z) (fun u hI => hw u ⟨by omega, j, hI⟩)
    exact br_f (nI_nlt (by omega) (by omega)) (br_c (fun z => go (Or.inl z)) (fun _ => br_c (fun z => nm_r (nI_1 j) (hw s ⟨by omega, k, hI⟩)) (fun z => go (Or.inr z))))
theorem rl_618 {k : Nat} {c : Nat → Int32} {u : St1} {x11 : Int32} (hp : p < 6) (hq : q < 18) (e6 : (x4 &&& 255) - (x4 &&& 255) / 6 * 6 = nI p) (e18 : (x5 &&& 255) - (x5 &&& 255) / 18 * 18 = nI q) (hI : rt_I H n k c u) (hn : n < 1000)
    (hz : ∀ j, n - 7 ≤ j → j ≤ n → (x11 < 0 ∨ ¬ x11 ≤ nI j) → rb_t (rm_m (H j) q) p = false) (hJ : ∀ k c (u : St1), rt_I H n k c u → J (nI n) (nI (i + 4)) u.1 u.2.1 u.2.2.1 u.2.2.2.1 u.2.2.2.2.1 u.2.2.2.2.2.1 u.2.2.2.2.2.2.1 u.2.2.2.2.2.2.2.1 u.2.2.2.2.2.2.2.2.1 u.2.2.2.2.2.2.2.2.2.1 u.2.2.2.2.2.2.2.2.2.2.1 u.2.2.2.2.2.2.2.2.2.2.2.1 u.2.2.2.2.2.2.2.2.2.2.2.2.1 u.2.2.2.2.2.2.2.2.2.2.2.2.2) :
    wL_law_618 post L xs J (nI n) (nI i) x4 x5 x11 kc ks u.1 u.2.1 u.2.2.1 u.2.2.2.1 u.2.2.2.2.1 u.2.2.2.2.2.1 u.2.2.2.2.2.2.1 u.2.2.2.2.2.2.2.1 u.2.2.2.2.2.2.2.2.1 u.2.2.2.2.2.2.2.2.2.1 u.2.2.2.2.2.2.2.2.2.2.1 u.2.2.2.2.2.2.2.2.2.2.2.1 u.2.2.2.2.2.2.2.2.2.2.2.2.1 u.2.2.2.2.2.2.2.2.2.2.2.2.2 := by
  have t := rl_634 (post := post) (L := L) (xs := xs) (kc := kc) (ks := ks) hp hq e6 e18 hI hn hz hJ
  unfold wL_law_618
  refine pk_le n 7 (fun h => ?_) (fun h => nm_r (show nI n - 7 = nI (n - 7) from pk_sub (b := 7) (by omega)) t)
  rw [show n - 7 = 0 by omega] at t
  exact t
theorem rl_z_use {r : Int32} (hn : n < 1000) (h : rt_z H n p q r) : ∀ j, n - 7 ≤ j → j ≤ n → (r < 0 ∨ ¬ r ≤ nI j) → rb_t (rm_m (H j) q) p = false := by
  intro j h7 hj hr
  rcases h with ⟨_, h⟩ | ⟨s, s7, sn, rfl, _, h⟩
  · exact h j h7 hj
  · refine h j h7 ?_
    rcases hr with z | z
    · exact absurd z (nI_pos (by omega))
    · rw [nI_leI (by omega) (by omega)] at z
      omega
theorem rl_524 {k : Nat} {c : Nat → Int32} {u : St1} (hI : rt_I H n k c u) (hn : n < 1000) (hJ : ∀ k c (u : St1), rt_I H n k c u → J (nI n) (nI (i + 4)) u.1 u.2.1 u.2.2.1 u.2.2.2.1 u.2.2.2.2.1 u.2.2.2.2.2.1 u.2.2.2.2.2.2.1 u.2.2.2.2.2.2.2.1 u.2.2.2.2.2.2.2.2.1 u.2.2.2.2.2.2.2.2.2.1 u.2.2.2.2.2.2.2.2.2.2.1 u.2.2.2.2.2.2.2.2.2.2.2.1 u.2.2.2.2.2.2.2.2.2.2.2.2.1 u.2.2.2.2.2.2.2.2.2.2.2.2.2) :
    wL_law_524 post L xs J (nI n) (nI i) x4 x5 (nI (n - 8)) kc ks u.1 u.2.1 u.2.2.1 u.2.2.2.1 u.2.2.2.2.1 u.2.2.2.2.2.1 u.2.2.2.2.2.2.1 u.2.2.2.2.2.2.2.1 u.2.2.2.2.2.2.2.2.1 u.2.2.2.2.2.2.2.2.2.1 u.2.2.2.2.2.2.2.2.2.2.1 u.2.2.2.2.2.2.2.2.2.2.2.1 u.2.2.2.2.2.2.2.2.2.2.2.2.1 u.2.2.2.2.2.2.2.2.2.2.2.2.2 := by
  obtain ⟨p, hp, e6⟩ := rl_mod x4 6 (by omega) (by omega)
  obtain ⟨q, hq, e18⟩ := rl_mod x5 18 (by omega) (by omega)
  replace e6 : (x4 &&& 255) - (x4 &&& 255) / 6 * 6 = nI p := e6
  replace e18 : (x5 &&& 255) - (x5 &&& 255) / 18 * 18 = nI q := e18
  unfold wL_law_524
  rw [nI_1]
  refine rl_members_bad (u := u) hI ?_
  obtain ⟨l, lt, w, a1, a2, a3, a4, a5, a6, a7, a8, a9, a10, a11⟩ := u
  refine br_t rfl ⟨by decide, by decide, ?_⟩
  rw [e6, e18]
  refine rt_since hI hp hq (fun k r u hI hz => ?_)
  have t := fun (k : Nat) (u : St1) (hI : rt_I H n k c u) => rl_618 (post := post) (L := L) (xs := xs) (kc := kc) (ks := ks) hp hq e6 e18 hI hn (rl_z_use hn hz) hJ
  have t1 := t k u hI
  obtain ⟨l, lt, w, a1, a2, a3, a4, a5, a6, a7, a8, a9, a10, a11⟩ := u
  rcases hz with ⟨rfl, _⟩ | ⟨s, s7, sn, rfl, sb, _⟩
  · exact br_t (by decide) (br_t rfl t1)
  · refine br_f (nI_pos (by omega)) ⟨by decide, by decide, rt_check hI sn (by omega) hp hq (fun u hI => ?_)⟩
    have t2 := t s u hI
    obtain ⟨l, lt, w, a1, a2, a3, a4, a5, a6, a7, a8, a9, a10, a11⟩ := u
    refine br_t (by rw [sb]; rfl) (br_t ?_ t2)
    refine Int32.not_le.mp (fun z => ?_)
    have := (rt_sub8 (by omega) (by omega)).mp z
    omega
theorem rl_504 {k : Nat} {c : Nat → Int32} {u : St1} (hI : rt_I H n k c u) (hn : n < 1000) (hJ : ∀ k c (u : St1), rt_I H n k c u → J (nI n) (nI (i + 4)) u.1 u.2.1 u.2.2.1 u.2.2.2.1 u.2.2.2.2.1 u.2.2.2.2.2.1 u.2.2.2.2.2.2.1 u.2.2.2.2.2.2.2.1 u.2.2.2.2.2.2.2.2.1 u.2.2.2.2.2.2.2.2.2.1 u.2.2.2.2.2.2.2.2.2.2.1 u.2.2.2.2.2.2.2.2.2.2.2.1 u.2.2.2.2.2.2.2.2.2.2.2.2.1 u.2.2.2.2.2.2.2.2.2.2.2.2.2) :
    wL_law_504 post L xs J (nI n) (nI i) x4 x5 (nI (n - 8)) kc ks u.1 u.2.1 u.2.2.1 u.2.2.2.1 u.2.2.2.2.1 u.2.2.2.2.2.1 u.2.2.2.2.2.2.1 u.2.2.2.2.2.2.2.1 u.2.2.2.2.2.2.2.2.1 u.2.2.2.2.2.2.2.2.2.1 u.2.2.2.2.2.2.2.2.2.2.1 u.2.2.2.2.2.2.2.2.2.2.2.1 u.2.2.2.2.2.2.2.2.2.2.2.2.1 u.2.2.2.2.2.2.2.2.2.2.2.2.2 := by
  have t := rl_524 (post := post) (L := L) (xs := xs) (kc := kc) (ks := ks) (x4 := x4) (x5 := x5) hI hn hJ
  unfold wL_law_504
  refine pk_le n 7 (fun _ => t) (fun h => rl_members_gone (u := u) hI (by omega) ?_)
  obtain ⟨l, lt, w, a1, a2, a3, a4, a5, a6, a7, a8, a9, a10, a11⟩ := u
  exact br_t rfl t
theorem rl_468 {k b : Nat} {c : Nat → Int32} {u : St1} (hI : rt_I H n k c u) (hn : n < 1000) (hb : b ≤ n) (hb2 : n < b + 8) (hJ : ∀ k c (u : St1), rt_I H n k c u → J (nI n) (nI (i + 4)) u.1 u.2.1 u.2.2.1 u.2.2.2.1 u.2.2.2.2.1 u.2.2.2.2.2.1 u.2.2.2.2.2.2.1 u.2.2.2.2.2.2.2.1 u.2.2.2.2.2.2.2.2.1 u.2.2.2.2.2.2.2.2.2.1 u.2.2.2.2.2.2.2.2.2.2.1 u.2.2.2.2.2.2.2.2.2.2.2.1 u.2.2.2.2.2.2.2.2.2.2.2.2.1 u.2.2.2.2.2.2.2.2.2.2.2.2.2) :
    wL_law_468 post L xs J (nI n) (nI i) x4 x5 (nI b) kc ks u.1 u.2.1 u.2.2.1 u.2.2.2.1 u.2.2.2.2.1 u.2.2.2.2.2.1 u.2.2.2.2.2.2.1 u.2.2.2.2.2.2.2.1 u.2.2.2.2.2.2.2.2.1 u.2.2.2.2.2.2.2.2.2.1 u.2.2.2.2.2.2.2.2.2.2.1 u.2.2.2.2.2.2.2.2.2.2.2.1 u.2.2.2.2.2.2.2.2.2.2.2.2.1 u.2.2.2.2.2.2.2.2.2.2.2.2.2 := by
  unfold wL_law_468
  have hlt : u.2.1 = nI n := by
    obtain ⟨l, lt, w, a1, a2, a3, a4, a5, a6, a7, a8, a9, a10, a11⟩ := u
    exact hI.2.1
  refine br_t hlt (rh_holds (u := u) hI (Nat.le_refl n) (by omega) hb hb2 (fun k c u hI => ?_))
  have t := rl_504 (post := post) (L := L) (xs := xs) (kc := kc) (ks := ks) (x4 := x4) (x5 := x5) hI hn hJ
  obtain ⟨l, lt, w, a1, a2, a3, a4, a5, a6, a7, a8, a9, a10, a11⟩ := u
  refine br_f (by decide) (pk_le n 7 (fun h => ?_) (fun h => ?_))
  · rw [show n - 8 = 0 by omega] at t
    exact t
  · rw [← pk_sub (show 8 ≤ n by omega)] at t
    exact t
theorem rl_441 {k : Nat} {c : Nat → Int32} {u : St1} (hI : rt_I H n k c u) (hn : n < 1000) (hJ : ∀ k c (u : St1), rt_I H n k c u → J (nI n) (nI (i + 4)) u.1 u.2.1 u.2.2.1 u.2.2.2.1 u.2.2.2.2.1 u.2.2.2.2.2.1 u.2.2.2.2.2.2.1 u.2.2.2.2.2.2.2.1 u.2.2.2.2.2.2.2.2.1 u.2.2.2.2.2.2.2.2.2.1 u.2.2.2.2.2.2.2.2.2.2.1 u.2.2.2.2.2.2.2.2.2.2.2.1 u.2.2.2.2.2.2.2.2.2.2.2.2.1 u.2.2.2.2.2.2.2.2.2.2.2.2.2) :
    wL_law_441 post L xs J (nI n) (nI i) x4 x5 kc ks u.1 u.2.1 u.2.2.1 u.2.2.2.1 u.2.2.2.2.1 u.2.2.2.2.2.1 u.2.2.2.2.2.2.1 u.2.2.2.2.2.2.2.1 u.2.2.2.2.2.2.2.2.1 u.2.2.2.2.2.2.2.2.2.1 u.2.2.2.2.2.2.2.2.2.2.1 u.2.2.2.2.2.2.2.2.2.2.2.1 u.2.2.2.2.2.2.2.2.2.2.2.2.1 u.2.2.2.2.2.2.2.2.2.2.2.2.2 := by
  obtain ⟨j, hj, e⟩ := pk_andE (x5 >>> ((8 : Int32) &&& 31)) (m := 7) 3 (by decide)
  unfold wL_law_441
  rw [e]
  by_cases h : j ≤ n
  · rw [pk_sub h]
    exact br_t (nI_pos' (by omega)) (rl_468 hI hn (by omega) (by omega) hJ)
  · refine br_f (fun z => ?_) (rl_468 (b := 0) hI hn (by omega) (by omega) hJ)
    exact absurd z (Int32.not_le.mpr (pk_sneg (by omega) (by omega)))
theorem rl_433_old {k : Nat} {c : Nat → Int32} {u : St1} (hI : rt_I H n k c u) (hn : n < 1000) (hJ : ∀ k c (u : St1), rt_I H n k c u → J (nI n) (nI (i + 4)) u.1 u.2.1 u.2.2.1 u.2.2.2.1 u.2.2.2.2.1 u.2.2.2.2.2.1 u.2.2.2.2.2.2.1 u.2.2.2.2.2.2.2.1 u.2.2.2.2.2.2.2.2.1 u.2.2.2.2.2.2.2.2.2.1 u.2.2.2.2.2.2.2.2.2.2.1 u.2.2.2.2.2.2.2.2.2.2.2.1 u.2.2.2.2.2.2.2.2.2.2.2.2.1 u.2.2.2.2.2.2.2.2.2.2.2.2.2) :
    wL_law_433 post L xs J (nI n) (nI i) x4 x5 (-1) kc ks u.1 u.2.1 u.2.2.1 u.2.2.2.1 u.2.2.2.2.1 u.2.2.2.2.2.1 u.2.2.2.2.2.2.1 u.2.2.2.2.2.2.2.1 u.2.2.2.2.2.2.2.2.1 u.2.2.2.2.2.2.2.2.2.1 u.2.2.2.2.2.2.2.2.2.2.1 u.2.2.2.2.2.2.2.2.2.2.2.1 u.2.2.2.2.2.2.2.2.2.2.2.2.1 u.2.2.2.2.2.2.2.2.2.2.2.2.2 := by
  unfold wL_law_433
  exact br_t (by decide) (rl_441 hI hn hJ)
theorem rl_433_new {k : Nat} {c : Nat → Int32} {u : St1} {x2 : Int32} (hI : rt_I H (n + 1) k c u) (hn : n + 1 < 1000) (hJ : ∀ k c (u : St1), rt_I H (n + 1) k c u → J (nI (n + 1)) (nI (i + 4)) u.1 u.2.1 u.2.2.1 u.2.2.2.1 u.2.2.2.2.1 u.2.2.2.2.2.1 u.2.2.2.2.2.2.1 u.2.2.2.2.2.2.2.1 u.2.2.2.2.2.2.2.2.1 u.2.2.2.2.2.2.2.2.2.1 u.2.2.2.2.2.2.2.2.2.2.1 u.2.2.2.2.2.2.2.2.2.2.2.1 u.2.2.2.2.2.2.2.2.2.2.2.2.1 u.2.2.2.2.2.2.2.2.2.2.2.2.2) :
    wL_law_433 post L xs J x2 (nI i) x4 x5 (nI (n + 1)) kc ks u.1 u.2.1 u.2.2.1 u.2.2.2.1 u.2.2.2.2.1 u.2.2.2.2.2.1 u.2.2.2.2.2.2.1 u.2.2.2.2.2.2.2.1 u.2.2.2.2.2.2.2.2.1 u.2.2.2.2.2.2.2.2.2.1 u.2.2.2.2.2.2.2.2.2.2.1 u.2.2.2.2.2.2.2.2.2.2.2.1 u.2.2.2.2.2.2.2.2.2.2.2.2.1 u.2.2.2.2.2.2.2.2.2.2.2.2.2 := by
  unfold wL_law_433
  exact br_f (nI_nle (by omega) (by omega)) (rl_441 hI hn hJ)
end
end
section
/-! the law's switch, its loop, and what is owed -/
/-- what a change that sets a bit leaves -/
theorem rl_set (x : Int32) {p : Nat} {v : Int32} (hp : p < 32) (hv : ¬ v = 0) : rb_t (rt_w x p v) p = true := by
  rw [rt_w_bit x v hp hp, if_pos rfl, decide_eq_true hv]
theorem rl_in_enter {H : Nat → rt_S} {n a b : Nat} {v : Int32} (ha : a < 6) (hb : b < 18) (hv : ¬ v = 0) : rb_t (rm_m (rt_x H n (rt_k 0 a b v (H n)) (n + 1)) b) a = true := by
  rw [rt_x_new]
  refine rm_own hb ?_
  rw [rt_k0]
  show rb_t (upd (H n).1 b (rt_w ((H n).1 b) a v) b) a = true
  rw [pk_us]
  exact rl_set _ (by omega) hv
theorem rl_in_nest {H : Nat → rt_S} {n a b : Nat} {v : Int32} (ha : a < 18) (hb : b < 18) (hv : ¬ v = 0) : rb_t (rs_s (rt_x H n (rt_k 1 a b v (H n)) (n + 1)).2.1 (rt_x H n (rt_k 1 a b v (H n)) (n + 1)).2.2 b) a = true := by
  rw [rt_x_new]
  refine rs_one hb ha ?_
  rw [rt_k1]
  show rb_t (upd (H n).2.1 b (rt_w ((H n).2.1 b) a v) b ||| _) a = true
  rw [pk_us, rb_or, rl_set _ (by omega) hv, Bool.true_or]
theorem rl_in_rule {H : Nat → rt_S} {n a b t : Nat} {v : Int32} (ha : a < 3) (hb : b < 3) (ht : t < 6) (hv : ¬ v = 0) : rb_t (rs_s (rt_x H n (rt_k 2 a b v (H n)) (n + 1)).2.1 (rt_x H n (rt_k 2 a b v (H n)) (n + 1)).2.2 (3 * t + b)) (3 * t + a) = true := by
  rw [rt_x_new]
  refine rs_one (by omega) (by omega) ?_
  rw [rt_k2]
  show rb_t (_ ||| (upd (H n).2.2 b (rt_w ((H n).2.2 b) a v) ((3 * t + b) % 3) <<< (nI ((3 * t + b) / 3 * 3) &&& 31))) (3 * t + a) = true
  rw [show (3 * t + b) % 3 = b by omega, show (3 * t + b) / 3 * 3 = 3 * t by omega, pk_us, rb_or, rb_shl _ (by omega) _ (by omega), decide_eq_true (show 3 * t ≤ 3 * t + a by omega), show 3 * t + a - 3 * t = a by omega, rl_set _ (by omega) hv, Bool.true_and, Bool.or_true]
theorem rl_3 (t b : Nat) : 3 * nI t + nI b = nI (3 * t + b) := by
  have e : (3 : Int32) * nI t = nI (3 * t) := pk_mul 3 t
  rw [e, nI_add]
section
variable {post : Int32 → Prop} {L : Nat} {xs : Nat → Int32} {J : Int32 → Int32 → Int32 → Int32 → Int32 → (Nat → Int32) → (Nat → Int32) → (Nat → Int32) → (Nat → Int32) → (Nat → Int32) → (Nat → Int32) → (Nat → Int32) → (Nat → Int32) → (Nat → Int32) → (Nat → Int32) → (Nat → Int32) → Prop} {kc ks i n k : Nat} {x4 x5 x6 : Int32} {H : Nat → rt_S} {c : Nat → Int32} {u : St1}
theorem rl_130 (hI : rt_I H n k c u) (hn : n + 1 < 1000) (hJ : ∀ H n' k c (u : St1), n' ≤ n + 1 → rt_I H n' k c u → J (nI n') (nI (i + 4)) u.1 u.2.1 u.2.2.1 u.2.2.2.1 u.2.2.2.2.1 u.2.2.2.2.2.1 u.2.2.2.2.2.2.1 u.2.2.2.2.2.2.2.1 u.2.2.2.2.2.2.2.2.1 u.2.2.2.2.2.2.2.2.2.1 u.2.2.2.2.2.2.2.2.2.2.1 u.2.2.2.2.2.2.2.2.2.2.2.1 u.2.2.2.2.2.2.2.2.2.2.2.2.1 u.2.2.2.2.2.2.2.2.2.2.2.2.2) (hx : (x4 < 0 ∨ 5 < x4) ∨ (x5 < 0 ∨ 17 < x5)) :
    wL_law_130 post L xs J (nI n) (nI i) x4 x5 x6 kc ks u.1 u.2.1 u.2.2.1 u.2.2.2.1 u.2.2.2.2.1 u.2.2.2.2.2.1 u.2.2.2.2.2.2.1 u.2.2.2.2.2.2.2.1 u.2.2.2.2.2.2.2.2.1 u.2.2.2.2.2.2.2.2.2.1 u.2.2.2.2.2.2.2.2.2.2.1 u.2.2.2.2.2.2.2.2.2.2.2.1 u.2.2.2.2.2.2.2.2.2.2.2.2.1 u.2.2.2.2.2.2.2.2.2.2.2.2.2 := by
  have t := rl_433_old (post := post) (L := L) (xs := xs) (kc := kc) (ks := ks) (x4 := x4) (x5 := x5) hI (by omega) (fun k c u => hJ H n k c u (by omega))
  unfold wL_law_130 wL_law_131
  refine rl_enter_bad (u := u) hx ?_
  obtain ⟨l, lt, w, a1, a2, a3, a4, a5, a6, a7, a8, a9, a10, a11⟩ := u
  exact br_t rfl (br_t (by decide) t)
theorem rl_131 (hI : rt_I H n k c u) (hn : n + 1 < 1000) (hJ : ∀ H n' k c (u : St1), n' ≤ n + 1 → rt_I H n' k c u → J (nI n') (nI (i + 4)) u.1 u.2.1 u.2.2.1 u.2.2.2.1 u.2.2.2.2.1 u.2.2.2.2.2.1 u.2.2.2.2.2.2.1 u.2.2.2.2.2.2.2.1 u.2.2.2.2.2.2.2.2.1 u.2.2.2.2.2.2.2.2.2.1 u.2.2.2.2.2.2.2.2.2.2.1 u.2.2.2.2.2.2.2.2.2.2.2.1 u.2.2.2.2.2.2.2.2.2.2.2.2.1 u.2.2.2.2.2.2.2.2.2.2.2.2.2) {a b : Nat} (ha : a < 6) (hb : b < 18) (e4 : x4 = nI a) (e5 : x5 = nI b) (h6 : x6 = 0 ∨ x6 = 1) :
    wL_law_131 post L xs J (nI n) (nI i) x4 x5 x6 (nI (n + 1)) kc ks u.1 u.2.1 u.2.2.1 u.2.2.2.1 u.2.2.2.2.1 u.2.2.2.2.2.1 u.2.2.2.2.2.2.1 u.2.2.2.2.2.2.2.1 u.2.2.2.2.2.2.2.2.1 u.2.2.2.2.2.2.2.2.2.1 u.2.2.2.2.2.2.2.2.2.2.1 u.2.2.2.2.2.2.2.2.2.2.2.1 u.2.2.2.2.2.2.2.2.2.2.2.2.1 u.2.2.2.2.2.2.2.2.2.2.2.2.2 := by
  subst e4 e5
  unfold wL_law_131
  refine rt_enter (u := u) hI hn ha hb h6 (fun u hI => ?_)
  have t := fun (k : Nat) (u : St1) (hI : rt_I (rt_x H n (rt_k 0 a b x6 (H n))) (n + 1) k c u) => rl_433_new (post := post) (L := L) (xs := xs) (kc := kc) (ks := ks) (x4 := nI a) (x5 := nI b) (x2 := nI n) hI hn (fun k c u => hJ _ _ k c u (Nat.le_refl _))
  have t1 := t _ u hI
  obtain ⟨l, lt, w, a1, a2, a3, a4, a5, a6, a7, a8, a9, a10, a11⟩ := u
  refine br_t rfl (br_f (nI_nle (by omega) (by omega)) (br_c (fun _ => t1) (fun hv => rt_check hI (Nat.le_refl _) (by omega) ha hb (fun u hI => ?_))))
  have t2 := t _ u hI
  obtain ⟨l, lt, w, a1, a2, a3, a4, a5, a6, a7, a8, a9, a10, a11⟩ := u
  exact br_t (by rw [rl_in_enter ha hb hv]; rfl) t2
theorem rl_199 (hI : rt_I H n k c u) (hn : n + 1 < 1000) (hJ : ∀ H n' k c (u : St1), n' ≤ n + 1 → rt_I H n' k c u → J (nI n') (nI (i + 4)) u.1 u.2.1 u.2.2.1 u.2.2.2.1 u.2.2.2.2.1 u.2.2.2.2.2.1 u.2.2.2.2.2.2.1 u.2.2.2.2.2.2.2.1 u.2.2.2.2.2.2.2.2.1 u.2.2.2.2.2.2.2.2.2.1 u.2.2.2.2.2.2.2.2.2.2.1 u.2.2.2.2.2.2.2.2.2.2.2.1 u.2.2.2.2.2.2.2.2.2.2.2.2.1 u.2.2.2.2.2.2.2.2.2.2.2.2.2) (hx : (x4 < 0 ∨ 17 < x4) ∨ (x5 < 0 ∨ 17 < x5)) :
    wL_law_199 post L xs J (nI n) (nI i) x4 x5 x6 kc ks u.1 u.2.1 u.2.2.1 u.2.2.2.1 u.2.2.2.2.1 u.2.2.2.2.2.1 u.2.2.2.2.2.2.1 u.2.2.2.2.2.2.2.1 u.2.2.2.2.2.2.2.2.1 u.2.2.2.2.2.2.2.2.2.1 u.2.2.2.2.2.2.2.2.2.2.1 u.2.2.2.2.2.2.2.2.2.2.2.1 u.2.2.2.2.2.2.2.2.2.2.2.2.1 u.2.2.2.2.2.2.2.2.2.2.2.2.2 := by
  have t := rl_433_old (post := post) (L := L) (xs := xs) (kc := kc) (ks := ks) (x4 := x4) (x5 := x5) hI (by omega) (fun k c u => hJ H n k c u (by omega))
  unfold wL_law_199 wL_law_200
  refine rl_nest_bad (u := u) hx ?_
  obtain ⟨l, lt, w, a1, a2, a3, a4, a5, a6, a7, a8, a9, a10, a11⟩ := u
  exact br_t rfl (br_t (by decide) t)
theorem rl_200 (hI : rt_I H n k c u) (hn : n + 1 < 1000) (hJ : ∀ H n' k c (u : St1), n' ≤ n + 1 → rt_I H n' k c u → J (nI n') (nI (i + 4)) u.1 u.2.1 u.2.2.1 u.2.2.2.1 u.2.2.2.2.1 u.2.2.2.2.2.1 u.2.2.2.2.2.2.1 u.2.2.2.2.2.2.2.1 u.2.2.2.2.2.2.2.2.1 u.2.2.2.2.2.2.2.2.2.1 u.2.2.2.2.2.2.2.2.2.2.1 u.2.2.2.2.2.2.2.2.2.2.2.1 u.2.2.2.2.2.2.2.2.2.2.2.2.1 u.2.2.2.2.2.2.2.2.2.2.2.2.2) {a b : Nat} (ha : a < 18) (hb : b < 18) (e4 : x4 = nI a) (e5 : x5 = nI b) (h6 : x6 = 0 ∨ x6 = 1) :
    wL_law_200 post L xs J (nI n) (nI i) x4 x5 x6 (nI (n + 1)) kc ks u.1 u.2.1 u.2.2.1 u.2.2.2.1 u.2.2.2.2.1 u.2.2.2.2.2.1 u.2.2.2.2.2.2.1 u.2.2.2.2.2.2.2.1 u.2.2.2.2.2.2.2.2.1 u.2.2.2.2.2.2.2.2.2.1 u.2.2.2.2.2.2.2.2.2.2.1 u.2.2.2.2.2.2.2.2.2.2.2.1 u.2.2.2.2.2.2.2.2.2.2.2.2.1 u.2.2.2.2.2.2.2.2.2.2.2.2.2 := by
  subst e4 e5
  unfold wL_law_200
  refine rt_nest (u := u) hI hn ha hb h6 (fun u hI => ?_)
  have t := fun (k : Nat) (u : St1) (hI : rt_I (rt_x H n (rt_k 1 a b x6 (H n))) (n + 1) k c u) => rl_433_new (post := post) (L := L) (xs := xs) (kc := kc) (ks := ks) (x4 := nI a) (x5 := nI b) (x2 := nI n) hI hn (fun k c u => hJ _ _ k c u (Nat.le_refl _))
  have t1 := t _ u hI
  obtain ⟨l, lt, w, a1, a2, a3, a4, a5, a6, a7, a8, a9, a10, a11⟩ := u
  refine br_t rfl (br_f (nI_nle (by omega) (by omega)) (br_c (fun _ => t1) (fun hv => rt_sources hI (Nat.le_refl _) (by omega) hb (fun u hI => ?_))))
  have t2 := t _ u hI
  obtain ⟨l, lt, w, a1, a2, a3, a4, a5, a6, a7, a8, a9, a10, a11⟩ := u
  exact rb_if1 a (by omega) (fun _ => t2) (fun z => by rw [rl_in_nest ha hb hv] at z; exact absurd z (by decide))
/-- the loop over a rule's six groups -/
theorem rl_306 {n' : Nat} {x2 x7 : Int32} (hI : rt_I H n' k c u) (h433 : ∀ k (u : St1), rt_I H n' k c u → wL_law_433 post L xs J x2 (nI i) x4 x5 x7 kc ks u.1 u.2.1 u.2.2.1 u.2.2.2.1 u.2.2.2.2.1 u.2.2.2.2.2.1 u.2.2.2.2.2.2.1 u.2.2.2.2.2.2.2.1 u.2.2.2.2.2.2.2.2.1 u.2.2.2.2.2.2.2.2.2.1 u.2.2.2.2.2.2.2.2.2.2.1 u.2.2.2.2.2.2.2.2.2.2.2.1 u.2.2.2.2.2.2.2.2.2.2.2.2.1 u.2.2.2.2.2.2.2.2.2.2.2.2.2)
    (hs : ¬ x7 ≤ 0 → ¬ x6 = 0 → x7 = nI n' ∧ ∃ a b : Nat, a < 3 ∧ b < 3 ∧ x4 = nI a ∧ x5 = nI b ∧ ∀ t, t < 6 → rb_t (rs_s (H n').2.1 (H n').2.2 (3 * t + b)) (3 * t + a) = true) :
    ∃ f, wL_law_306 post L xs J x2 (nI i) x4 x5 x6 x7 kc ks f 0 u.1 u.2.1 u.2.2.1 u.2.2.2.1 u.2.2.2.2.1 u.2.2.2.2.2.1 u.2.2.2.2.2.2.1 u.2.2.2.2.2.2.2.1 u.2.2.2.2.2.2.2.2.1 u.2.2.2.2.2.2.2.2.2.1 u.2.2.2.2.2.2.2.2.2.2.1 u.2.2.2.2.2.2.2.2.2.2.2.1 u.2.2.2.2.2.2.2.2.2.2.2.2.1 u.2.2.2.2.2.2.2.2.2.2.2.2.2 := by
  refine pk_loop (fun f j s => wL_law_306 post L xs J x2 (nI i) x4 x5 x6 x7 kc ks f (nI j) s.1 s.2.1 s.2.2.1 s.2.2.2.1 s.2.2.2.2.1 s.2.2.2.2.2.1 s.2.2.2.2.2.2.1 s.2.2.2.2.2.2.2.1 s.2.2.2.2.2.2.2.2.1 s.2.2.2.2.2.2.2.2.2.1 s.2.2.2.2.2.2.2.2.2.2.1 s.2.2.2.2.2.2.2.2.2.2.2.1 s.2.2.2.2.2.2.2.2.2.2.2.2.1 s.2.2.2.2.2.2.2.2.2.2.2.2.2) (fun _ s => ∃ k, rt_I H n' k c s) 6 0 u (by omega) ⟨k, hI⟩ ?_ ?_
  · intro f s h
    obtain ⟨k, hI⟩ := h
    exact pk_le 6 6 (fun _ => h433 k s hI) (fun z => absurd z (by omega))
  · intro f j s hj h hw
    obtain ⟨k, hI⟩ := h
    refine pk_le 6 j (fun z => absurd z (by omega)) (fun _ => br_c (fun _ => nm_r (nI_1 j) (hw s ⟨k, hI⟩)) (fun h7 => br_c (fun _ => nm_r (nI_1 j) (hw s ⟨k, hI⟩)) (fun h6 => ?_)))
    obtain ⟨e7, a, b, ha, hb, e4, e5, hbit⟩ := hs h7 h6
    subst e7 e4 e5
    rw [rl_3, rl_3]
    refine rt_sources (u := s) hI (Nat.le_refl _) (by omega) (by omega) (fun u hI => ?_)
    have t := hw u ⟨_, hI⟩
    obtain ⟨l, lt, w, a1, a2, a3, a4, a5, a6, a7, a8, a9, a10, a11⟩ := u
    exact rb_if1 (3 * j + a) (by omega) (fun _ => nm_r (nI_1 j) t) (fun z => by rw [hbit j hj] at z; exact absurd z (by decide))
theorem rl_283 (hI : rt_I H n k c u) (hn : n + 1 < 1000) (hJ : ∀ H n' k c (u : St1), n' ≤ n + 1 → rt_I H n' k c u → J (nI n') (nI (i + 4)) u.1 u.2.1 u.2.2.1 u.2.2.2.1 u.2.2.2.2.1 u.2.2.2.2.2.1 u.2.2.2.2.2.2.1 u.2.2.2.2.2.2.2.1 u.2.2.2.2.2.2.2.2.1 u.2.2.2.2.2.2.2.2.2.1 u.2.2.2.2.2.2.2.2.2.2.1 u.2.2.2.2.2.2.2.2.2.2.2.1 u.2.2.2.2.2.2.2.2.2.2.2.2.1 u.2.2.2.2.2.2.2.2.2.2.2.2.2) (hx : ((x4 < 0 ∨ 2 < x4) ∨ (x5 < 0 ∨ 2 < x5)) ∨ x4 = x5) :
    wL_law_283 post L xs J (nI n) (nI i) x4 x5 x6 kc ks u.1 u.2.1 u.2.2.1 u.2.2.2.1 u.2.2.2.2.1 u.2.2.2.2.2.1 u.2.2.2.2.2.2.1 u.2.2.2.2.2.2.2.1 u.2.2.2.2.2.2.2.2.1 u.2.2.2.2.2.2.2.2.2.1 u.2.2.2.2.2.2.2.2.2.2.1 u.2.2.2.2.2.2.2.2.2.2.2.1 u.2.2.2.2.2.2.2.2.2.2.2.2.1 u.2.2.2.2.2.2.2.2.2.2.2.2.2 := by
  have t := rl_306 (post := post) (L := L) (xs := xs) (kc := kc) (ks := ks) (x4 := x4) (x5 := x5) (x6 := x6) (x7 := -1) (J := J) hI (fun k u hI => rl_433_old hI (by omega) (fun k c u => hJ H n k c u (by omega))) (fun z => absurd (by decide) z)
  unfold wL_law_283 wL_law_284
  refine rl_rule_bad (u := u) hx ?_
  obtain ⟨l, lt, w, a1, a2, a3, a4, a5, a6, a7, a8, a9, a10, a11⟩ := u
  exact br_t rfl t
theorem rl_284 (hI : rt_I H n k c u) (hn : n + 1 < 1000) (hJ : ∀ H n' k c (u : St1), n' ≤ n + 1 → rt_I H n' k c u → J (nI n') (nI (i + 4)) u.1 u.2.1 u.2.2.1 u.2.2.2.1 u.2.2.2.2.1 u.2.2.2.2.2.1 u.2.2.2.2.2.2.1 u.2.2.2.2.2.2.2.1 u.2.2.2.2.2.2.2.2.1 u.2.2.2.2.2.2.2.2.2.1 u.2.2.2.2.2.2.2.2.2.2.1 u.2.2.2.2.2.2.2.2.2.2.2.1 u.2.2.2.2.2.2.2.2.2.2.2.2.1 u.2.2.2.2.2.2.2.2.2.2.2.2.2) {a b : Nat} (ha : a < 3) (hb : b < 3) (hab : a ≠ b) (e4 : x4 = nI a) (e5 : x5 = nI b) (h6 : x6 = 0 ∨ x6 = 1) :
    wL_law_284 post L xs J (nI n) (nI i) x4 x5 x6 (nI (n + 1)) kc ks u.1 u.2.1 u.2.2.1 u.2.2.2.1 u.2.2.2.2.1 u.2.2.2.2.2.1 u.2.2.2.2.2.2.1 u.2.2.2.2.2.2.2.1 u.2.2.2.2.2.2.2.2.1 u.2.2.2.2.2.2.2.2.2.1 u.2.2.2.2.2.2.2.2.2.2.1 u.2.2.2.2.2.2.2.2.2.2.2.1 u.2.2.2.2.2.2.2.2.2.2.2.2.1 u.2.2.2.2.2.2.2.2.2.2.2.2.2 := by
  subst e4 e5
  unfold wL_law_284
  refine rt_rules (u := u) hI hn ha hb hab h6 (fun u hI => ?_)
  have t := rl_306 (post := post) (L := L) (xs := xs) (kc := kc) (ks := ks) (x4 := nI a) (x5 := nI b) (x6 := x6) (x7 := nI (n + 1)) (x2 := nI n) (J := J) hI (fun k u hI => rl_433_new hI hn (fun k c u => hJ _ _ k c u (Nat.le_refl _))) (fun _ hv => ⟨rfl, a, b, ha, hb, rfl, rfl, fun t ht => rl_in_rule ha hb ht hv⟩)
  obtain ⟨l, lt, w, a1, a2, a3, a4, a5, a6, a7, a8, a9, a10, a11⟩ := u
  exact br_t rfl t
theorem rl_361 (hI : rt_I H n k c u) (hn : n + 1 < 1000) (hJ : ∀ H n' k c (u : St1), n' ≤ n + 1 → rt_I H n' k c u → J (nI n') (nI (i + 4)) u.1 u.2.1 u.2.2.1 u.2.2.2.1 u.2.2.2.2.1 u.2.2.2.2.2.1 u.2.2.2.2.2.2.1 u.2.2.2.2.2.2.2.1 u.2.2.2.2.2.2.2.2.1 u.2.2.2.2.2.2.2.2.2.1 u.2.2.2.2.2.2.2.2.2.2.1 u.2.2.2.2.2.2.2.2.2.2.2.1 u.2.2.2.2.2.2.2.2.2.2.2.2.1 u.2.2.2.2.2.2.2.2.2.2.2.2.2) (h6 : x6 = 0 ∨ x6 = 1) :
    wL_law_361 post L xs J (nI n) (nI i) x4 x5 x6 kc ks u.1 u.2.1 u.2.2.1 u.2.2.2.1 u.2.2.2.2.1 u.2.2.2.2.2.1 u.2.2.2.2.2.2.1 u.2.2.2.2.2.2.2.1 u.2.2.2.2.2.2.2.2.1 u.2.2.2.2.2.2.2.2.2.1 u.2.2.2.2.2.2.2.2.2.2.1 u.2.2.2.2.2.2.2.2.2.2.2.1 u.2.2.2.2.2.2.2.2.2.2.2.2.1 u.2.2.2.2.2.2.2.2.2.2.2.2.2 := by
  obtain ⟨p, hp, e6⟩ := rl_mod x4 18 (by omega) (by omega)
  obtain ⟨q, hq, e18⟩ := rl_mod x5 18 (by omega) (by omega)
  replace e6 : (x4 &&& 255) - (x4 &&& 255) / 18 * 18 = nI p := e6
  replace e18 : (x5 &&& 255) - (x5 &&& 255) / 18 * 18 = nI q := e18
  unfold wL_law_361
  refine nm_r (nI_1 n) ⟨by decide, by decide, ?_⟩
  rw [e6, e18]
  refine rt_nest (u := u) hI hn hp hq h6 (fun u hI => ?_)
  have t := rl_433_new (post := post) (L := L) (xs := xs) (kc := kc) (ks := ks) (x4 := x4) (x5 := x5) (x2 := nI n) hI hn (fun k c u => hJ _ _ k c u (Nat.le_refl _))
  obtain ⟨l, lt, w, a1, a2, a3, a4, a5, a6, a7, a8, a9, a10, a11⟩ := u
  exact br_t rfl t
theorem rl_of {x : Int32} (m : Nat) (M : Int32) (hM : M.toInt = m) (h : ¬ x < 0) (h5 : ¬ M < x) : ∃ j : Nat, j ≤ m ∧ x = nI j := nI_of2 hM h (Int32.not_lt.mp h5)
theorem rl_66 (hI : rt_I H n k c u) (hn : n + 1 < 1000) (hJ : ∀ H n' k c (u : St1), n' ≤ n + 1 → rt_I H n' k c u → J (nI n') (nI (i + 4)) u.1 u.2.1 u.2.2.1 u.2.2.2.1 u.2.2.2.2.1 u.2.2.2.2.2.1 u.2.2.2.2.2.2.1 u.2.2.2.2.2.2.2.1 u.2.2.2.2.2.2.2.2.1 u.2.2.2.2.2.2.2.2.2.1 u.2.2.2.2.2.2.2.2.2.2.1 u.2.2.2.2.2.2.2.2.2.2.2.1 u.2.2.2.2.2.2.2.2.2.2.2.2.1 u.2.2.2.2.2.2.2.2.2.2.2.2.2) (h6 : x6 = 0 ∨ x6 = 1) (hi : i < L) (hL : L ≤ 260) {z0 : Int32} (hz : (z0 = 0 ∧ (x5 < 0 ∨ 17 < x5)) ∨ (z0 = 1 ∧ ∃ b : Nat, b < 18 ∧ x5 = nI b)) :
    wL_law_66 post L xs J (nI n) (nI i) x4 x5 x6 z0 kc ks u.1 u.2.1 u.2.2.1 u.2.2.2.1 u.2.2.2.2.1 u.2.2.2.2.2.1 u.2.2.2.2.2.2.1 u.2.2.2.2.2.2.2.1 u.2.2.2.2.2.2.2.2.1 u.2.2.2.2.2.2.2.2.2.1 u.2.2.2.2.2.2.2.2.2.2.1 u.2.2.2.2.2.2.2.2.2.2.2.1 u.2.2.2.2.2.2.2.2.2.2.2.2.1 u.2.2.2.2.2.2.2.2.2.2.2.2.2 := by
  obtain ⟨j, hj, e⟩ := pk_andE (xs (nI i).toNatClampNeg) (m := 7) 3 (by decide)
  have f5 : ¬ x5 < 0 → ¬ 2 < x5 → ∃ b : Nat, b < 3 ∧ x5 = nI b := fun h1 h2 => by
    obtain ⟨b, hb, e⟩ := rl_of 2 2 (by decide) h1 h2
    exact ⟨b, by omega, e⟩
  unfold wL_law_66
  refine ⟨pk_in i L hi, nm_r e (br_f (nI_pos (by omega)) ?_)⟩
  refine pk_lt 4 j (fun _ => nm_r (nI_1 n) ⟨by decide, by decide, ?_⟩) (fun hj4 => ?_)
  · obtain ⟨p, hp, ep⟩ := rl_mod x4 6 (by omega) (by omega)
    obtain ⟨q, hq, eq⟩ := rl_mod x5 18 (by omega) (by omega)
    replace ep : (x4 &&& 255) - (x4 &&& 255) / 6 * 6 = nI p := ep
    replace eq : (x5 &&& 255) - (x5 &&& 255) / 18 * 18 = nI q := eq
    rw [ep, eq]
    refine rt_enter (u := u) hI hn hp hq h6 (fun u hI => ?_)
    have t := rl_433_new (post := post) (L := L) (xs := xs) (kc := kc) (ks := ks) (x4 := x4) (x5 := x5) (x2 := nI n) hI hn (fun k c u => hJ _ _ k c u (Nat.le_refl _))
    obtain ⟨l, lt, w, a1, a2, a3, a4, a5, a6, a7, a8, a9, a10, a11⟩ := u
    exact br_t rfl t
  · rw [nI_1]
    refine pk_eq j 0 (fun _ => ?_) (fun h0 => pk_eq j 1 (fun _ => ?_) (fun h1 => pk_eq j 2 (fun _ => ?_) (fun h2 => pk_eq j 3 (fun _ => rl_361 hI hn hJ h6) (fun h3 => pk_eq j 4 (fun _ => rl_361 hI hn hJ h6) (fun h4 => trivial)))))
    · refine br_c (fun z => rl_130 hI hn hJ (Or.inl (Or.inl z))) (fun z1 => br_c (fun z => rl_130 hI hn hJ (Or.inl (Or.inr z))) (fun z2 => ?_))
      obtain ⟨a, ha, e4⟩ := rl_of 5 5 (by decide) z1 z2
      rcases hz with ⟨ez, h5⟩ | ⟨ez, b, hb, e5⟩
      · exact br_t ez (rl_130 hI hn hJ (Or.inr h5))
      · exact br_f (by rw [ez]; decide) (rl_131 hI hn hJ (by omega) hb e4 e5 h6)
    · refine br_c (fun z => rl_199 hI hn hJ (Or.inl (Or.inl z))) (fun z1 => br_c (fun z => rl_199 hI hn hJ (Or.inl (Or.inr z))) (fun z2 => ?_))
      obtain ⟨a, ha, e4⟩ := rl_of 17 17 (by decide) z1 z2
      rcases hz with ⟨ez, h5⟩ | ⟨ez, b, hb, e5⟩
      · exact br_t ez (rl_199 hI hn hJ (Or.inr h5))
      · exact br_f (by rw [ez]; decide) (rl_200 hI hn hJ (by omega) hb e4 e5 h6)
    · refine br_c (fun z => rl_283 hI hn hJ (Or.inl (Or.inl (Or.inl z)))) (fun z1 => br_c (fun z => rl_283 hI hn hJ (Or.inl (Or.inl (Or.inr z)))) (fun z2 => br_c (fun z => rl_283 hI hn hJ (Or.inl (Or.inr (Or.inl z)))) (fun z3 => br_c (fun z => rl_283 hI hn hJ (Or.inl (Or.inr (Or.inr z)))) (fun z4 => br_c (fun z => rl_283 hI hn hJ (Or.inr z)) (fun z5 => ?_)))))
      obtain ⟨a, ha, e4⟩ := rl_of 2 2 (by decide) z1 z2
      obtain ⟨b, hb, e5⟩ := f5 z3 z4
      exact rl_284 hI hn hJ (by omega) hb (fun z => z5 (by rw [e4, e5, z])) e4 e5 h6
theorem rl_47 (hI : rt_I H n k c u) (hn : n + 1 < 1000) (hJ : ∀ H n' k c (u : St1), n' ≤ n + 1 → rt_I H n' k c u → J (nI n') (nI (i + 4)) u.1 u.2.1 u.2.2.1 u.2.2.2.1 u.2.2.2.2.1 u.2.2.2.2.2.1 u.2.2.2.2.2.2.1 u.2.2.2.2.2.2.2.1 u.2.2.2.2.2.2.2.2.1 u.2.2.2.2.2.2.2.2.2.1 u.2.2.2.2.2.2.2.2.2.2.1 u.2.2.2.2.2.2.2.2.2.2.2.1 u.2.2.2.2.2.2.2.2.2.2.2.2.1 u.2.2.2.2.2.2.2.2.2.2.2.2.2) (h6 : x6 = 0 ∨ x6 = 1) (hi : i < L) (hL : L ≤ 260) :
    wL_law_47 post L xs J (nI n) (nI i) x4 x5 x6 kc ks u.1 u.2.1 u.2.2.1 u.2.2.2.1 u.2.2.2.2.1 u.2.2.2.2.2.1 u.2.2.2.2.2.2.1 u.2.2.2.2.2.2.2.1 u.2.2.2.2.2.2.2.2.1 u.2.2.2.2.2.2.2.2.2.1 u.2.2.2.2.2.2.2.2.2.2.1 u.2.2.2.2.2.2.2.2.2.2.2.1 u.2.2.2.2.2.2.2.2.2.2.2.2.1 u.2.2.2.2.2.2.2.2.2.2.2.2.2 := by
  unfold wL_law_47 wL_law_65
  refine br_c (fun z => rl_66 hI hn hJ h6 hi hL (Or.inl ⟨rfl, Or.inl z⟩)) (fun z1 => br_c (fun z => rl_66 hI hn hJ h6 hi hL (Or.inl ⟨rfl, Or.inr z⟩)) (fun z2 => ?_))
  obtain ⟨b, hb, e5⟩ := rl_of 17 17 (by decide) z1 z2
  exact rl_66 hI hn hJ h6 hi hL (Or.inr ⟨rfl, b, by omega, e5⟩)
end
theorem rl_sub4 {L i : Nat} (hL : L ≤ 260) (hi : i < 1000) : (Int32.ofNat L) - 4 < nI i ↔ L < i + 4 := by
  have e : (nI L - nI 4).toInt = (L : Int) - (4 : Nat) := pk_sub_toInt (by omega) (by omega)
  have e2 : ((Int32.ofNat L) - 4).toInt = (L : Int) - (4 : Nat) := e
  rw [Int32.lt_iff_toInt_lt, e2, nI_toInt (by omega)]
  omega
theorem rl_12 {L : Nat} {xs : Nat → Int32} {kc ks : Nat} (hL : L ≤ 260) : ∀ d i n H k c (u : St1), L < i + d → i ≤ L + 4 → n ≤ i → rt_I H n k c u → wL_law_12 (fun r => r = 1) L xs kc ks (d + 1) (nI n) (nI i) u.1 u.2.1 u.2.2.1 u.2.2.2.1 u.2.2.2.2.1 u.2.2.2.2.2.1 u.2.2.2.2.2.2.1 u.2.2.2.2.2.2.2.1 u.2.2.2.2.2.2.2.2.1 u.2.2.2.2.2.2.2.2.2.1 u.2.2.2.2.2.2.2.2.2.2.1 u.2.2.2.2.2.2.2.2.2.2.2.1 u.2.2.2.2.2.2.2.2.2.2.2.2.1 u.2.2.2.2.2.2.2.2.2.2.2.2.2
  | d, i, n, H, k, c, u, hd, hi, hn, hI => by
    by_cases h : L < i + 4
    · refine br_t ((rl_sub4 hL (by omega)).mpr h) (rl_check_bad (u := u) ?_)
      obtain ⟨l, lt, w, a1, a2, a3, a4, a5, a6, a7, a8, a9, a10, a11⟩ := u
      refine br_t rfl (rl_groups_bad ?_)
      exact br_t rfl (rl_since_bad (br_t rfl rfl))
    · cases d with
      | zero => exact absurd hd (by omega)
      | succ d =>
        have hJ : ∀ H n' k c (u : St1), n' ≤ n + 1 → rt_I H n' k c u → wL_law_12 (fun r => r = 1) L xs kc ks (d + 1) (nI n') (nI (i + 4)) u.1 u.2.1 u.2.2.1 u.2.2.2.1 u.2.2.2.2.1 u.2.2.2.2.2.1 u.2.2.2.2.2.2.1 u.2.2.2.2.2.2.2.1 u.2.2.2.2.2.2.2.2.1 u.2.2.2.2.2.2.2.2.2.1 u.2.2.2.2.2.2.2.2.2.2.1 u.2.2.2.2.2.2.2.2.2.2.2.1 u.2.2.2.2.2.2.2.2.2.2.2.2.1 u.2.2.2.2.2.2.2.2.2.2.2.2.2 := fun H n' k c u hn' hI => rl_12 hL d (i + 4) n' H k c u (by omega) (by omega) (by omega) hI
        refine br_f (fun z => h ((rl_sub4 hL (by omega)).mp z)) ⟨pk_in (i + 1) L (by omega) (nI_1 i), nm_e ⟨pk_in (i + 2) L (by omega) (nI_add i 2), nm_e ⟨pk_in (i + 3) L (by omega) (nI_add i 3), ?_⟩⟩⟩
        exact br_c (fun _ => rl_47 hI (by omega) hJ (Or.inl rfl) (by omega) hL) (fun _ => rl_47 hI (by omega) hJ (Or.inr rfl) (by omega) hL)
theorem rl_0 : rt_I (fun _ => (fun _ => 0, fun _ => 0, fun _ => 0)) 0 0 (fun _ => 0) (0, 0, 0, (fun _ => 0), (fun _ => 0), (fun _ => 0), (fun _ => 0), (fun _ => 0), (fun _ => 0), (fun _ => 0), (fun _ => 0), (fun _ => 0), (fun _ => 0), (fun _ => 0)) := by
  refine ⟨rfl, rfl, rfl, rfl, rfl, rfl, by omega, by omega, by omega, fun j hj => absurd hj (by omega), fun g _ hb => ?_, fun j _ => ⟨fun g _ i _ => rb_0 i, fun g _ i _ => rb_0 i, fun g _ i _ => rb_0 i⟩⟩
  have hb' : rb_t 0 18 = true := hb
  rw [rb_0] at hb'
  exact absurd hb' (by decide)
theorem i_vc (xs : Nat → Int32) (L : Nat) (hL : L ≤ 260) : wpL_law (fun r => r = 1) L xs := by
  have h := rl_12 (xs := xs) (kc := 1 + 11) (ks := 14 + 133) hL (L + 1) 0 0 _ 0 _ _ (by omega) (by omega) (by omega) rl_0
  refine ⟨11, 133, by decide, by decide, ?_⟩
  unfold wpX_init
  exact ⟨by decide, by decide, by decide, by decide, by decide, by decide, by decide, by decide, by decide, by decide, by decide, by decide, by decide, by decide, by decide, by decide, by decide, by decide, by decide, by decide, by decide, by decide, L + 1 + 1, h⟩
end
