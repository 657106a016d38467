section
/-- bit i of a word -/
def gc_b (x : Int64) (i : Nat) : Bool := x.toBitVec.getLsbD i
/-- the word that has bit k alone -/
def gc_1 (k : Nat) : Int64 := (1 : Int64) <<< ((nI k).toInt64 &&& 63)
theorem gc_ext {x y : Int64} (h : ∀ i, i < 64 → gc_b x i = gc_b y i) : x = y :=
  Int64.toBitVec_inj.mp (BitVec.eq_of_getLsbD_eq (fun i hi => h i hi))
theorem gc_nf {x : Bool} (h : ¬ x = true) : x = false := by cases x <;> first | rfl | exact absurd rfl h
theorem gc_or (x y : Int64) (i : Nat) : gc_b (x ||| y) i = (gc_b x i || gc_b y i) := by
  unfold gc_b
  rw [Int64.toBitVec_or, BitVec.getLsbD_or]
theorem gc_and (x y : Int64) (i : Nat) : gc_b (x &&& y) i = (gc_b x i && gc_b y i) := by
  unfold gc_b
  rw [Int64.toBitVec_and, BitVec.getLsbD_and]
theorem gc_m1 : ∀ i, i < 64 → gc_b (-1) i = true := by decide +kernel
theorem gc_not (x : Int64) {i : Nat} (hi : i < 64) : gc_b (x ^^^ (-1)) i = !gc_b x i := by
  have h : gc_b (x ^^^ (-1)) i = (gc_b x i ^^ gc_b (-1) i) := by
    unfold gc_b
    rw [Int64.toBitVec_xor, BitVec.getLsbD_xor]
  rw [h, gc_m1 i hi]
  cases gc_b x i <;> rfl
theorem gc_0 (i : Nat) : gc_b 0 i = false := by
  show (0#64).getLsbD i = false
  simp
theorem gc_1t : ∀ k, k < 64 → (gc_1 k).toBitVec = BitVec.twoPow 64 k := by decide +kernel
theorem gc_1b {k : Nat} (hk : k < 64) (i : Nat) : gc_b (gc_1 k) i = decide (k = i) := by
  unfold gc_b
  rw [gc_1t k hk, BitVec.getLsbD_twoPow]
  simp [hk]
theorem gc_1s {k : Nat} (hk : k < 64) : gc_b (gc_1 k) k = true := by
  rw [gc_1b hk]
  simp
theorem gc_10 : (1 : Int64) = gc_1 0 := by decide +kernel
theorem gc_a1 (y : Int64) : y &&& 1 = if gc_b y 0 then 1 else 0 := by
  apply gc_ext
  intro i hi
  rw [gc_and]
  by_cases h : i = 0
  · subst h
    cases e : gc_b y 0
    · simp [gc_0]
    · simp
  · have h1 : gc_b 1 i = false := by
      rw [gc_10, gc_1b (by omega)]
      exact decide_eq_false (fun z => h z.symm)
    rw [h1]
    cases e : gc_b y 0
    · simp [gc_0]
    · simp [h1]
theorem gc_cu : ∀ k, k < 64 → ((nI k).toInt64.toUInt64 &&& Int64.toUInt64 63).toNat = k := by decide +kernel
theorem gc_cs : ∀ k, k < 64 → (((nI k).toInt64 &&& 63).toBitVec.smod 64).toNat = k := by decide +kernel
theorem gc_uX (x : Int64) {k : Nat} (hk : k < 64) : gc_b ((x.toUInt64 >>> ((nI k).toInt64.toUInt64 &&& Int64.toUInt64 63)).toInt64) 0 = gc_b x k := by
  have e : ((x.toUInt64 >>> ((nI k).toInt64.toUInt64 &&& Int64.toUInt64 63)).toInt64).toBitVec = x.toBitVec >>> k := by
    apply BitVec.eq_of_toNat_eq
    show (x.toUInt64 >>> ((nI k).toInt64.toUInt64 &&& Int64.toUInt64 63)).toNat = _
    rw [UInt64.toNat_shiftRight, gc_cu k hk, Nat.mod_eq_of_lt hk, BitVec.toNat_ushiftRight]
    rfl
  unfold gc_b
  rw [e, BitVec.getLsbD_ushiftRight]
  rfl
theorem gc_uL (x : Int64) {k : Nat} (hk : k < 64) : gc_b (x >>> ((nI k).toInt64 &&& 63)) 0 = gc_b x k := by
  have e : (x >>> ((nI k).toInt64 &&& 63)).toBitVec = x.toBitVec.sshiftRight' (((nI k).toInt64 &&& 63).toBitVec.smod 64) := rfl
  unfold gc_b
  rw [e, BitVec.getLsbD_sshiftRight', gc_cs k hk]
  simp [hk]
theorem gc_if {b : Bool} : ((if b then (1 : Int64) else 0) = 1) ↔ b = true := by
  cases b
  · simp
  · simp
theorem gc_hX (x : Int64) {k : Nat} (hk : k < 64) : ((x.toUInt64 >>> ((nI k).toInt64.toUInt64 &&& Int64.toUInt64 63)).toInt64 &&& 1) = 1 ↔ gc_b x k = true := by
  rw [gc_a1, gc_uX x hk]
  exact gc_if
theorem gc_hL (x : Int64) {k : Nat} (hk : k < 64) : ((x >>> ((nI k).toInt64 &&& 63)) &&& 1) = 1 ↔ gc_b x k = true := by
  rw [gc_a1, gc_uL x hk]
  exact gc_if
/-- a bit as a number -/
def gc_n (x : Int64) (k : Nat) : Nat := if gc_b x k then 1 else 0
theorem gc_oX (x : Int64) {k : Nat} (hk : k < 64) : ((x.toUInt64 >>> ((nI k).toInt64.toUInt64 &&& Int64.toUInt64 63)).toInt64 &&& 1).toInt32 = nI (gc_n x k) := by
  rw [gc_a1, gc_uX x hk]
  unfold gc_n
  cases gc_b x k <;> rfl
theorem gc_i1 (y : Int64) : y.toInt32 &&& 1 = nI (if gc_b y 0 then 1 else 0) := by
  have b1 : ∀ i, i < 32 → (1 : Int32).toBitVec.getLsbD i = decide (i = 0) := by decide +kernel
  have b0 : ∀ i, i < 32 → (nI 0).toBitVec.getLsbD i = false := by decide +kernel
  have b2 : ∀ i, i < 32 → (nI 1).toBitVec.getLsbD i = decide (i = 0) := by decide +kernel
  apply Int32.toBitVec_inj.mp
  apply BitVec.eq_of_getLsbD_eq
  intro i hi
  rw [Int32.toBitVec_and, BitVec.getLsbD_and, Int64.toBitVec_toInt32, BitVec.getLsbD_signExtend, b1 i hi]
  by_cases h : i = 0
  · subst h
    unfold gc_b
    cases e : y.toBitVec.getLsbD 0
    · simp
      decide +kernel
    · simp
      decide +kernel
  · cases e : gc_b y 0
    · simp [b0 i hi, h]
    · simp [b2 i hi, h]
theorem gc_oL (x : Int64) {k : Nat} (hk : k < 64) : ((x >>> ((nI k).toInt64 &&& 63)).toInt32 &&& 1) = nI (gc_n x k) := by
  rw [gc_i1, gc_uL x hk]
  rfl
/-- every bit of x is a bit of y -/
def gc_le (x y : Int64) : Prop := ∀ i, i < 64 → gc_b x i = true → gc_b y i = true
theorem gc_le_r (x : Int64) : gc_le x x := fun _ _ h => h
theorem gc_le_t {x y z : Int64} (h : gc_le x y) (h' : gc_le y z) : gc_le x z := fun i hi hb => h' i hi (h i hi hb)
theorem gc_le_a {x y : Int64} (h : gc_le x y) (h' : gc_le y x) : x = y := by
  apply gc_ext
  intro i hi
  cases e : gc_b x i
  · cases e' : gc_b y i
    · rfl
    · rw [h' i hi e'] at e
      exact absurd e (by decide)
  · exact (h i hi e).symm
theorem gc_le_o (x y : Int64) : gc_le x (x ||| y) := fun i _ hb => by rw [gc_or, hb]; rfl
theorem gc_le_o2 (x y : Int64) : gc_le y (x ||| y) := fun i _ hb => by rw [gc_or, hb]; cases gc_b x i <;> rfl
theorem gc_le_u {x y z : Int64} (h : gc_le x z) (h' : gc_le y z) : gc_le (x ||| y) z := by
  intro i hi hb
  rw [gc_or] at hb
  cases e : gc_b x i
  · rw [e] at hb
    exact h' i hi hb
  · exact h i hi e
theorem gc_ss (r x : Int64) : (r &&& (x ^^^ (-1))) = 0 ↔ gc_le r x := by
  constructor
  · intro h i hi hb
    have t : gc_b (r &&& (x ^^^ (-1))) i = false := by rw [h, gc_0]
    rw [gc_and, gc_not x hi, hb] at t
    cases e : gc_b x i
    · rw [e] at t
      exact absurd t (by decide)
    · rfl
  · intro h
    apply gc_ext
    intro i hi
    rw [gc_0, gc_and, gc_not x hi]
    cases e : gc_b r i
    · rfl
    · rw [h i hi e]
      rfl
theorem gc_le1 {k : Nat} (hk : k < 64) {x : Int64} (h : gc_b x k = true) : gc_le (gc_1 k) x := by
  intro i _ hb
  rw [gc_1b hk] at hb
  rw [← of_decide_eq_true hb]
  exact h
theorem gc_or1 {k : Nat} (hk : k < 64) {x : Int64} (h : gc_b x k = true) : x ||| gc_1 k = x :=
  gc_le_a (gc_le_u (gc_le_r x) (gc_le1 hk h)) (gc_le_o x _)
/-- how many of the first n bits are set -/
def gc_cnt (x : Int64) : Nat → Nat
  | 0 => 0
  | n + 1 => gc_cnt x n + gc_n x n
theorem gc_n1 (x : Int64) (k : Nat) : gc_n x k ≤ 1 := by
  unfold gc_n
  split <;> omega
theorem gc_cle (x : Int64) (n : Nat) : gc_cnt x n ≤ n := by
  induction n with
  | zero => exact Nat.le_refl 0
  | succ n ih =>
    have h := gc_n1 x n
    show gc_cnt x n + gc_n x n ≤ n + 1
    omega
theorem gc_nmono {x y : Int64} {k : Nat} (h : gc_b x k = true → gc_b y k = true) : gc_n x k ≤ gc_n y k := by
  unfold gc_n
  cases e : gc_b x k
  · simp
  · rw [h e]
    simp
theorem gc_cmono {x y : Int64} (n : Nat) (h : ∀ i, i < n → gc_b x i = true → gc_b y i = true) : gc_cnt x n ≤ gc_cnt y n := by
  induction n with
  | zero => exact Nat.le_refl 0
  | succ n ih =>
    have h1 := ih (fun i hi => h i (by omega))
    have h2 := gc_nmono (h n (by omega))
    show gc_cnt x n + gc_n x n ≤ gc_cnt y n + gc_n y n
    omega
theorem gc_clt {x y : Int64} (n : Nat) (h : ∀ i, i < n → gc_b x i = true → gc_b y i = true) (i : Nat) (hi : i < n) (hx : gc_b x i = false) (hy : gc_b y i = true) : gc_cnt x n < gc_cnt y n := by
  induction n with
  | zero => exact absurd hi (by omega)
  | succ n ih =>
    show gc_cnt x n + gc_n x n < gc_cnt y n + gc_n y n
    by_cases e : i = n
    · have h1 := gc_cmono n (fun j hj => h j (by omega))
      have h2 : gc_n x n = 0 := by
        unfold gc_n
        rw [← e, hx]
        rfl
      have h3 : gc_n y n = 1 := by
        unfold gc_n
        rw [← e, hy]
        rfl
      omega
    · have h1 := ih (fun j hj => h j (by omega)) (by omega)
      have h2 := gc_nmono (h n (by omega))
      omega
theorem gc_lt {x y : Int64} (h : gc_le x y) (hn : x ≠ y) : gc_cnt x 64 < gc_cnt y 64 := by
  by_cases e : ∃ i, i < 64 ∧ gc_b x i = false ∧ gc_b y i = true
  · obtain ⟨i, hi, h1, h2⟩ := e
    exact gc_clt 64 h i hi h1 h2
  · refine absurd (gc_le_a h (fun i hi hb => ?_)) hn
    cases e' : gc_b x i
    · exact absurd ⟨i, hi, e', hb⟩ e
    · rfl
theorem gc_cnot (x : Int64) (n : Nat) (hn : n ≤ 64) : gc_cnt (x ^^^ (-1)) n + gc_cnt x n = n := by
  induction n with
  | zero => rfl
  | succ n ih =>
    have h1 := ih (by omega)
    have h2 : gc_n (x ^^^ (-1)) n + gc_n x n = 1 := by
      unfold gc_n
      rw [gc_not x (by omega)]
      cases gc_b x n <;> rfl
    show gc_cnt (x ^^^ (-1)) n + gc_n (x ^^^ (-1)) n + (gc_cnt x n + gc_n x n) = n + 1
    omega
theorem gc_c0 : ∀ n, gc_cnt 0 n = 0 := by
  intro n
  induction n with
  | zero => rfl
  | succ n ih =>
    show gc_cnt 0 n + gc_n 0 n = 0
    rw [ih]
    unfold gc_n
    rw [gc_0]
    rfl
theorem gc_c1 : ∀ k, k < 64 → gc_cnt (gc_1 k) 64 = 1 := by decide +kernel
theorem gc_p1 : ∀ k, k < 64 → (gc_1 k &&& (gc_1 k - 1)) = 0 := by decide +kernel
theorem gc_p2 : ∀ a, a < 64 → ∀ b, b < 64 → ((gc_1 a ||| gc_1 b) &&& ((gc_1 a ||| gc_1 b) - 1)) = 0 → a = b := by decide +kernel
theorem gc_c2 {a b : Nat} (ha : a < 64) (hb : b < 64) (h : a ≠ b) : 2 ≤ gc_cnt (gc_1 a ||| gc_1 b) 64 := by
  have h1 : gc_cnt (gc_1 a) 64 < gc_cnt (gc_1 a ||| gc_1 b) 64 := gc_lt (gc_le_o _ _) (fun e => by
    have t : gc_b (gc_1 a) b = true := by
      rw [e]
      exact gc_le_o2 _ _ b hb (gc_1s hb)
    rw [gc_1b ha] at t
    exact h (of_decide_eq_true t))
  rw [gc_c1 a ha] at h1
  omega
end
section
/-- the states below n that p holds of -/
def gc_set (p : Nat → Bool) : Nat → Int64
  | 0 => 0
  | n + 1 => if p n then gc_set p n ||| gc_1 n else gc_set p n
theorem gc_set_t {p : Nat → Bool} {n : Nat} (h : p n = true) : gc_set p (n + 1) = gc_set p n ||| gc_1 n := by
  show (if p n then gc_set p n ||| gc_1 n else gc_set p n) = _
  rw [h]
  rfl
theorem gc_set_f {p : Nat → Bool} {n : Nat} (h : p n = false) : gc_set p (n + 1) = gc_set p n := by
  show (if p n then gc_set p n ||| gc_1 n else gc_set p n) = _
  rw [h]
  rfl
theorem gc_setb (p : Nat → Bool) (n : Nat) (hn : n ≤ 64) (i : Nat) (hi : i < 64) : gc_b (gc_set p n) i = (decide (i < n) && p i) := by
  induction n with
  | zero =>
    show gc_b 0 i = _
    rw [gc_0]
    simp
  | succ n ih =>
    have ih := ih (by omega)
    cases e : p n
    · rw [gc_set_f e, ih]
      by_cases h : i = n
      · rw [h, e]
        simp
      · have h1 : (i < n + 1) ↔ (i < n) := by omega
        simp only [h1]
    · rw [gc_set_t e, gc_or, ih, gc_1b (by omega)]
      by_cases h : i = n
      · rw [h, e]
        simp
      · have h1 : (i < n + 1) ↔ (i < n) := by omega
        have h2 : ¬ n = i := fun z => h z.symm
        simp [h1, h2]
theorem gc_setall : gc_set (fun _ => true) 64 = -1 := by decide +kernel
/-- x0 and the rows of q's states below n -/
def gc_img (q : Int64) (row : Nat → Int64) (x0 : Int64) : Nat → Int64
  | 0 => x0
  | n + 1 => if gc_b q n then gc_img q row x0 n ||| row n else gc_img q row x0 n
theorem gc_img_t {q : Int64} {row : Nat → Int64} {x0 : Int64} {n : Nat} (h : gc_b q n = true) : gc_img q row x0 (n + 1) = gc_img q row x0 n ||| row n := by
  show (if gc_b q n then gc_img q row x0 n ||| row n else gc_img q row x0 n) = _
  rw [h]
  rfl
theorem gc_img_f {q : Int64} {row : Nat → Int64} {x0 : Int64} {n : Nat} (h : gc_b q n = false) : gc_img q row x0 (n + 1) = gc_img q row x0 n := by
  show (if gc_b q n then gc_img q row x0 n ||| row n else gc_img q row x0 n) = _
  rw [h]
  rfl
theorem gc_img_in {q : Int64} {row : Nat → Int64} {x0 : Int64} (n : Nat) : gc_le x0 (gc_img q row x0 n) := by
  induction n with
  | zero => exact gc_le_r x0
  | succ n ih =>
    cases e : gc_b q n
    · rw [gc_img_f e]
      exact ih
    · rw [gc_img_t e]
      exact gc_le_t ih (gc_le_o _ _)
theorem gc_img_row {q : Int64} {row : Nat → Int64} {x0 : Int64} (n s : Nat) (hs : s < n) (hb : gc_b q s = true) : gc_le (row s) (gc_img q row x0 n) := by
  induction n with
  | zero => exact absurd hs (by omega)
  | succ n ih =>
    by_cases h : s = n
    · subst h
      rw [gc_img_t hb]
      exact gc_le_o2 _ _
    · have ih := ih (by omega)
      cases e : gc_b q n
      · rw [gc_img_f e]
        exact ih
      · rw [gc_img_t e]
        exact gc_le_t ih (gc_le_o _ _)
theorem gc_img_min {q : Int64} {row : Nat → Int64} {x0 C : Int64} (n : Nat) (h0 : gc_le x0 C) (h : ∀ s, s < n → gc_b q s = true → gc_le (row s) C) : gc_le (gc_img q row x0 n) C := by
  induction n with
  | zero => exact h0
  | succ n ih =>
    have ih := ih (fun s hs => h s (by omega))
    cases e : gc_b q n
    · rw [gc_img_f e]
      exact ih
    · rw [gc_img_t e]
      exact gc_le_u ih (h n (by omega) e)
theorem gc_le0 (x : Int64) : gc_le 0 x := fun i _ hb => by
  rw [gc_0] at hb
  exact absurd hb (by decide)
theorem gc_img1 {row : Nat → Int64} {m : Nat} (hm : m < 64) : gc_img (gc_1 m) row 0 64 = row m := by
  apply gc_le_a
  · apply gc_img_min 64 (gc_le0 _)
    intro s hs hb
    rw [gc_1b hm] at hb
    rw [← of_decide_eq_true hb]
    exact gc_le_r _
  · exact gc_img_row 64 m hm (gc_1s hm)
/-- one round of the sure states -/
def gc_rd (t : Nat → Int64) (x : Int64) : Nat → Int64
  | 0 => x
  | n + 1 => if (t n &&& (gc_rd t x n ^^^ (-1))) = 0 then gc_rd t x n ||| gc_1 n else gc_rd t x n
theorem gc_rd_t {t : Nat → Int64} {x : Int64} {n : Nat} (h : (t n &&& (gc_rd t x n ^^^ (-1))) = 0) : gc_rd t x (n + 1) = gc_rd t x n ||| gc_1 n := if_pos h
theorem gc_rd_f {t : Nat → Int64} {x : Int64} {n : Nat} (h : ¬ (t n &&& (gc_rd t x n ^^^ (-1))) = 0) : gc_rd t x (n + 1) = gc_rd t x n := if_neg h
theorem gc_rd_h {t : Nat → Int64} {x : Int64} {n : Nat} (hn : n < 64) (h : gc_b (gc_rd t x n) n = true) : gc_rd t x (n + 1) = gc_rd t x n := by
  by_cases e : (t n &&& (gc_rd t x n ^^^ (-1))) = 0
  · rw [gc_rd_t e, gc_or1 hn h]
  · exact gc_rd_f e
theorem gc_rd_le (t : Nat → Int64) (x : Int64) (n : Nat) : gc_le x (gc_rd t x n) := by
  induction n with
  | zero => exact gc_le_r x
  | succ n ih =>
    by_cases e : (t n &&& (gc_rd t x n ^^^ (-1))) = 0
    · rw [gc_rd_t e]
      exact gc_le_t ih (gc_le_o _ _)
    · rw [gc_rd_f e]
      exact ih
/-- one round of the states met -/
def gc_md (t : Nat → Int64) (x : Int64) : Nat → Int64
  | 0 => x
  | n + 1 => if gc_b (gc_md t x n) n then gc_md t x n ||| t n else gc_md t x n
theorem gc_md_t {t : Nat → Int64} {x : Int64} {n : Nat} (h : gc_b (gc_md t x n) n = true) : gc_md t x (n + 1) = gc_md t x n ||| t n := if_pos h
theorem gc_md_f {t : Nat → Int64} {x : Int64} {n : Nat} (h : gc_b (gc_md t x n) n = false) : gc_md t x (n + 1) = gc_md t x n := if_neg (by rw [h]; decide)
theorem gc_md_1 (t : Nat → Int64) (x : Int64) (n : Nat) : gc_le (gc_md t x n) (gc_md t x (n + 1)) := by
  cases e : gc_b (gc_md t x n) n
  · rw [gc_md_f e]
    exact gc_le_r _
  · rw [gc_md_t e]
    exact gc_le_o _ _
theorem gc_md_mono (t : Nat → Int64) (x : Int64) (m d : Nat) : gc_le (gc_md t x m) (gc_md t x (m + d)) := by
  induction d with
  | zero => exact gc_le_r _
  | succ d ih => exact gc_le_t ih (gc_md_1 t x (m + d))
theorem gc_md_le (t : Nat → Int64) (x : Int64) (n : Nat) : gc_le x (gc_md t x n) := by
  have h := gc_md_mono t x 0 n
  rw [Nat.zero_add] at h
  exact h
/-- n rounds -/
def gc_it (R : Int64 → Int64) (x : Int64) : Nat → Int64
  | 0 => x
  | n + 1 => R (gc_it R x n)
theorem gc_fix (R : Int64 → Int64) (hR : ∀ x, gc_le x (R x)) (x : Int64) : R (gc_it R x 64) = gc_it R x 64 := by
  have main : ∀ n, R (gc_it R x n) = gc_it R x n ∨ n + 1 ≤ gc_cnt (R (gc_it R x n)) 64 := by
    intro n
    induction n with
    | zero =>
      by_cases e : R x = x
      · exact Or.inl e
      · have h := gc_lt (hR x) (fun z => e z.symm)
        exact Or.inr (show 0 + 1 ≤ gc_cnt (R x) 64 by omega)
    | succ n ih =>
      show R (R (gc_it R x n)) = R (gc_it R x n) ∨ n + 1 + 1 ≤ gc_cnt (R (R (gc_it R x n))) 64
      rcases ih with ih | ih
      · left
        rw [ih, ih]
      · by_cases e : R (R (gc_it R x n)) = R (gc_it R x n)
        · exact Or.inl e
        · have h := gc_lt (hR (R (gc_it R x n))) (fun z => e z.symm)
          right
          omega
  rcases main 64 with h | h
  · exact h
  · have h2 := gc_cle (R (gc_it R x 64)) 64
    exact absurd h (by omega)
theorem gc_stay {R : Int64 → Int64} {x : Int64} {r : Nat} (h : R (gc_it R x r) = gc_it R x r) (d : Nat) : gc_it R x (r + d) = gc_it R x r := by
  induction d with
  | zero => rfl
  | succ d ih =>
    show R (gc_it R x (r + d)) = _
    rw [ih, h]
theorem gc_stay64 {R : Int64 → Int64} {x : Int64} {r : Nat} (h : R (gc_it R x r) = gc_it R x r) (hr : r ≤ 64) : gc_it R x r = gc_it R x 64 := by
  have e := gc_stay h (64 - r)
  rw [show r + (64 - r) = 64 by omega] at e
  exact e.symm
/-- C is left by no step -/
def gc_cl (t : Nat → Int64) (C : Int64) : Prop := ∀ s, s < 64 → gc_b C s = true → gc_le (t s) C
theorem gc_md_min {t : Nat → Int64} {x C : Int64} (hC : gc_cl t C) (hx : gc_le x C) (n : Nat) (hn : n ≤ 64) : gc_le (gc_md t x n) C := by
  induction n with
  | zero => exact hx
  | succ n ih =>
    have ih := ih (by omega)
    cases e : gc_b (gc_md t x n) n
    · rw [gc_md_f e]
      exact ih
    · rw [gc_md_t e]
      exact gc_le_u ih (hC n (by omega) (ih n (by omega) e))
/-- the states met from s -/
def gc_M (t : Nat → Int64) (s : Nat) : Int64 := gc_it (fun x => gc_md t x 64) (gc_1 s) 64
theorem gc_it_le {R : Int64 → Int64} (hR : ∀ x, gc_le x (R x)) (x : Int64) (n : Nat) : gc_le x (gc_it R x n) := by
  induction n with
  | zero => exact gc_le_r x
  | succ n ih => exact gc_le_t ih (hR _)
theorem gc_M_in (t : Nat → Int64) {s : Nat} (hs : s < 64) : gc_b (gc_M t s) s = true :=
  gc_it_le (R := fun x => gc_md t x 64) (fun x => gc_md_le t x 64) (gc_1 s) 64 s hs (gc_1s hs)
theorem gc_M_cl (t : Nat → Int64) (s : Nat) : gc_cl t (gc_M t s) := by
  intro k hk hb
  have f : gc_md t (gc_M t s) 64 = gc_M t s := gc_fix (fun x => gc_md t x 64) (fun x => gc_md_le t x 64) (gc_1 s)
  have h1 : gc_b (gc_md t (gc_M t s) k) k = true := gc_md_le t _ k k hk hb
  have h2 : gc_le (t k) (gc_md t (gc_M t s) (k + 1)) := by
    rw [gc_md_t h1]
    exact gc_le_o2 _ _
  have h3 := gc_md_mono t (gc_M t s) (k + 1) (64 - (k + 1))
  rw [show k + 1 + (64 - (k + 1)) = 64 by omega, f] at h3
  exact gc_le_t h2 h3
theorem gc_M_min {t : Nat → Int64} {s : Nat} (hs : s < 64) {C : Int64} (hC : gc_cl t C) (hb : gc_b C s = true) : gc_le (gc_M t s) C := by
  have main : ∀ n, gc_le (gc_it (fun x => gc_md t x 64) (gc_1 s) n) C := by
    intro n
    induction n with
    | zero => exact gc_le1 hs hb
    | succ n ih => exact gc_md_min hC ih 64 (Nat.le_refl 64)
  exact main 64
theorem gc_M_u {t : Nat → Int64} {s : Nat} (hs : s < 64) {Y : Int64} (h1 : gc_b Y s = true) (h2 : gc_cl t Y) (h3 : ∀ C, gc_cl t C → gc_b C s = true → gc_le Y C) : Y = gc_M t s :=
  gc_le_a (h3 _ (gc_M_cl t s) (gc_M_in t hs)) (gc_M_min hs h2 h1)
/-- what a choice under g and k can end in -/
def gc_T (g k : Int64) (ra rb : Nat → Int64) (s : Nat) : Int64 :=
  if gc_b k s then (if gc_b g s then ra s else 0) ||| rb s else (if gc_b g s then ra s else 0)
theorem gc_T0 {g k : Int64} {ra rb : Nat → Int64} {s : Nat} (h : gc_b (g ||| k) s = false) : gc_T g k ra rb s = 0 := by
  rw [gc_or] at h
  unfold gc_T
  cases e : gc_b g s
  · cases e' : gc_b k s
    · simp
    · rw [e, e'] at h
      exact absurd h (by decide)
  · rw [e] at h
    exact absurd h (by simp)
theorem gc_gk (g k : Int64) : ((g ||| k) &&& ((-1) ||| (g ^^^ (-1)))) &&& ((-1) ||| (k ^^^ (-1))) = g ||| k := by
  apply gc_ext
  intro i hi
  rw [gc_and, gc_and, gc_or (-1), gc_or (-1), gc_m1 i hi]
  simp
theorem gc_dem (gk q : Int64) (t : Nat → Int64) : gk &&& gc_set (fun s => decide ((t s &&& (q ^^^ (-1))) = 0)) 64 = gc_set (fun s => gc_b gk s && decide ((t s &&& (q ^^^ (-1))) = 0)) 64 := by
  apply gc_ext
  intro i hi
  rw [gc_and, gc_setb _ 64 (Nat.le_refl 64) i hi, gc_setb _ 64 (Nat.le_refl 64) i hi]
  simp [hi]
theorem gc_wk (gk q : Int64) (t : Nat → Int64) (h : ∀ s, gc_b gk s = false → t s = 0) : gc_set (fun s => decide ((t s &&& (q ^^^ (-1))) = 0)) 64 = gc_set (fun s => gc_b gk s && decide ((t s &&& (q ^^^ (-1))) = 0)) 64 ||| (gk ^^^ (-1)) := by
  apply gc_ext
  intro i hi
  rw [gc_or, gc_not gk hi, gc_setb _ 64 (Nat.le_refl 64) i hi, gc_setb _ 64 (Nat.le_refl 64) i hi]
  cases e : gc_b gk i
  · have h0 : (t i &&& (q ^^^ (-1))) = 0 := by
      rw [h i e]
      exact (gc_ss 0 q).mpr (gc_le0 q)
    simp only [h0, hi, decide_true]
    simp
  · simp [hi]
/-- the greatest of f below n -/
def gc_mx (f : Nat → Nat) : Nat → Nat
  | 0 => 0
  | n + 1 => if f n ≤ gc_mx f n then gc_mx f n else f n
theorem gc_mx_t {f : Nat → Nat} {n : Nat} (h : f n ≤ gc_mx f n) : gc_mx f (n + 1) = gc_mx f n := if_pos h
theorem gc_mx_f {f : Nat → Nat} {n : Nat} (h : ¬ f n ≤ gc_mx f n) : gc_mx f (n + 1) = f n := if_neg h
theorem gc_mx_le {f : Nat → Nat} {b : Nat} (h : ∀ s, f s ≤ b) (n : Nat) : gc_mx f n ≤ b := by
  induction n with
  | zero => exact Nat.zero_le b
  | succ n ih =>
    by_cases e : f n ≤ gc_mx f n
    · rw [gc_mx_t e]
      exact ih
    · rw [gc_mx_f e]
      exact h n
theorem gc_mx_ge {f : Nat → Nat} (n s : Nat) (hs : s < n) : f s ≤ gc_mx f n := by
  induction n with
  | zero => exact absurd hs (by omega)
  | succ n ih =>
    by_cases e : f n ≤ gc_mx f n
    · rw [gc_mx_t e]
      by_cases h : s = n
      · rw [h]
        exact e
      · exact ih (by omega)
    · rw [gc_mx_f e]
      by_cases h : s = n
      · rw [h]
        exact Nat.le_refl _
      · have ih := ih (by omega)
        omega
theorem gc_mx_ex {f : Nat → Nat} (n : Nat) (h : 0 < gc_mx f n) : ∃ s, s < n ∧ f s = gc_mx f n := by
  induction n with
  | zero => exact absurd h (Nat.lt_irrefl 0)
  | succ n ih =>
    by_cases e : f n ≤ gc_mx f n
    · rw [gc_mx_t e] at h
      rw [gc_mx_t e]
      obtain ⟨s, hs, h2⟩ := ih h
      exact ⟨s, by omega, h2⟩
    · rw [gc_mx_f e]
      exact ⟨n, by omega, rfl⟩
theorem gc_two (g k : Int64) (la lb : Nat → Nat) (s : Nat) (ha : la s < 64) (hb : lb s < 64) (x : Int64) (hx : x = gc_T g k (fun i => gc_1 (la i)) (fun i => gc_1 (lb i)) s) : (x &&& (x - 1)) = 0 ↔ gc_cnt x 64 < 2 := by
  have one : ∀ a, a < 64 → ((gc_1 a &&& (gc_1 a - 1)) = 0 ↔ gc_cnt (gc_1 a) 64 < 2) := fun a h => ⟨fun _ => by rw [gc_c1 a h]; decide, fun _ => gc_p1 a h⟩
  have zero : ((0 : Int64) &&& ((0 : Int64) - 1)) = 0 ↔ gc_cnt 0 64 < 2 := ⟨fun _ => by rw [gc_c0]; decide, fun _ => by decide⟩
  unfold gc_T at hx
  cases e : gc_b k s
  · rw [e] at hx
    cases e' : gc_b g s
    · rw [e'] at hx
      have hx' : x = 0 := hx
      rw [hx']
      exact zero
    · rw [e'] at hx
      have hx' : x = gc_1 (la s) := hx
      rw [hx']
      exact one _ ha
  · rw [e] at hx
    cases e' : gc_b g s
    · rw [e'] at hx
      have hx' : x = 0 ||| gc_1 (lb s) := hx
      rw [Int64.zero_or] at hx'
      rw [hx']
      exact one _ hb
    · rw [e'] at hx
      have hx' : x = gc_1 (la s) ||| gc_1 (lb s) := hx
      rw [hx']
      by_cases h : la s = lb s
      · rw [h, gc_or1 hb (gc_1s hb)]
        exact one _ hb
      · constructor
        · intro z
          exact absurd (gc_p2 _ ha _ hb z) h
        · intro z
          have h2 := gc_c2 ha hb h
          exact absurd z (by omega)
end
section
/-- a form's value at a state; where the assignment leads -/
def gc_v (F s : Nat) : Nat := (F / 64 % 8 * (s / 8) + F / 8 % 8 * (s % 8) + F % 8) % 8
def gc_led (F s : Nat) : Nat := if F / 512 % 2 = 0 then 8 * gc_v F s + s % 8 else s / 8 * 8 + gc_v F s
theorem gc_v8 (F s : Nat) : gc_v F s < 8 := Nat.mod_lt _ (by decide)
theorem gc_l64 (F : Nat) {s : Nat} (hs : s < 64) : gc_led F s < 64 := by
  have h := gc_v8 F s
  unfold gc_led
  split <;> omega
theorem gc_v512 (F s : Nat) : gc_v (F % 512) s = gc_v F s := by
  unfold gc_v
  rw [show F % 512 / 64 % 8 = F / 64 % 8 by omega, show F % 512 / 8 % 8 = F / 8 % 8 by omega, show F % 512 % 8 = F % 8 by omega]
theorem gc_valL {F s : Nat} (hF : F < 1024) (hs : s < 64) : ((((((nI F) >>> ((6 : Int32) &&& 31)) &&& 7) * ((nI s) >>> ((3 : Int32) &&& 31))) + ((((nI F) >>> ((3 : Int32) &&& 31)) &&& 7) * ((nI s) &&& 7))) + ((nI F) &&& 7)) &&& 7 = nI (gc_v F s) := by
  have h1 : F / 2 ^ 6 % 2 ^ 3 * (s / 2 ^ 3) ≤ 7 * 7 := Nat.mul_le_mul (by omega) (by omega)
  have h2 : F / 2 ^ 3 % 2 ^ 3 * (s % 2 ^ 3) ≤ 7 * 7 := Nat.mul_le_mul (by omega) (by omega)
  have h3 : F % 2 ^ 3 < 8 := by omega
  rw [pk_shrN (n := F) (by omega) ((6 : Int32) &&& 31) 6 (by decide), pk_shrN (n := F) (by omega) ((3 : Int32) &&& 31) 3 (by decide), pk_shrN (n := s) (by omega) ((3 : Int32) &&& 31) 3 (by decide), pk_andN (n := F / 2 ^ 6) (by omega) (m := 7) 3 (by decide), pk_andN (n := F / 2 ^ 3) (by omega) (m := 7) 3 (by decide), pk_andN (n := s) (by omega) (m := 7) 3 (by decide), pk_andN (n := F) (by omega) (m := 7) 3 (by decide), pk_mul, pk_mul, nI_add, nI_add, pk_andN (n := F / 2 ^ 6 % 2 ^ 3 * (s / 2 ^ 3) + F / 2 ^ 3 % 2 ^ 3 * (s % 2 ^ 3) + F % 2 ^ 3) (by omega) (m := 7) 3 (by decide)]
  rfl
theorem gc_valX {G s : Nat} (hG : G < 512) (hs : s < 64) : (((((nI G) >>> ((6 : Int32) &&& 31)) * ((nI s) >>> ((3 : Int32) &&& 31))) + ((((nI G) >>> ((3 : Int32) &&& 31)) &&& 7) * ((nI s) &&& 7))) + ((nI G) &&& 7)) &&& 7 = nI (gc_v G s) := by
  have e : (nI G) >>> ((6 : Int32) &&& 31) = ((nI G) >>> ((6 : Int32) &&& 31)) &&& 7 := by
    rw [pk_shrN (n := G) (by omega) ((6 : Int32) &&& 31) 6 (by decide), pk_andN (n := G / 2 ^ 6) (by omega) (m := 7) 3 (by decide), show G / 2 ^ 6 % 2 ^ 3 = G / 2 ^ 6 by omega]
  rw [e]
  exact gc_valL (by omega) hs
theorem gc_worth {post : Int32 → Prop} {F s : Nat} (hF : F < 1024) (hs : s < 64) (hp : post (nI (gc_v F s))) : wpL_worth post () (nI F) (nI s) := by
  unfold wpL_worth
  rw [gc_valL hF hs]
  exact hp
theorem gc_fv {post : Int32 → Prop} {G s : Nat} (hG : G < 512) (hs : s < 64) (hp : post (nI (gc_v G s))) : wpX_formValue post () (nI G) (nI s) := by
  unfold wpX_formValue
  refine nm_e (nm_e (nm_e ?_))
  rw [gc_valX hG hs]
  exact hp
theorem gc_e8 (v : Nat) {s : Nat} (hs : s < 64) : (8 * nI v) + (nI s &&& 7) = nI (8 * v + s % 8) := by
  rw [show (8 : Int32) = nI 8 from rfl, pk_mul, pk_andN (n := s) (by omega) (m := 7) 3 (by decide), nI_add]
theorem gc_s56 : ∀ s, s < 64 → nI s &&& 56 = nI (s / 8 * 8) := by decide +kernel
theorem gc_e56 (v : Nat) {s : Nat} (hs : s < 64) : (nI s &&& 56) + nI v = nI (s / 8 * 8 + v) := by
  rw [gc_s56 s hs, nI_add]
theorem gc_ledL {post : Int32 → Prop} {F s : Nat} (hF : F < 1024) (hs : s < 64) (hp : post (nI (gc_led F s))) : wpL_led post () (nI F) (nI s) := by
  have hx : ((nI F) >>> ((9 : Int32) &&& 31)) &&& 1 = nI (F / 512 % 2) := by
    rw [pk_shrN (n := F) (by omega) ((9 : Int32) &&& 31) 9 (by decide), pk_andN (n := F / 2 ^ 9) (by omega) (m := 1) 1 (by decide)]
  unfold wpL_led
  refine gc_worth hF hs (pk_eq (F / 512 % 2) 0 (fun z => ?_) (fun z => ?_) hx rfl)
  · show post ((8 * nI (gc_v F s)) + (nI s &&& 7))
    rw [gc_e8 _ hs]
    unfold gc_led at hp
    rw [if_pos z] at hp
    exact hp
  · show post ((nI s &&& 56) + nI (gc_v F s))
    rw [gc_e56 _ hs]
    unfold gc_led at hp
    rw [if_neg z] at hp
    exact hp
/-- a step of the law -/
theorem gc_stL {post : Int64 → Prop} {F H s : Nat} {g k : Int64} (hF : F < 1024) (hH : H < 1024) (hs : s < 64) (hp : post (gc_T g k (fun i => gc_1 (gc_led F i)) (fun i => gc_1 (gc_led H i)) s)) : wpL_step post () (nI F) (nI H) g k (nI s) := by
  have main : ∀ z : Int64, z = (if gc_b g s then gc_1 (gc_led F s) else 0) → wL_step_23 post (nI H) k (nI s) z := by
    intro z hz
    unfold gc_T at hp
    rw [← hz] at hp
    unfold wL_step_23
    refine br_c (fun h => ?_) (fun h => ?_)
    · rw [(gc_hL k hs).mp h] at hp
      exact gc_ledL hH hs hp
    · rw [gc_nf (fun t => h ((gc_hL k hs).mpr t))] at hp
      rw [Int64.or_zero]
      exact hp
  unfold wpL_step
  refine br_c (fun h => ?_) (fun h => ?_)
  · refine gc_ledL hF hs (main _ ?_)
    rw [(gc_hL g hs).mp h]
    rfl
  · refine main _ ?_
    rw [gc_nf (fun t => h ((gc_hL g hs).mpr t))]
    rfl
/-- the law's count of bits -/
theorem gc_onesL {post : Int32 → Prop} {x : Int64} (hp : post (nI (gc_cnt x 64))) : wpL_ones post () x := by
  unfold wpL_ones
  refine pk_loop (fun n i (s : Int32) => wL_ones_4 post x n s (nI i)) (fun i s => s = nI (gc_cnt x (8 * i))) 8 0 0 (by omega) rfl ?_ ?_
  · intro n s h
    refine pk_le 8 8 (fun _ => ?_) (fun z => absurd z (by omega))
    rw [h]
    exact hp
  · intro n i s hi h hw
    refine pk_le 8 i (fun z => absurd z (by omega)) (fun _ => ?_)
    refine pk_loop (fun m j (u : Int32) => wL_ones_13 post (wL_ones_4 post x n) x (nI i) m u (nI j)) (fun j u => u = nI (gc_cnt x (8 * i + j))) 8 0 s (by omega) h ?_ ?_
    · intro m u hu
      exact pk_le 8 8 (fun _ => nm_r (nI_1 i) (hw u hu)) (fun z => absurd z (by omega))
    · intro m j u hj hu hv
      refine pk_le 8 j (fun z => absurd z (by omega)) (fun _ => nm_r ?_ (nm_r (nI_1 j) (hv (nI (gc_cnt x (8 * i + (j + 1)))) rfl)))
      have e : (8 * nI i) + nI j = nI (8 * i + j) := by rw [show (8 : Int32) = nI 8 from rfl, pk_mul, nI_add]
      rw [e, gc_oL x (by omega), hu, nI_add]
      rfl
/-- the law's guards -/
theorem gc_below {post : Int64 → Prop} {F B : Nat} (hF : F < 1024) (hB : B ≤ 8) (hp : post (gc_set (fun s => decide (gc_v F s < B)) 64)) : wpL_below post () (nI F) (nI B) := by
  unfold wpL_below
  refine pk_loop (fun n i (s : Int64) => wL_below_5 post (nI F) (nI B) n s (nI i)) (fun i s => s = gc_set (fun s => decide (gc_v F s < B)) (8 * i)) 8 0 0 (by omega) rfl ?_ ?_
  · intro n s h
    refine pk_le 8 8 (fun _ => ?_) (fun z => absurd z (by omega))
    rw [h]
    exact hp
  · intro n i s hi h hw
    refine pk_le 8 i (fun z => absurd z (by omega)) (fun _ => ?_)
    refine pk_loop (fun m j (u : Int64) => wL_below_15 post (wL_below_5 post (nI F) (nI B) n) (nI F) (nI B) (nI i) m u (nI j)) (fun j u => u = gc_set (fun s => decide (gc_v F s < B)) (8 * i + j)) 8 0 s (by omega) h ?_ ?_
    · intro m u hu
      exact pk_le 8 8 (fun _ => nm_r (nI_1 i) (hw u hu)) (fun z => absurd z (by omega))
    · intro m j u hj hu hv
      have e : (8 * nI i) + nI j = nI (8 * i + j) := by rw [show (8 : Int32) = nI 8 from rfl, pk_mul, nI_add]
      have h8 := gc_v8 F (8 * i + j)
      refine pk_le 8 j (fun z => absurd z (by omega)) (fun _ => nm_r e (gc_worth hF (by omega) (pk_le B (gc_v F (8 * i + j)) (fun z => ?_) (fun z => ?_))))
      · refine nm_r (nI_1 j) (hv u ?_)
        rw [hu]
        exact (gc_set_f (p := fun s => decide (gc_v F s < B)) (decide_eq_false (by omega))).symm
      · refine nm_r (e' := gc_set (fun s => decide (gc_v F s < B)) (8 * i + (j + 1))) ?_ (nm_r (nI_1 j) (hv _ rfl))
        rw [hu]
        exact (gc_set_t (p := fun s => decide (gc_v F s < B)) (decide_eq_true z)).symm
end
section
theorem gc_wh {post : Int32 → Prop} {x : Int64} {k : Nat} (hk : k < 64) (ht : gc_b x k = true → post 1) (hf : gc_b x k = false → post 0) : wpX_has post () x (nI k) :=
  br_c (fun h => ht ((gc_hX x hk).mp h)) (fun h => hf (gc_nf (fun t => h ((gc_hX x hk).mpr t))))
theorem gc_good {post : Int32 → Prop} {c p : Nat} {a1 a2 a3 : Nat → Int64} (hc : c < 2 ^ 31) (hp : p < 2 ^ 31) (h1 : p < c → post 1) (h0 : c ≤ p → post 0) : wpX_isGood post (nI c, a1, a2, a3) (nI p) :=
  br_f (nI_pos hp) (pk_le c p h0 h1 rfl rfl hc hp)
theorem gc_close {P : Int32 → St2 → Prop} {c : Nat} {a1 a2 a3 : Nat → Int64} (hp : P (nI c) (nI (c + 1), a1, a2, a3)) : wpX_close P (nI c, a1, a2, a3) := by
  refine nm_r (nI_1 c) ?_
  rw [nI_pred]
  exact hp
theorem gc_i (p s : Nat) : (64 * nI p) + nI s = nI (64 * p + s) := by
  rw [show (64 : Int32) = nI 64 from rfl, pk_mul, nI_add]
theorem gc_in {p s : Nat} (hp : p < 30) (hs : s < 64) : vp_in ((64 * nI p) + nI s) 1920 := by
  rw [gc_i]
  exact vp_in_nI (by omega) (by omega)
theorem gc_ic {p s : Nat} (hp : p < 30) (hs : s < 64) : ((64 * nI p) + nI s).toNatClampNeg = 64 * p + s := by
  rw [gc_i]
  exact nI_clamp (by omega)
theorem gc_cl2 {p : Nat} (hp : p < 30) : (nI p).toNatClampNeg = p := nI_clamp (by omega)
/-- a' is a but for row c, whose first n places hold v -/
def gc_row (a a' : Nat → Int64) (c n : Nat) (v : Nat → Int64) : Prop := (∀ j, j < 64 * c → a' j = a j) ∧ (∀ s, s < n → a' (64 * c + s) = v s)
theorem gc_row0 {a : Nat → Int64} {c : Nat} {v : Nat → Int64} : gc_row a a c 0 v := ⟨fun _ _ => rfl, fun s hs => absurd hs (by omega)⟩
theorem gc_rows {a a' : Nat → Int64} {c n k : Nat} {v : Nat → Int64} {x : Int64} (h : gc_row a a' c n v) (hk : k = 64 * c + n) (hx : x = v n) : gc_row a (vp_updL a' k x) c (n + 1) v := by
  constructor
  · intro j hj
    rw [pk_uLn (by omega)]
    exact h.1 j hj
  · intro s hs
    by_cases e : s = n
    · rw [e, ← hk, pk_uLs, hx]
    · rw [pk_uLn (by omega)]
      exact h.2 s (by omega)
theorem gc_rowA {a a' : Nat → Int64} {c n A s : Nat} {v : Nat → Int64} (h : gc_row a a' c n v) (hA : A < c) (hs : s < 64) : a' (64 * A + s) = a (64 * A + s) := h.1 _ (by omega)
theorem gc_onesX {post : Int32 → Prop} {x : Int64} (hp : post (nI (gc_cnt x 64))) : wpX_ones post () x := by
  unfold wpX_ones
  refine pk_loop (fun n i (s : Int32) => wX_ones_4 post x n s (nI i)) (fun i s => s = nI (gc_cnt x i)) 64 0 0 (by omega) rfl ?_ ?_
  · intro n s h
    refine pk_le 64 64 (fun _ => ?_) (fun z => absurd z (by omega))
    rw [h]
    exact hp
  · intro n i s hi h hw
    refine pk_le 64 i (fun z => absurd z (by omega)) (fun _ => nm_r ?_ (nm_r (nI_1 i) (hw (nI (gc_cnt x (i + 1))) rfl)))
    rw [h, gc_oX x hi, nI_add]
    rfl
theorem gc_cmpX {post : Int32 → St2 → Prop} {w U B : Nat} {cc : Int32} {a1 a2 a3 : Nat → Int64} (hw : w < 2) (hU : U < 512) (hB : B ≤ 8) (hp : post (nI (gc_cnt (gc_set (fun s => decide (gc_v U s < B)) 64) 64)) (cc, a1, a2, vp_updL a3 w (gc_set (fun s => decide (gc_v U s < B)) 64))) : wpX_compare post (cc, a1, a2, a3) (nI w) (nI U) (nI B) := by
  have k77 : ∀ x : Int64, x = gc_set (fun s => decide (gc_v U s < B)) 64 → wX_compare_77 post x (nI w) cc a1 a2 a3 := by
    intro x hx
    unfold wX_compare_77
    refine ⟨vp_in_nI hw (by omega), nm_e ?_⟩
    rw [nI_clamp (show w < 2 ^ 31 by omega), hx]
    exact gc_onesX hp
  unfold wpX_compare
  refine br_f (nI_pos (by omega)) (br_t (nI_le (b := 511) (by omega) (by omega)) (br_f (nI_pos (by omega)) (br_t (nI_le (b := 8) (by omega) (by omega)) ?_)))
  refine pk_loop (fun n i (s : Int64) => wX_compare_32 post (nI w) (nI U) (nI B) cc a1 a2 a3 n s (nI i)) (fun i s => s = gc_set (fun s => decide (gc_v U s < B)) i) 64 0 0 (by omega) rfl ?_ ?_
  · intro n s h
    refine pk_le 64 64 (fun _ => ?_) (fun z => absurd z (by omega))
    have k := k77 s h
    refine pk_eq w 0 (fun z => ?_) (fun z => ?_)
    · rw [z] at k
      exact k
    · rw [show w = 1 by omega] at k
      exact k
  · intro n i s hi h hv
    have h8 := gc_v8 U i
    refine pk_le 64 i (fun z => absurd z (by omega)) (fun _ => gc_fv hU hi (pk_le B (gc_v U i) (fun z => ?_) (fun z => ?_)))
    · refine nm_r (nI_1 i) (hv s ?_)
      rw [h]
      exact (gc_set_f (p := fun s => decide (gc_v U s < B)) (decide_eq_false (by omega))).symm
    · refine nm_r (e' := gc_set (fun s => decide (gc_v U s < B)) (i + 1)) ?_ (nm_r (nI_1 i) (hv _ rfl))
      rw [h]
      exact (gc_set_t (p := fun s => decide (gc_v U s < B)) (decide_eq_true z)).symm
theorem gc_asgX {post : Int32 → St2 → Prop} {c F : Nat} {a1 a2 a3 : Nat → Int64} (hc : c < 30) (hF : F < 1024) (hp : ∀ a, gc_row a1 a c 64 (fun s => gc_1 (gc_led F s)) → post (nI c) (nI (c + 1), a, vp_updL a2 c (-1), a3)) : wpX_assign post (nI c, a1, a2, a3) ((nI F) >>> ((9 : Int32) &&& 31)) ((nI F) &&& 511) := by
  have hx : (nI F) >>> ((9 : Int32) &&& 31) = nI (F / 512) := pk_shrN (n := F) (by omega) ((9 : Int32) &&& 31) 9 (by decide)
  have hy : (nI F) &&& 511 = nI (F % 512) := pk_andN (n := F) (by omega) (m := 511) 9 (by decide)
  rw [hx, hy]
  unfold wpX_assign
  refine br_f (nI_pos (by omega)) (br_t (nI_le (b := 511) (by omega) (by omega)) (pk_eq c 30 (fun z => absurd z (by omega)) (fun _ => ?_)))
  refine pk_loop (fun n i a => wX_assign_27 post (nI (F / 512)) (nI (F % 512)) (nI c) n (nI i) a a2 a3) (fun i a => gc_row a1 a c i (fun s => gc_1 (gc_led F s))) 64 0 a1 (by omega) gc_row0 ?_ ?_
  · intro n a h
    exact pk_le 64 64 (fun _ => ⟨vp_in_nI hc (by omega), nm_r (by rw [gc_cl2 hc]) (gc_close (hp a h))⟩) (fun z => absurd z (by omega))
  · intro n i a hi h hw
    have key : ∀ z0 : Int32, z0 = nI (gc_led F i) → wX_assign_64 post (wX_assign_27 post (nI (F / 512)) (nI (F % 512)) (nI c) n) (nI (F / 512)) (nI (F % 512)) (nI i) z0 (nI c) a a2 a3 := by
      intro z0 hz
      unfold wX_assign_64
      exact ⟨gc_in hc hi, nm_e (nm_r (nI_1 i) (hw _ (gc_rows h (gc_ic hc hi) (by rw [hz]; rfl))))⟩
    refine pk_le 64 i (fun z => absurd z (by omega)) (fun _ => gc_fv (by omega) hi (pk_eq (F / 512) 0 (fun z => key _ ?_) (fun z => key _ ?_)))
    · rw [gc_v512, gc_e8 _ hi]
      unfold gc_led
      rw [if_pos (by omega)]
    · rw [gc_v512, gc_e56 _ hi]
      unfold gc_led
      rw [if_neg (by omega)]
theorem gc_imgX {post : Int64 → Prop} {p : Nat} {q v : Int64} {row : Nat → Int64} {cc : Int32} {a1 a2 a3 : Nat → Int64} (hp : p < 30) (hr : ∀ s, s < 64 → a1 (64 * p + s) = row s) (hv : gc_img q row 0 64 = v) (h : post v) : wpX_imageOf post (cc, a1, a2, a3) (nI p) q := by
  unfold wpX_imageOf
  refine pk_loop (fun n i (s : Int64) => wX_imageOf_6 post (nI p) q cc a1 a2 a3 n s (nI i)) (fun i s => s = gc_img q row 0 i) 64 0 0 (by omega) rfl ?_ ?_
  · intro n s hs
    refine pk_le 64 64 (fun _ => ?_) (fun z => absurd z (by omega))
    rw [hs, hv]
    exact h
  · intro n i s hi hs hw
    refine pk_le 64 i (fun z => absurd z (by omega)) (fun _ => gc_wh hi (fun hb => br_f (by decide) ⟨gc_in hp hi, nm_r (e' := gc_img q row 0 (i + 1)) ?_ (nm_r (nI_1 i) (hw _ rfl))⟩) (fun hb => br_t rfl (nm_r (nI_1 i) (hw s ?_))))
    · rw [gc_ic hp hi, hr i hi, hs, gc_img_t hb]
    · rw [hs, gc_img_f hb]
theorem gc_seqX {post : Int32 → St2 → Prop} {c A B : Nat} {la : Nat → Nat} {rb : Nat → Int64} {a1 a2 a3 : Nat → Int64} (hc : c < 30) (hA : A < c) (hB : B < c) (hla : ∀ s, s < 64 → la s < 64) (hra : ∀ s, s < 64 → a1 (64 * A + s) = gc_1 (la s)) (hrb : ∀ s, s < 64 → a1 (64 * B + s) = rb s) (h2A : a2 A = -1) (h2B : a2 B = -1) (hp : ∀ a, gc_row a1 a c 64 (fun s => rb (la s)) → post (nI c) (nI (c + 1), a, vp_updL a2 c (-1), a3)) : wpX_sequence post (nI c, a1, a2, a3) (nI A) (nI B) := by
  have hA1 : a2 (nI A).toNatClampNeg = -1 := by rw [gc_cl2 (by omega), h2A]
  have hB1 : a2 (nI B).toNatClampNeg = -1 := by rw [gc_cl2 (by omega), h2B]
  unfold wpX_sequence
  refine gc_good (by omega) (by omega) (fun _ => br_f (by decide) (gc_good (by omega) (by omega) (fun _ => br_f (by decide) (pk_eq c 30 (fun z => absurd z (by omega)) (fun _ => ?_))) (fun z => absurd z (by omega)))) (fun z => absurd z (by omega))
  refine pk_loop (fun n i (s : Int64 × (Nat → Int64)) => wX_sequence_35 post (nI A) (nI B) (nI c) n s.1 (nI i) s.2 a2 a3) (fun i s => s.1 = gc_set (fun _ => true) i ∧ gc_row a1 s.2 c i (fun s => rb (la s))) 64 0 (0, a1) (by omega) ⟨rfl, gc_row0⟩ ?_ ?_
  · intro n s h
    refine pk_le 64 64 (fun _ => ⟨vp_in_nI hc (by omega), nm_r ?_ (gc_close (hp s.2 h.2))⟩) (fun z => absurd z (by omega))
    rw [gc_cl2 hc, h.1, gc_setall]
  · intro n i s hi h hw
    obtain ⟨x, a⟩ := s
    have hx : x = gc_set (fun _ => true) i := h.1
    have ha : gc_row a1 a c i (fun s => rb (la s)) := h.2
    refine pk_le 64 i (fun z => absurd z (by omega)) (fun _ => ⟨gc_in (by omega) hi, nm_r (e' := gc_1 (la i)) ?_ (gc_imgX (row := rb) (v := rb (la i)) (by omega) ?_ (gc_img1 (hla i hi)) ⟨gc_in hc hi, nm_e ⟨vp_in_nI (by omega) (by omega), gc_wh hi (fun _ => br_f (by decide) ⟨vp_in_nI (by omega) (by omega), br_t ?_ (br_f (by decide) (nm_r (e' := gc_set (fun _ => true) (i + 1)) ?_ (nm_r (nI_1 i) (hw (_, _) ⟨rfl, gc_rows ha (gc_ic hc hi) rfl⟩))))⟩) (fun hb => ?_)⟩⟩)⟩)
    · rw [gc_ic (by omega) hi]
      show a (64 * A + i) = _
      rw [gc_rowA ha hA hi, hra i hi]
    · intro s hs
      show a (64 * B + s) = _
      rw [gc_rowA ha hB hs, hrb s hs]
    · rw [hB1]
      exact (gc_ss _ _).mpr (fun j hj _ => gc_m1 j hj)
    · rw [hx]
      exact (gc_set_t (p := fun _ => true) rfl).symm
    · rw [hA1, gc_m1 i hi] at hb
      exact absurd hb (by decide)
theorem gc_stX {post : Int64 → Prop} {A B s : Nat} {g k : Int64} {ra rb : Nat → Int64} {cc : Int32} {a1 a2 a3 : Nat → Int64} (hA : A < 30) (hB : B < 30) (hs : s < 64) (hra : a1 (64 * A + s) = ra s) (hrb : a1 (64 * B + s) = rb s) (hg : a3 0 = g) (hk : a3 1 = k) (hp : post (gc_T g k ra rb s)) : wpX_step post (cc, a1, a2, a3) (nI A) (nI B) (nI s) := by
  have main : ∀ z : Int64, z = (if gc_b g s then ra s else 0) → wX_step_28 post (nI B) (nI s) z cc a1 a2 a3 := by
    intro z hz
    unfold gc_T at hp
    rw [← hz] at hp
    unfold wX_step_28
    rw [hk]
    refine gc_wh hs (fun hb => br_f (by decide) ⟨gc_in hB hs, ?_⟩) (fun hb => br_t rfl ?_)
    · rw [gc_ic hB hs, hrb]
      rw [hb] at hp
      exact hp
    · rw [hb] at hp
      exact hp
  unfold wpX_step
  dsimp only
  rw [hg]
  refine gc_wh hs (fun hb => br_f (by decide) ⟨gc_in hA hs, main _ ?_⟩) (fun hb => br_t rfl (main _ ?_))
  · rw [gc_ic hA hs, hra, hb]
    rfl
  · rw [hb]
    rfl
theorem gc_chX {post : Int32 → St2 → Prop} {c A B : Nat} {g k : Int64} {ra rb : Nat → Int64} {a1 a2 a3 : Nat → Int64} (hc : c < 30) (hA : A < c) (hB : B < c) (hra : ∀ s, s < 64 → a1 (64 * A + s) = ra s) (hrb : ∀ s, s < 64 → a1 (64 * B + s) = rb s) (h2A : a2 A = -1) (h2B : a2 B = -1) (hg : a3 0 = g) (hk : a3 1 = k) (hp : ∀ a, gc_row a1 a c 64 (gc_T g k ra rb) → post (nI c) (nI (c + 1), a, vp_updL a2 c (g ||| k), a3)) : wpX_choice post (nI c, a1, a2, a3) (nI A) (nI B) := by
  have hA1 : a2 (nI A).toNatClampNeg = -1 := by rw [gc_cl2 (by omega), h2A]
  have hB1 : a2 (nI B).toNatClampNeg = -1 := by rw [gc_cl2 (by omega), h2B]
  unfold wpX_choice
  refine gc_good (by omega) (by omega) (fun _ => br_f (by decide) (gc_good (by omega) (by omega) (fun _ => br_f (by decide) (pk_eq c 30 (fun z => absurd z (by omega)) (fun _ => nm_e ⟨vp_in_nI (by omega) (by omega), vp_in_nI (by omega) (by omega), nm_r (e' := g ||| k) ?_ ?_⟩))) (fun z => absurd z (by omega)))) (fun z => absurd z (by omega))
  · rw [hA1, hB1, hg, hk]
    exact gc_gk g k
  refine pk_loop (fun n i a => wX_choice_85 post (nI A) (nI B) (g ||| k) (nI c) n (nI i) a a2 a3) (fun i a => gc_row a1 a c i (gc_T g k ra rb)) 64 0 a1 (by omega) gc_row0 ?_ ?_
  · intro n a h
    exact pk_le 64 64 (fun _ => ⟨vp_in_nI hc (by omega), nm_r (by rw [gc_cl2 hc]) (gc_close (hp a h))⟩) (fun z => absurd z (by omega))
  · intro n i a hi h hw
    refine pk_le 64 i (fun z => absurd z (by omega)) (fun _ => gc_stX (ra := ra) (rb := rb) (by omega) (by omega) hi ?_ ?_ hg hk ⟨gc_in hc hi, nm_e (nm_r (nI_1 i) (hw _ (gc_rows h (gc_ic hc hi) rfl)))⟩)
    · rw [gc_rowA h hA hi, hra i hi]
    · rw [gc_rowA h hB hi, hrb i hi]
theorem gc_chB {post : Int32 → St2 → Prop} {c A B : Nat} {a1 a2 a3 : Nat → Int64} (hc : c < 30) (hA : A < c) (hB : B < 2 ^ 31) (hB2 : c ≤ B) (hp : post (-1) (nI c, a1, a2, a3)) : wpX_choice post (nI c, a1, a2, a3) (nI A) (nI B) := by
  unfold wpX_choice
  exact gc_good (by omega) (by omega) (fun _ => br_f (by decide) (gc_good (by omega) (by omega) (fun z => absurd z (by omega)) (fun _ => br_t rfl hp))) (fun z => absurd z (by omega))
end
section
theorem gc_ls129 {post : Int64 → Prop} {J9 J27 : Int64 → Int32 → Int32 → Prop} {x1 x2 x8 e z0 cc : Int32} {w : Int64} {i : Nat} {a1 a2 a3 : Nat → Int64} (hi : i < 64) (h1 : gc_b w i = true → J27 w e (nI (i + 1))) (h2 : gc_b w i = false → z0 = 0 → J27 w e (nI (i + 1))) (h3 : gc_b w i = false → ¬ z0 = 0 → J27 (w ||| gc_1 i) 1 (nI (i + 1))) : wX_loopSure_129 post J9 J27 x1 x2 w e x8 (nI i) 1 1 z0 cc a1 a2 a3 := by
  unfold wX_loopSure_129
  exact gc_wh hi (fun hb => br_f (by decide) (nm_r (nI_1 i) (h1 hb))) (fun hb => br_t rfl (br_f (by decide) (br_f (by decide) (br_c (fun z => nm_r (nI_1 i) (h2 hb z)) (fun z => nm_e (nm_r (nI_1 i) (h3 hb z)))))))
section
variable {post : Int64 → Prop} {J9 J27 : Int64 → Int32 → Int32 → Prop} {x8 e cc : Int32} {w g k : Int64} {i A B : Nat} {ra rb a1 a2 a3 : Nat → Int64}
theorem gc_ls102 (hi : i < 64) (hA : A < 30) (hB : B < 30) (hra : ∀ s, s < 64 → a1 (64 * A + s) = ra s) (hrb : ∀ s, s < 64 → a1 (64 * B + s) = rb s) (hg : a3 0 = g) (hk : a3 1 = k) (h1 : gc_b w i = true → J27 w e (nI (i + 1))) (h2 : gc_b w i = false → ¬ (gc_T g k ra rb i &&& (w ^^^ (-1))) = 0 → J27 w e (nI (i + 1))) (h3 : gc_b w i = false → (gc_T g k ra rb i &&& (w ^^^ (-1))) = 0 → J27 (w ||| gc_1 i) 1 (nI (i + 1))) : wX_loopSure_102 post J9 J27 (nI A) (nI B) w e x8 (nI i) 1 1 cc a1 a2 a3 := by
  unfold wX_loopSure_102
  exact gc_stX hA hB hi (hra i hi) (hrb i hi) hg hk (br_c (fun z => gc_ls129 hi h1 (fun _ t => absurd t (by decide)) (fun hb _ => h3 hb z)) (fun z => gc_ls129 hi h1 (fun hb _ => h2 hb z) (fun _ t => absurd rfl t)))
theorem gc_ls67 (hi : i < 64) (hA : A < 30) (hB : B < 30) (hra : ∀ s, s < 64 → a1 (64 * A + s) = ra s) (hrb : ∀ s, s < 64 → a1 (64 * B + s) = rb s) (hg : a3 0 = g) (hk : a3 1 = k) (h2B : a2 B = -1) (h1 : gc_b w i = true → J27 w e (nI (i + 1))) (h2 : gc_b w i = false → ¬ (gc_T g k ra rb i &&& (w ^^^ (-1))) = 0 → J27 w e (nI (i + 1))) (h3 : gc_b w i = false → (gc_T g k ra rb i &&& (w ^^^ (-1))) = 0 → J27 (w ||| gc_1 i) 1 (nI (i + 1))) : wX_loopSure_67 post J9 J27 (nI A) (nI B) w e x8 (nI i) 1 cc a1 a2 a3 := by
  have hB1 : a2 (nI B).toNatClampNeg = -1 := by rw [gc_cl2 hB, h2B]
  have K := gc_ls102 (post := post) (J9 := J9) (J27 := J27) (x8 := x8) (e := e) (cc := cc) (a2 := a2) hi hA hB hra hrb hg hk h1 h2 h3
  unfold wX_loopSure_67
  refine gc_wh hi (fun _ => br_f (by decide) ⟨vp_in_nI hB (by omega), gc_wh hi (fun _ => br_f (by decide) K) (fun hb => ?_)⟩) (fun _ => br_t rfl K)
  rw [hB1, gc_m1 i hi] at hb
  exact absurd hb (by decide)
end
theorem gc_lsX {post : Int64 → Prop} {A B : Nat} {x0 g k : Int64} {ra rb : Nat → Int64} {cc : Int32} {a1 a2 a3 : Nat → Int64} (hA : A < 30) (hB : B < 30) (hra : ∀ s, s < 64 → a1 (64 * A + s) = ra s) (hrb : ∀ s, s < 64 → a1 (64 * B + s) = rb s) (h2A : a2 A = -1) (h2B : a2 B = -1) (hg : a3 0 = g) (hk : a3 1 = k) (hp : post (gc_it (fun x => gc_rd (gc_T g k ra rb) x 64) x0 64)) : wpX_loopSure post (cc, a1, a2, a3) (nI A) (nI B) x0 := by
  have hA1 : a2 (nI A).toNatClampNeg = -1 := by rw [gc_cl2 hA, h2A]
  have hR : ∀ x, gc_le x ((fun x => gc_rd (gc_T g k ra rb) x 64) x) := fun x => gc_rd_le _ x 64
  unfold wpX_loopSure
  refine pk_loop (fun n r (s : Int64 × Int32) => wX_loopSure_9 post (nI A) (nI B) cc a1 a2 a3 n s.1 s.2 (nI r)) (fun r s => s.1 = gc_it (fun x => gc_rd (gc_T g k ra rb) x 64) x0 r ∧ (s.2 = 1 ∨ (s.2 = 0 ∧ gc_rd (gc_T g k ra rb) s.1 64 = s.1))) 65 0 (x0, 1) (by omega) ⟨rfl, Or.inl rfl⟩ ?_ ?_
  · intro n s h
    refine pk_lt 64 65 (fun _ => ?_) (fun z => absurd z (by omega))
    have e : gc_it (fun x => gc_rd (gc_T g k ra rb) x 64) x0 65 = gc_it (fun x => gc_rd (gc_T g k ra rb) x 64) x0 64 := gc_fix _ hR x0
    rw [h.1, e]
    exact hp
  · intro n r s hr h hw
    obtain ⟨y, f⟩ := s
    have hy : y = gc_it (fun x => gc_rd (gc_T g k ra rb) x 64) x0 r := h.1
    have hf2 : f = 1 ∨ (f = 0 ∧ gc_rd (gc_T g k ra rb) y 64 = y) := h.2
    refine pk_lt 64 r (fun z => absurd z (by omega)) (fun _ => br_c (fun hf => ?_) (fun hf => ?_))
    · show post y
      rcases hf2 with h2 | h2
      · have hf' : f = 0 := hf
        rw [h2] at hf'
        exact absurd hf' (by decide)
      · have h3 := h2.2
        rw [hy] at h3
        rw [hy, gc_stay64 (R := fun x => gc_rd (gc_T g k ra rb) x 64) h3 (by omega)]
        exact hp
    · refine pk_loop (fun m i (u : Int64 × Int32) => wX_loopSure_27 post (wX_loopSure_9 post (nI A) (nI B) cc a1 a2 a3 n) (nI A) (nI B) (nI r) cc a1 a2 a3 m u.1 u.2 (nI i)) (fun i u => u.1 = gc_rd (gc_T g k ra rb) y i ∧ (u.2 = 1 ∨ (u.2 = 0 ∧ u.1 = y))) 64 0 (y, 0) (by omega) ⟨rfl, Or.inr ⟨rfl, rfl⟩⟩ ?_ ?_
      · intro m u hu
        refine pk_le 64 64 (fun _ => nm_r (nI_1 r) (hw u ⟨?_, ?_⟩)) (fun z => absurd z (by omega))
        · rw [hu.1, hy]
          rfl
        · rcases hu.2 with h2 | h2
          · exact Or.inl h2
          · refine Or.inr ⟨h2.1, ?_⟩
            rw [h2.2, ← hu.1]
            exact h2.2
      · intro m i u hi hu hv
        obtain ⟨w, e⟩ := u
        have hw1 : w = gc_rd (gc_T g k ra rb) y i := hu.1
        have hw2 : e = 1 ∨ (e = 0 ∧ w = y) := hu.2
        have K : wX_loopSure_67 post (wX_loopSure_9 post (nI A) (nI B) cc a1 a2 a3 n) (wX_loopSure_27 post (wX_loopSure_9 post (nI A) (nI B) cc a1 a2 a3 n) (nI A) (nI B) (nI r) cc a1 a2 a3 m) (nI A) (nI B) w e (nI r) (nI i) 1 cc a1 a2 a3 := by
          refine gc_ls67 hi hA hB hra hrb hg hk h2B (fun hb => ?_) (fun hb z => ?_) (fun hb z => ?_)
          · refine hv (w, e) ⟨?_, hw2⟩
            rw [hw1] at hb
            show w = _
            rw [gc_rd_h hi hb]
            exact hw1
          · refine hv (w, e) ⟨?_, hw2⟩
            rw [hw1] at z
            show w = _
            rw [gc_rd_f z]
            exact hw1
          · refine hv (w ||| gc_1 i, 1) ⟨?_, Or.inl rfl⟩
            rw [hw1] at z
            show w ||| gc_1 i = _
            rw [gc_rd_t z, ← hw1]
        refine pk_le 64 i (fun z => absurd z (by omega)) (fun _ => gc_wh hi (fun _ => br_f (by decide) ⟨vp_in_nI hA (by omega), gc_wh hi (fun _ => br_f (by decide) K) (fun hb => ?_)⟩) (fun _ => br_t rfl K))
        rw [hA1, gc_m1 i hi] at hb
        exact absurd hb (by decide)
theorem gc_rcX {post : Int64 → Prop} {A B s : Nat} {g k : Int64} {ra rb : Nat → Int64} {cc : Int32} {a1 a2 a3 : Nat → Int64} (hA : A < 30) (hB : B < 30) (hs : s < 64) (hra : ∀ s, s < 64 → a1 (64 * A + s) = ra s) (hrb : ∀ s, s < 64 → a1 (64 * B + s) = rb s) (hg : a3 0 = g) (hk : a3 1 = k) (hp : post (gc_M (gc_T g k ra rb) s)) : wpX_reached post (cc, a1, a2, a3) (nI A) (nI B) (nI s) := by
  unfold wpX_reached
  refine nm_r (e' := gc_1 s) rfl ?_
  refine pk_loop (fun n r (u : Int64 × Int64) => wX_reached_11 post (nI A) (nI B) cc a1 a2 a3 n u.1 u.2 (nI r)) (fun r u => gc_b u.1 s = true ∧ gc_le u.2 u.1 ∧ (∀ j, j < 64 → gc_b u.2 j = true → gc_le (gc_T g k ra rb j) u.1) ∧ (∀ C, gc_cl (gc_T g k ra rb) C → gc_b C s = true → gc_le u.1 C) ∧ r ≤ gc_cnt u.2 64) 65 0 (gc_1 s, 0) (by omega) ⟨gc_1s hs, gc_le0 _, fun j _ hb => ?_, fun C _ hb => gc_le1 hs hb, Nat.zero_le _⟩ ?_ ?_
  · have hb' : gc_b 0 j = true := hb
    rw [gc_0] at hb'
    exact absurd hb' (by decide)
  · intro n u h
    have h1 := h.2.2.2.2
    have h2 := gc_cle u.2 64
    exact absurd h1 (by omega)
  · intro n r u hr h hw
    obtain ⟨y, d⟩ := u
    have i1 : gc_b y s = true := h.1
    have i2 : gc_le d y := h.2.1
    have i3 : ∀ j, j < 64 → gc_b d j = true → gc_le (gc_T g k ra rb j) y := h.2.2.1
    have i4 : ∀ C, gc_cl (gc_T g k ra rb) C → gc_b C s = true → gc_le y C := h.2.2.2.1
    have i5 : r ≤ gc_cnt d 64 := h.2.2.2.2
    refine pk_lt 64 r (fun z => absurd z (by omega)) (fun _ => br_c (fun hf => ?_) (fun hf => nm_e ?_))
    · show post y
      have hf' : y = d := hf
      rw [gc_M_u hs i1 (fun j hj hb => i3 j hj (by rw [← hf']; exact hb)) i4]
      exact hp
    · have hf' : ¬ y = d := hf
      refine pk_loop (fun m i (x : Int64) => wX_reached_44 post (wX_reached_11 post (nI A) (nI B) cc a1 a2 a3 n) (nI A) (nI B) y (nI r) (y &&& (d ^^^ (-1))) cc a1 a2 a3 m x (nI i)) (fun i x => x = gc_img (y &&& (d ^^^ (-1))) (gc_T g k ra rb) y i) 64 0 y (by omega) rfl ?_ ?_
      · intro m x hx
        have j1 : gc_le y x := by
          rw [hx]
          exact gc_img_in 64
        refine pk_le 64 64 (fun _ => nm_r (nI_1 r) (hw (x, y) ⟨j1 s hs i1, j1, fun j hj hb => ?_, fun C hC hb => ?_, ?_⟩)) (fun z => absurd z (by omega))
        · show gc_le (gc_T g k ra rb j) x
          have hb' : gc_b y j = true := hb
          cases e : gc_b d j
          · rw [hx]
            refine gc_img_row 64 j hj ?_
            rw [gc_and, gc_not d hj, hb', e]
            rfl
          · exact gc_le_t (i3 j hj e) j1
        · show gc_le x C
          rw [hx]
          refine gc_img_min 64 (i4 C hC hb) (fun j hj hj2 => hC j hj (i4 C hC hb j hj ?_))
          rw [gc_and] at hj2
          cases e : gc_b y j
          · rw [e] at hj2
            exact absurd hj2 (by simp)
          · rfl
        · show r + 1 ≤ gc_cnt y 64
          have h5 := gc_lt i2 (fun z => hf' z.symm)
          omega
      · intro m i x hi hx hv
        refine pk_le 64 i (fun z => absurd z (by omega)) (fun _ => gc_wh hi (fun hb => br_f (by decide) (gc_stX (ra := ra) (rb := rb) hA hB hi (hra i hi) (hrb i hi) hg hk (nm_r (e' := gc_img (y &&& (d ^^^ (-1))) (gc_T g k ra rb) y (i + 1)) ?_ (nm_r (nI_1 i) (hv _ rfl))))) (fun hb => br_t rfl (nm_r (nI_1 i) (hv x ?_))))
        · rw [hx, gc_img_t hb]
        · rw [hx, gc_img_f hb]
theorem gc_lpX {post : Int32 → St2 → Prop} {c A B : Nat} {g k : Int64} {ra rb : Nat → Int64} {a1 a2 a3 : Nat → Int64} (hc : c < 30) (hA : A < c) (hB : B < c) (hra : ∀ s, s < 64 → a1 (64 * A + s) = ra s) (hrb : ∀ s, s < 64 → a1 (64 * B + s) = rb s) (h2A : a2 A = -1) (h2B : a2 B = -1) (hg : a3 0 = g) (hk : a3 1 = k) (hp : ∀ a, gc_row a1 a c 64 (fun s => gc_M (gc_T g k ra rb) s &&& ((g ||| k) ^^^ (-1))) → post (nI c) (nI (c + 1), a, vp_updL a2 c (gc_it (fun x => gc_rd (gc_T g k ra rb) x 64) ((g ||| k) ^^^ (-1)) 64), a3)) : wpX_loop post (nI c, a1, a2, a3) (nI A) (nI B) := by
  unfold wpX_loop
  refine gc_good (by omega) (by omega) (fun _ => br_f (by decide) (gc_good (by omega) (by omega) (fun _ => br_f (by decide) (pk_eq c 30 (fun z => absurd z (by omega)) (fun _ => nm_r (e' := (g ||| k) ^^^ (-1)) ?_ ?_))) (fun z => absurd z (by omega)))) (fun z => absurd z (by omega))
  · rw [hg, hk]
  refine pk_loop (fun n i a => wX_loop_51 post (nI A) (nI B) ((g ||| k) ^^^ (-1)) (nI c) n (nI i) a a2 a3) (fun i a => gc_row a1 a c i (fun s => gc_M (gc_T g k ra rb) s &&& ((g ||| k) ^^^ (-1)))) 64 0 a1 (by omega) gc_row0 ?_ ?_
  · intro n a h
    exact pk_le 64 64 (fun _ => gc_lsX (ra := ra) (rb := rb) (by omega) (by omega) (fun s hs => by rw [gc_rowA h hA hs, hra s hs]) (fun s hs => by rw [gc_rowA h hB hs, hrb s hs]) h2A h2B hg hk ⟨vp_in_nI hc (by omega), nm_r (by rw [gc_cl2 hc]) (gc_close (hp a h))⟩) (fun z => absurd z (by omega))
  · intro n i a hi h hw
    exact pk_le 64 i (fun z => absurd z (by omega)) (fun _ => gc_rcX (ra := ra) (rb := rb) (by omega) (by omega) hi (fun s hs => by rw [gc_rowA h hA hs, hra s hs]) (fun s hs => by rw [gc_rowA h hB hs, hrb s hs]) hg hk ⟨gc_in hc hi, nm_e (nm_r (nI_1 i) (hw _ (gc_rows h (gc_ic hc hi) rfl)))⟩)
end
section
section
variable {post : Int64 → Prop} {c p : Nat} {cc : Int32} {q : Int64} {row a1 a2 a3 : Nat → Int64}
theorem gc_sureX (hp : p < c) (hc : c ≤ 30) (h : post (a2 p)) : wpX_sure post (nI c, a1, a2, a3) (nI p) := by
  unfold wpX_sure
  refine gc_good (by omega) (by omega) (fun _ => br_f (by decide) ⟨vp_in_nI (by omega) (by omega), ?_⟩) (fun z => absurd z (by omega))
  rw [gc_cl2 (by omega)]
  exact h
theorem gc_sureB (hp : c ≤ p) (hc : p < 2 ^ 31) (h : post 0) : wpX_sure post (nI c, a1, a2, a3) (nI p) := by
  unfold wpX_sure
  exact gc_good (by omega) (by omega) (fun z => absurd z (by omega)) (fun _ => br_t rfl h)
theorem gc_endsX {s : Nat} {v : Int64} (hp : p < c) (hc : c ≤ 30) (hs : s < 64) (hv : a1 (64 * p + s) = v) (h : post v) : wpX_ends post (nI c, a1, a2, a3) (nI p) (nI s) := by
  unfold wpX_ends
  refine gc_good (by omega) (by omega) (fun _ => br_f (by decide) (br_f (nI_pos (by omega)) (pk_le 64 s (fun z => absurd z (by omega)) (fun _ => br_f (by decide) ⟨gc_in (by omega) hs, ?_⟩)))) (fun z => absurd z (by omega))
  rw [gc_ic (by omega) hs, hv]
  exact h
theorem gc_endsB {s : Nat} (hp : p < c) (hc : c ≤ 30) (hs : 64 ≤ s) (hs2 : s < 2 ^ 31) (h : post 0) : wpX_ends post (nI c, a1, a2, a3) (nI p) (nI s) := by
  unfold wpX_ends
  exact gc_good (by omega) (by omega) (fun _ => br_f (by decide) (br_f (nI_pos (by omega)) (pk_le 64 s (fun _ => br_t rfl h) (fun z => absurd z (by omega))))) (fun z => absurd z (by omega))
theorem gc_wkX (hp : p < 30) (hr : ∀ s, s < 64 → a1 (64 * p + s) = row s) (h : post (gc_set (fun s => decide ((row s &&& (q ^^^ (-1))) = 0)) 64)) : wpX_weakOf post (cc, a1, a2, a3) (nI p) q := by
  unfold wpX_weakOf
  refine pk_loop (fun n i (s : Int64) => wX_weakOf_6 post (nI p) q cc a1 a2 a3 n s (nI i)) (fun i s => s = gc_set (fun s => decide ((row s &&& (q ^^^ (-1))) = 0)) i) 64 0 0 (by omega) rfl ?_ ?_
  · intro n s hs
    refine pk_le 64 64 (fun _ => ?_) (fun z => absurd z (by omega))
    rw [hs]
    exact h
  · intro n i s hi hs hw
    have ea : a1 ((64 * nI p) + nI i).toNatClampNeg = row i := by rw [gc_ic hp hi, hr i hi]
    refine pk_le 64 i (fun z => absurd z (by omega)) (fun _ => ⟨gc_in hp hi, br_c (fun z => br_f (by decide) (nm_r (e' := gc_set (fun s => decide ((row s &&& (q ^^^ (-1))) = 0)) (i + 1)) ?_ (nm_r (nI_1 i) (hw _ rfl)))) (fun z => br_t rfl (nm_r (nI_1 i) (hw s ?_)))⟩)
    · rw [ea] at z
      rw [hs]
      exact (gc_set_t (p := fun s => decide ((row s &&& (q ^^^ (-1))) = 0)) (decide_eq_true z)).symm
    · rw [ea] at z
      rw [hs]
      exact (gc_set_f (p := fun s => decide ((row s &&& (q ^^^ (-1))) = 0)) (decide_eq_false z)).symm
theorem gc_dmX (hp : p < c) (hc : c ≤ 30) (hr : ∀ s, s < 64 → a1 (64 * p + s) = row s) (h : post (a2 p &&& gc_set (fun s => decide ((row s &&& (q ^^^ (-1))) = 0)) 64)) : wpX_demand post (nI c, a1, a2, a3) (nI p) q := by
  unfold wpX_demand
  refine gc_good (by omega) (by omega) (fun _ => br_f (by decide) ⟨vp_in_nI (by omega) (by omega), gc_wkX (row := row) (by omega) hr ?_⟩) (fun z => absurd z (by omega))
  rw [gc_cl2 (by omega)]
  exact h
theorem gc_wdmX (hp : p < c) (hc : c ≤ 30) (hr : ∀ s, s < 64 → a1 (64 * p + s) = row s) (h : post (gc_set (fun s => decide ((row s &&& (q ^^^ (-1))) = 0)) 64)) : wpX_weakDemand post (nI c, a1, a2, a3) (nI p) q := by
  unfold wpX_weakDemand
  exact gc_good (by omega) (by omega) (fun _ => br_f (by decide) (gc_wkX (row := row) (by omega) hr h)) (fun z => absurd z (by omega))
theorem gc_imX (hp : p < c) (hc : c ≤ 30) (hr : ∀ s, s < 64 → a1 (64 * p + s) = row s) (h : post (gc_img q row 0 64)) : wpX_image post (nI c, a1, a2, a3) (nI p) q := by
  unfold wpX_image
  exact gc_good (by omega) (by omega) (fun _ => br_f (by decide) (gc_imgX (row := row) (by omega) hr rfl h)) (fun z => absurd z (by omega))
end
section
variable {post : Int32 → Prop} {c p : Nat} {row a1 a2 a3 : Nat → Int64}
theorem gc_wdX (hp : p < c) (hc : c ≤ 30) (hr : ∀ s, s < 64 → a1 (64 * p + s) = row s) (h : post (nI (gc_mx (fun s => gc_cnt (row s) 64) 64))) : wpX_widest post (nI c, a1, a2, a3) (nI p) := by
  unfold wpX_widest
  refine gc_good (by omega) (by omega) (fun _ => br_f (by decide) ?_) (fun z => absurd z (by omega))
  refine pk_loop (fun n i (s : Int32) => wX_widest_14 post (nI p) (nI c) a1 a2 a3 n s (nI i)) (fun i s => s = nI (gc_mx (fun s => gc_cnt (row s) 64) i)) 64 0 0 (by omega) rfl ?_ ?_
  · intro n s hs
    refine pk_le 64 64 (fun _ => ?_) (fun z => absurd z (by omega))
    rw [hs]
    exact h
  · intro n i s hi hs hw
    have ea : a1 ((64 * nI p) + nI i).toNatClampNeg = row i := by rw [gc_ic (by omega) hi, hr i hi]
    have b1 := gc_cle (row i) 64
    have b2 := gc_mx_le (f := fun s => gc_cnt (row s) 64) (b := 64) (fun s => gc_cle (row s) 64) i
    refine pk_le 64 i (fun z => absurd z (by omega)) (fun _ => ⟨gc_in (by omega) hi, ?_⟩)
    rw [ea]
    refine gc_onesX (pk_le (gc_cnt (row i) 64) (gc_mx (fun s => gc_cnt (row s) 64) i) (fun z => nm_r (nI_1 i) (hw _ ?_)) (fun z => nm_r (nI_1 i) (hw _ ?_)) rfl hs (by omega) (by omega))
    · rw [hs, gc_mx_t (f := fun s => gc_cnt (row s) 64) z]
    · rw [gc_mx_f (f := fun s => gc_cnt (row s) 64) (show ¬ gc_cnt (row i) 64 ≤ gc_mx (fun s => gc_cnt (row s) 64) i by omega)]
theorem gc_stlX (hp : p < c) (hc : c ≤ 30) (hr : ∀ s, s < 64 → a1 (64 * p + s) = row s) (h1 : (∀ s, s < 64 → gc_b (a2 p) s = true → (row s &&& (row s - 1)) = 0) → post 1) (h0 : ∀ s, s < 64 → gc_b (a2 p) s = true → ¬ (row s &&& (row s - 1)) = 0 → post 0) : wpX_settled post (nI c, a1, a2, a3) (nI p) := by
  unfold wpX_settled
  refine gc_good (by omega) (by omega) (fun _ => br_f (by decide) ?_) (fun z => absurd z (by omega))
  refine pk_loop (σ := Unit) (fun n i _ => wX_settled_12 post (nI p) (nI c) a1 a2 a3 n (nI i)) (fun i _ => ∀ s, s < i → gc_b (a2 p) s = true → (row s &&& (row s - 1)) = 0) 64 0 () (by omega) (fun s hs => absurd hs (by omega)) ?_ ?_
  · intro n _ h
    exact pk_le 64 64 (fun _ => h1 h) (fun z => absurd z (by omega))
  · intro n i _ hi h hw
    have h' : ∀ s, s < i → gc_b (a2 p) s = true → (row s &&& (row s - 1)) = 0 := h
    refine pk_le 64 i (fun z => absurd z (by omega)) (fun _ => ⟨gc_in (by omega) hi, nm_r (e' := row i) ?_ ⟨vp_in_nI (by omega) (by omega), ?_⟩⟩)
    · rw [gc_ic (by omega) hi, hr i hi]
    rw [gc_cl2 (show p < 30 by omega)]
    refine gc_wh hi (fun hb => br_f (by decide) (br_c (fun z => nm_r (nI_1 i) (hw () ?_)) (fun z => h0 i hi hb z))) (fun hb => br_t rfl (nm_r (nI_1 i) (hw () ?_)))
    · intro s hs hb2
      by_cases e : s = i
      · rw [e]
        exact z
      · exact h' s (by omega) hb2
    · intro s hs hb2
      by_cases e : s = i
      · rw [e, hb] at hb2
        exact absurd hb2 (by decide)
      · exact h' s (by omega) hb2
theorem gc_rfX (hp : p < c) (hc : c ≤ 30) (h : post 1) : wpX_refines post (nI c, a1, a2, a3) (nI p) (nI p) := by
  unfold wpX_refines
  refine gc_good (by omega) (by omega) (fun _ => br_f (by decide) (gc_good (by omega) (by omega) (fun _ => br_f (by decide) ?_) (fun z => absurd z (by omega)))) (fun z => absurd z (by omega))
  refine pk_loop (σ := Unit) (fun n i _ => wX_refines_20 post (nI p) (nI p) (nI c) a1 a2 a3 n (nI i)) (fun _ _ => True) 64 0 () (by omega) trivial ?_ ?_
  · intro n _ _
    exact pk_le 64 64 (fun _ => h) (fun z => absurd z (by omega))
  · intro n i _ hi _ hw
    refine pk_le 64 i (fun z => absurd z (by omega)) (fun _ => ⟨vp_in_nI (by omega) (by omega), gc_wh hi (fun hb => br_f (by decide) ⟨gc_in (by omega) hi, gc_in (by omega) hi, nm_r (e' := 0) ((gc_ss _ _).mpr (gc_le_r _)) ⟨vp_in_nI (by omega) (by omega), gc_wh hi (fun _ => br_f (by decide) (br_t rfl (nm_r (nI_1 i) (hw () trivial)))) (fun hb2 => ?_)⟩⟩) (fun _ => br_t rfl (nm_r (nI_1 i) (hw () trivial)))⟩)
    rw [hb] at hb2
    exact absurd hb2 (by decide)
theorem gc_rfB {b : Nat} (hp : c ≤ p) (hp2 : p < 2 ^ 31) (h : post (-1)) : wpX_refines post (nI c, a1, a2, a3) (nI p) (nI b) := by
  unfold wpX_refines
  exact gc_good (by omega) (by omega) (fun z => absurd z (by omega)) (fun _ => br_t rfl h)
end
theorem gc_opX {post : Int32 → St2 → Prop} {cc : Int32} {g : Int64} {a1 a2 a3 : Nat → Int64} (hg : a3 0 = g) (h : post (nI (64 - gc_cnt g 64)) (cc, a1, a2, vp_updL a3 0 (g ^^^ (-1)))) : wpX_oppose post (cc, a1, a2, a3) 0 := by
  have v0 : vp_in 0 2 := vp_in_nI (n := 0) (by omega) (by omega)
  unfold wpX_oppose
  refine br_t rfl ?_
  unfold wX_oppose_9
  refine ⟨v0, v0, nm_r (e' := vp_updL a3 0 (g ^^^ (-1))) ?_ ⟨v0, ?_⟩⟩
  · rw [sb_cl0, hg]
  · rw [sb_cl0, pk_uLs]
    refine gc_onesX ?_
    have e := gc_cnot g 64 (Nat.le_refl 64)
    rw [show gc_cnt (g ^^^ (-1)) 64 = 64 - gc_cnt g 64 by omega]
    exact h
end
section
/-- what a step of the law can end in -/
def gc_S (g k : Int64) (F H : Nat) : Nat → Int64 := gc_T g k (fun i => gc_1 (gc_led F i)) (fun i => gc_1 (gc_led H i))
/-- what stands behind the five programs -/
def gc_ok (g k : Int64) (F H : Nat) (a1 a2 a3 : Nat → Int64) : Prop :=
  (∀ s, s < 64 → a1 (64 * 2 + s) = gc_1 (gc_led H (gc_led F s))) ∧ (∀ s, s < 64 → a1 (64 * 3 + s) = gc_S g k F H s) ∧ (∀ s, s < 64 → a1 (64 * 4 + s) = gc_M (gc_S g k F H) s &&& ((g ||| k) ^^^ (-1))) ∧
  a2 2 = -1 ∧ a2 3 = g ||| k ∧ a2 4 = gc_it (fun x => gc_rd (gc_S g k F H) x 64) ((g ||| k) ^^^ (-1)) 64 ∧ a3 0 = g
section
variable {post : Int32 → St0 → Prop} {mc ms kc ks : Nat} {a1 a2 a3 : Nat → Int64}
theorem gc_l712 {z0 z1 : Int32} (hz : z1 = z0) (hp : post 1 ()) : wL_lawOf_712 post mc ms z0 z1 kc ks (nI 5) a1 a2 a3 := by
  unfold wL_lawOf_712
  refine br_t hz ?_
  unfold wpX_programs
  exact br_t rfl (gc_rfX (p := 2) (by omega) (by omega) (br_t rfl (gc_rfB (p := 5) (b := 0) (by omega) (by omega) (br_t rfl (gc_endsB (p := 0) (s := 64) (by omega) (by omega) (by omega) (by omega) (br_t rfl (gc_sureB (p := 5) (by omega) (by omega) (br_t rfl hp))))))))
theorem gc_l574 {J429 J439 : Int64 → Int64 → Int32 → Int32 → Prop} {x5 x6 x25 : Int32} {x9 x11 x18 x20 x22 x28 : Int64} {m j : Nat} {cc : Int32} (hm : m ≤ 64) (h : J439 x20 x22 (nI (if gc_cnt x28 64 ≤ m then m else gc_cnt x28 64)) (nI (j + 1))) : wL_lawOf_574 post mc ms J429 J439 x5 x6 x9 x11 x18 x20 x22 (nI m) x25 (nI j) x28 kc ks cc a1 a2 a3 := by
  have b1 := gc_cle x28 64
  unfold wL_lawOf_574
  refine gc_onesL (pk_le (gc_cnt x28 64) m (fun z => nm_r (nI_1 j) ?_) (fun z => gc_onesL (nm_r (nI_1 j) ?_)) rfl rfl (by omega) (by omega))
  · rw [if_pos z] at h
    exact h
  · rw [if_neg (by omega)] at h
    exact h
theorem gc_l555 {J429 J439 : Int64 → Int64 → Int32 → Int32 → Prop} {x5 x6 x25 : Int32} {x9 x11 q x20 x22 x28 : Int64} {m j s : Nat} {cc : Int32} (hm : m ≤ 64) (hs : s < 64) (h : J439 x20 (if gc_b q s then x22 ||| x28 else x22) (nI (if gc_cnt x28 64 ≤ m then m else gc_cnt x28 64)) (nI (j + 1))) : wL_lawOf_555 post mc ms J429 J439 x5 x6 x9 x11 q x20 x22 (nI m) x25 (nI j) (nI s) x28 kc ks cc a1 a2 a3 := by
  unfold wL_lawOf_555
  refine br_c (fun z => nm_e (gc_l574 hm ?_)) (fun z => gc_l574 hm ?_)
  · rw [(gc_hL q hs).mp z] at h
    exact h
  · rw [gc_nf (fun t => z ((gc_hL q hs).mpr t))] at h
    exact h
theorem gc_e88 (i j : Nat) : (8 * nI i) + nI j = nI (8 * i + j) := by rw [show (8 : Int32) = nI 8 from rfl, pk_mul, nI_add]
theorem gc_l429 {F H : Nat} {g k q : Int64} (hF : F < 1024) (hH : H < 1024) (ok : gc_ok g k F H a1 a2 a3) (hp : post 1 ()) : ∃ n, wL_lawOf_429 post mc ms (nI F) (nI H) g k q kc ks (nI 5) a1 a2 a3 n 0 0 0 0 := by
  obtain ⟨r2, r3, r4, s2, s3, s4, hg⟩ := ok
  have T0 : ∀ s, gc_b (g ||| k) s = false → gc_S g k F H s = 0 := fun s hs => gc_T0 hs
  have mx64 : ∀ n, gc_mx (fun s => gc_cnt (gc_S g k F H s) 64) n ≤ 64 := fun n => gc_mx_le (fun s => gc_cle _ 64) n
  have two : ∀ s, s < 64 → ((gc_S g k F H s &&& (gc_S g k F H s - 1)) = 0 ↔ gc_cnt (gc_S g k F H s) 64 < 2) := fun s hs => gc_two g k (gc_led F) (gc_led H) s (gc_l64 F hs) (gc_l64 H hs) _ rfl
  refine pk_loop (fun n i (s : Int64 × Int64 × Int32) => wL_lawOf_429 post mc ms (nI F) (nI H) g k q kc ks (nI 5) a1 a2 a3 n s.1 s.2.1 s.2.2 (nI i)) (fun i s => s.1 = gc_set (fun s => gc_b (g ||| k) s && decide ((gc_S g k F H s &&& (q ^^^ (-1))) = 0)) (8 * i) ∧ s.2.1 = gc_img q (gc_S g k F H) 0 (8 * i) ∧ s.2.2 = nI (gc_mx (fun s => gc_cnt (gc_S g k F H s) 64) (8 * i))) 8 0 (0, 0, 0) (by omega) ⟨rfl, rfl, rfl⟩ ?_ ?_
  · intro n s h
    obtain ⟨x20, x22, x24⟩ := s
    have e1 : x20 = gc_set (fun s => gc_b (g ||| k) s && decide ((gc_S g k F H s &&& (q ^^^ (-1))) = 0)) 64 := h.1
    have e2 : x22 = gc_img q (gc_S g k F H) 0 64 := h.2.1
    have e3 : x24 = nI (gc_mx (fun s => gc_cnt (gc_S g k F H s) 64) 64) := h.2.2
    have m64 := mx64 64
    refine pk_le 8 8 (fun _ => ?_) (fun z => absurd z (by omega))
    refine gc_dmX (p := 3) (row := gc_S g k F H) (by omega) (by omega) r3 (br_t ?_ ?_)
    · show a2 3 &&& _ = x20
      rw [s3, e1]
      exact gc_dem _ _ _
    refine gc_wdmX (p := 3) (row := gc_S g k F H) (by omega) (by omega) r3 (br_t ?_ ?_)
    · show _ = x20 ||| _
      rw [e1]
      exact gc_wk _ _ _ T0
    refine gc_imX (p := 3) (row := gc_S g k F H) (by omega) (by omega) r3 (br_t e2.symm ?_)
    refine gc_wdX (p := 3) (row := gc_S g k F H) (by omega) (by omega) r3 (br_t e3.symm ?_)
    refine gc_opX hg (gc_onesL (br_t ?_ ?_))
    · have b := gc_cle g 64
      rw [show (64 : Int32) = nI 64 from rfl, pk_sub (by omega)]
    refine gc_stlX (p := 2) (row := fun s => gc_1 (gc_led H (gc_led F s))) (by omega) (by omega) r2 (fun _ => br_t rfl ?_) (fun s hs _ hn => absurd (gc_p1 _ (gc_l64 H (gc_l64 F hs))) hn)
    refine gc_stlX (p := 3) (row := gc_S g k F H) (by omega) (by omega) r3 (fun h1 => ?_) (fun s hs hb hn => ?_)
    · refine pk_le 2 (gc_mx (fun s => gc_cnt (gc_S g k F H s) 64) 64) (fun z => ?_) (fun z => gc_l712 rfl hp) rfl e3 (by omega) (by omega)
      obtain ⟨s, hs, hm⟩ := gc_mx_ex (f := fun s => gc_cnt (gc_S g k F H s) 64) 64 (by omega)
      have hm' : gc_cnt (gc_S g k F H s) 64 = gc_mx (fun s => gc_cnt (gc_S g k F H s) 64) 64 := hm
      cases e : gc_b (g ||| k) s
      · rw [T0 s e, gc_c0] at hm'
        exact absurd hm' (by omega)
      · have t := (two s hs).mp (h1 s hs (by rw [s3]; exact e))
        exact absurd t (by omega)
    · have t : ¬ gc_cnt (gc_S g k F H s) 64 < 2 := fun z => hn ((two s hs).mpr z)
      have t2 : gc_cnt (gc_S g k F H s) 64 ≤ gc_mx (fun s => gc_cnt (gc_S g k F H s) 64) 64 := gc_mx_ge (f := fun s => gc_cnt (gc_S g k F H s) 64) 64 s hs
      exact pk_le 2 (gc_mx (fun s => gc_cnt (gc_S g k F H s) 64) 64) (fun z => gc_l712 rfl hp) (fun z => absurd z (by omega)) rfl e3 (by omega) (by omega)
  · intro n i s hi h hw
    refine pk_le 8 i (fun z => absurd z (by omega)) (fun _ => ?_)
    refine pk_loop (fun m j (u : Int64 × Int64 × Int32) => wL_lawOf_439 post mc ms (wL_lawOf_429 post mc ms (nI F) (nI H) g k q kc ks (nI 5) a1 a2 a3 n) (nI F) (nI H) g k q (nI i) kc ks (nI 5) a1 a2 a3 m u.1 u.2.1 u.2.2 (nI j)) (fun j u => u.1 = gc_set (fun s => gc_b (g ||| k) s && decide ((gc_S g k F H s &&& (q ^^^ (-1))) = 0)) (8 * i + j) ∧ u.2.1 = gc_img q (gc_S g k F H) 0 (8 * i + j) ∧ u.2.2 = nI (gc_mx (fun s => gc_cnt (gc_S g k F H s) 64) (8 * i + j))) 8 0 s (by omega) h ?_ ?_
    · intro m u hu
      exact pk_le 8 8 (fun _ => nm_r (nI_1 i) (hw u hu)) (fun z => absurd z (by omega))
    · intro m j u hj hu hv
      obtain ⟨x20, x22, x24⟩ := u
      have e1 : x20 = gc_set (fun s => gc_b (g ||| k) s && decide ((gc_S g k F H s &&& (q ^^^ (-1))) = 0)) (8 * i + j) := hu.1
      have e2 : x22 = gc_img q (gc_S g k F H) 0 (8 * i + j) := hu.2.1
      have e3 : x24 = nI (gc_mx (fun s => gc_cnt (gc_S g k F H s) 64) (8 * i + j)) := hu.2.2
      have hs : 8 * i + j < 64 := by omega
      have hl := gc_l64 F hs
      have K : ∀ y : Int64, y = gc_set (fun s => gc_b (g ||| k) s && decide ((gc_S g k F H s &&& (q ^^^ (-1))) = 0)) (8 * i + j + 1) → wL_lawOf_555 post mc ms (wL_lawOf_429 post mc ms (nI F) (nI H) g k q kc ks (nI 5) a1 a2 a3 n) (wL_lawOf_439 post mc ms (wL_lawOf_429 post mc ms (nI F) (nI H) g k q kc ks (nI 5) a1 a2 a3 n) (nI F) (nI H) g k q (nI i) kc ks (nI 5) a1 a2 a3 m) (nI F) (nI H) g k q y x22 x24 (nI i) (nI j) (nI (8 * i + j)) (gc_S g k F H (8 * i + j)) kc ks (nI 5) a1 a2 a3 := by
        intro y hy
        rw [e3]
        refine gc_l555 (mx64 _) hs (hv (_, _, _) ⟨hy, ?_, rfl⟩)
        show (if gc_b q (8 * i + j) then x22 ||| gc_S g k F H (8 * i + j) else x22) = _
        rw [e2]
        rfl
      refine pk_le 8 j (fun z => absurd z (by omega)) (fun _ => nm_r (gc_e88 i j) (gc_stL hF hH hs (gc_ledL hF hs (gc_endsX (p := 3) (by omega) (by omega) hs (r3 _ hs) (br_t rfl (gc_endsX (p := 2) (by omega) (by omega) hs (r2 _ hs) (gc_ledL hH hl (br_t rfl ?_))))))))
      refine br_c (fun z => br_c (fun z2 => nm_e (K _ ?_)) (fun z2 => K _ ?_)) (fun z => K _ ?_)
      · have zb := (gc_hL (g ||| k) hs).mp z
        rw [e1]
        refine (gc_set_t (p := fun s => gc_b (g ||| k) s && decide ((gc_S g k F H s &&& (q ^^^ (-1))) = 0)) ?_).symm
        show (gc_b (g ||| k) (8 * i + j) && decide ((gc_S g k F H (8 * i + j) &&& (q ^^^ (-1))) = 0)) = true
        rw [zb, decide_eq_true (show (gc_S g k F H (8 * i + j) &&& (q ^^^ (-1))) = 0 from z2)]
        rfl
      · rw [e1]
        refine (gc_set_f (p := fun s => gc_b (g ||| k) s && decide ((gc_S g k F H s &&& (q ^^^ (-1))) = 0)) ?_).symm
        show (gc_b (g ||| k) (8 * i + j) && decide ((gc_S g k F H (8 * i + j) &&& (q ^^^ (-1))) = 0)) = false
        rw [decide_eq_false (show ¬ (gc_S g k F H (8 * i + j) &&& (q ^^^ (-1))) = 0 from z2), Bool.and_false]
      · rw [e1]
        refine (gc_set_f (p := fun s => gc_b (g ||| k) s && decide ((gc_S g k F H s &&& (q ^^^ (-1))) = 0)) ?_).symm
        show (gc_b (g ||| k) (8 * i + j) && decide ((gc_S g k F H (8 * i + j) &&& (q ^^^ (-1))) = 0)) = false
        rw [gc_nf (fun t => z ((gc_hL (g ||| k) hs).mpr t)), Bool.false_and]
theorem gc_l306 {J236 J246 : Int64 → Int64 → Int32 → Prop} {x0 x3 x5 x6 x15 x18 cc : Int32} {x9 x11 x13 x16 x20 : Int64} {i : Nat} (hi : i < 64) (h : J246 x13 (if gc_b x16 i then x16 ||| x20 else x16) (nI (i + 1))) : wL_lawOf_306 post mc ms J236 J246 x0 x3 x5 x6 x9 x11 x13 x15 x16 x18 (nI i) x20 kc ks cc a1 a2 a3 := by
  unfold wL_lawOf_306
  refine br_c (fun z => nm_e (nm_r (nI_1 i) ?_)) (fun z => nm_r (nI_1 i) ?_)
  · rw [(gc_hL x16 hi).mp z] at h
    exact h
  · rw [gc_nf (fun t => z ((gc_hL x16 hi).mpr t))] at h
    exact h
theorem gc_l236 {F H f : Nat} {g k : Int64} {x0 x3 : Int32} (hF : F < 1024) (hH : H < 1024) (hf : f < 64) (ok : gc_ok g k F H a1 a2 a3) (hp : post 1 ()) : ∃ n, wL_lawOf_236 post mc ms x0 x3 (nI F) (nI H) g k (nI f) kc ks (nI 5) a1 a2 a3 n ((g ||| k) ^^^ (-1)) (gc_1 f) 0 := by
  have hR : ∀ x, gc_le x ((fun x => gc_rd (gc_S g k F H) x 64) x) := fun x => gc_rd_le _ x 64
  refine pk_loop (fun n r (s : Int64 × Int64) => wL_lawOf_236 post mc ms x0 x3 (nI F) (nI H) g k (nI f) kc ks (nI 5) a1 a2 a3 n s.1 s.2 (nI r)) (fun r s => s.1 = gc_it (fun x => gc_rd (gc_S g k F H) x 64) ((g ||| k) ^^^ (-1)) r ∧ s.2 = gc_it (fun x => gc_md (gc_S g k F H) x 64) (gc_1 f) r) 64 0 ((g ||| k) ^^^ (-1), gc_1 f) (by omega) ⟨rfl, rfl⟩ ?_ ?_
  · intro n s h
    obtain ⟨x13, x16⟩ := s
    have e1 : x13 = gc_it (fun x => gc_rd (gc_S g k F H) x 64) ((g ||| k) ^^^ (-1)) 64 := h.1
    have e2 : x16 = gc_M (gc_S g k F H) f := h.2
    have ok' := ok
    obtain ⟨r2, r3, r4, s2, s3, s4, hg⟩ := ok
    refine pk_le 64 64 (fun _ => ?_) (fun z => absurd z (by omega))
    refine gc_sureX (p := 4) (by omega) (by omega) (br_t ?_ (gc_sureX (p := 3) (by omega) (by omega) (br_t s3 (gc_sureX (p := 2) (by omega) (by omega) (br_t s2 (gc_endsX (p := 4) (by omega) (by omega) hf (r4 f hf) (br_t ?_ (nm_e (gc_l429 hF hH ok' hp)))))))))
    · show a2 4 = x13
      rw [s4, e1]
    · show _ = x16 &&& _
      rw [e2]
  · intro n r s hr h hw
    obtain ⟨y, w⟩ := s
    have e1 : y = gc_it (fun x => gc_rd (gc_S g k F H) x 64) ((g ||| k) ^^^ (-1)) r := h.1
    have e2 : w = gc_it (fun x => gc_md (gc_S g k F H) x 64) (gc_1 f) r := h.2
    have e4 : gc_le ((g ||| k) ^^^ (-1)) y := by
      rw [e1]
      exact gc_it_le hR _ r
    refine pk_le 64 r (fun z => absurd z (by omega)) (fun _ => ?_)
    refine pk_loop (fun m i (u : Int64 × Int64) => wL_lawOf_246 post mc ms (wL_lawOf_236 post mc ms x0 x3 (nI F) (nI H) g k (nI f) kc ks (nI 5) a1 a2 a3 n) x0 x3 (nI F) (nI H) g k (nI f) (nI r) kc ks (nI 5) a1 a2 a3 m u.1 u.2 (nI i)) (fun i u => u.1 = gc_rd (gc_S g k F H) y i ∧ u.2 = gc_md (gc_S g k F H) w i) 64 0 (y, w) (by omega) ⟨rfl, rfl⟩ ?_ ?_
    · intro m u hu
      obtain ⟨a, b⟩ := u
      have u1 : a = gc_rd (gc_S g k F H) y 64 := hu.1
      have u2 : b = gc_md (gc_S g k F H) w 64 := hu.2
      refine pk_le 64 64 (fun _ => nm_r (nI_1 r) (hw (a, b) ⟨?_, ?_⟩)) (fun z => absurd z (by omega))
      · show a = gc_rd (gc_S g k F H) (gc_it (fun x => gc_rd (gc_S g k F H) x 64) ((g ||| k) ^^^ (-1)) r) 64
        rw [u1, e1]
      · show b = gc_md (gc_S g k F H) (gc_it (fun x => gc_md (gc_S g k F H) x 64) (gc_1 f) r) 64
        rw [u2, e2]
    · intro m i u hi hu hv
      obtain ⟨a, b⟩ := u
      have u1 : a = gc_rd (gc_S g k F H) y i := hu.1
      have u2 : b = gc_md (gc_S g k F H) w i := hu.2
      have K : ∀ x : Int64, x = gc_rd (gc_S g k F H) y (i + 1) → wL_lawOf_306 post mc ms (wL_lawOf_236 post mc ms x0 x3 (nI F) (nI H) g k (nI f) kc ks (nI 5) a1 a2 a3 n) (wL_lawOf_246 post mc ms (wL_lawOf_236 post mc ms x0 x3 (nI F) (nI H) g k (nI f) kc ks (nI 5) a1 a2 a3 n) x0 x3 (nI F) (nI H) g k (nI f) (nI r) kc ks (nI 5) a1 a2 a3 m) x0 x3 (nI F) (nI H) g k x (nI f) b (nI r) (nI i) (gc_S g k F H i) kc ks (nI 5) a1 a2 a3 := by
        intro x hx
        refine gc_l306 hi (hv (_, _) ⟨hx, ?_⟩)
        show (if gc_b b i then b ||| gc_S g k F H i else b) = _
        rw [u2]
        rfl
      refine pk_le 64 i (fun z => absurd z (by omega)) (fun _ => gc_stL hF hH hi (br_c (fun z => br_c (fun z2 => nm_e (K _ ?_)) (fun z2 => K _ ?_)) (fun z => K _ ?_)))
      · have z2' : (gc_S g k F H i &&& (a ^^^ (-1))) = 0 := z2
        rw [u1] at z2'
        rw [gc_rd_t z2', ← u1]
        rfl
      · have z2' : ¬ (gc_S g k F H i &&& (a ^^^ (-1))) = 0 := z2
        rw [u1] at z2'
        rw [gc_rd_f z2', ← u1]
      · have zb := gc_nf (fun t => z ((gc_hL (g ||| k) hi).mpr t))
        have hb : gc_b y i = true := e4 i hi (by rw [gc_not _ hi, zb]; rfl)
        rw [gc_rd_h hi (gc_rd_le _ y i i hi hb), ← u1]
end
end
section
theorem gc_top {post : Int32 → St0 → Prop} (p0 p1 p2 p3 : Int32) (hp : post 1 ()) : wpL_lawOf post 1962 31392 () p0 p1 p2 p3 := by
  obtain ⟨F, hF, eF⟩ := pk_andE p0 (m := 1023) 10 (by decide)
  obtain ⟨H, hH, eH⟩ := pk_andE p1 (m := 1023) 10 (by decide)
  obtain ⟨U, hU, eU⟩ := pk_andE (p0 >>> ((10 : Int32) &&& 31)) (m := 511) 9 (by decide)
  obtain ⟨V, hV, eV⟩ := pk_andE (p1 >>> ((10 : Int32) &&& 31)) (m := 511) 9 (by decide)
  obtain ⟨b, hb, eb⟩ := pk_andE p2 (m := 15) 4 (by decide)
  obtain ⟨d, hd, ed⟩ := pk_andE (p2 >>> ((4 : Int32) &&& 31)) (m := 15) 4 (by decide)
  obtain ⟨f, hf, ef⟩ := pk_andE p3 (m := 63) 6 (by decide)
  have eb2 : (p2 &&& 15) - (p2 &&& 15) / 9 * 9 = nI (b % 9) := by
    rw [eb, show (9 : Int32) = nI 9 from rfl]
    exact pk_rem (by omega) (by omega) (by omega)
  have ed2 : ((p2 >>> ((4 : Int32) &&& 31)) &&& 15) - ((p2 >>> ((4 : Int32) &&& 31)) &&& 15) / 9 * 9 = nI (d % 9) := by
    rw [ed, show (9 : Int32) = nI 9 from rfl]
    exact pk_rem (by omega) (by omega) (by omega)
  have n9 : ¬ (9 : Int32) = 0 := by decide
  have hF' : F < 1024 := hF
  have hH' : H < 1024 := hH
  have hU' : U < 512 := hU
  have hV' : V < 512 := hV
  have hf' : f < 64 := hf
  unfold wpL_lawOf
  refine ⟨by omega, by omega, 3, 1952, by omega, by omega, ?_⟩
  unfold wpX_init
  refine ⟨by omega, by omega, by omega, by omega, by omega, by omega, ?_⟩
  refine nm_r eF (nm_r eH (nm_r eU (nm_r eV ?_)))
  rw [eb2, ed2]
  refine gc_asgX (c := 0) (by omega) hF' (fun x1 hx1 => br_t rfl ?_)
  refine gc_asgX (c := 1) (by omega) hH' (fun x2 hx2 => br_t rfl ⟨n9, ?_⟩)
  refine gc_below (by omega) (by omega) ⟨n9, gc_below (by omega) (by omega) ⟨n9, ?_⟩⟩
  refine gc_cmpX (w := 0) (by omega) hU' (by omega) (gc_onesL (br_t rfl ⟨n9, ?_⟩))
  refine gc_cmpX (w := 1) (by omega) hV' (by omega) (gc_onesL (br_t rfl ?_))
  have ra1 : ∀ s, s < 64 → x2 (64 * 0 + s) = gc_1 (gc_led F s) := fun s hs => by rw [gc_rowA hx2 (by omega) hs, hx1.2 s hs]
  have rb1 : ∀ s, s < 64 → x2 (64 * 1 + s) = gc_1 (gc_led H s) := hx2.2
  refine gc_seqX (c := 2) (A := 0) (B := 1) (la := gc_led F) (rb := fun s => gc_1 (gc_led H s)) (by omega) (by omega) (by omega) (fun s hs => gc_l64 F hs) ra1 rb1 rfl rfl (fun x3 hx3 => br_t rfl ?_)
  have ra2 : ∀ s, s < 64 → x3 (64 * 0 + s) = gc_1 (gc_led F s) := fun s hs => by rw [gc_rowA hx3 (by omega) hs, ra1 s hs]
  have rb2 : ∀ s, s < 64 → x3 (64 * 1 + s) = gc_1 (gc_led H s) := fun s hs => by rw [gc_rowA hx3 (by omega) hs, rb1 s hs]
  refine gc_chX (c := 3) (A := 0) (B := 1) (ra := fun s => gc_1 (gc_led F s)) (rb := fun s => gc_1 (gc_led H s)) (by omega) (by omega) (by omega) ra2 rb2 rfl rfl rfl rfl (fun x4 hx4 => br_t rfl ?_)
  have ra3 : ∀ s, s < 64 → x4 (64 * 0 + s) = gc_1 (gc_led F s) := fun s hs => by rw [gc_rowA hx4 (by omega) hs, ra2 s hs]
  have rb3 : ∀ s, s < 64 → x4 (64 * 1 + s) = gc_1 (gc_led H s) := fun s hs => by rw [gc_rowA hx4 (by omega) hs, rb2 s hs]
  refine gc_lpX (c := 4) (A := 0) (B := 1) (ra := fun s => gc_1 (gc_led F s)) (rb := fun s => gc_1 (gc_led H s)) (by omega) (by omega) (by omega) ra3 rb3 rfl rfl rfl rfl (fun x5 hx5 => br_t rfl ?_)
  refine gc_chB (c := 5) (A := 0) (B := 5) (by omega) (by omega) (by omega) (by omega) (br_t rfl ?_)
  refine nm_e (nm_r ef (nm_r (e' := gc_1 f) rfl ?_))
  refine gc_l236 hF' hH' hf' ⟨fun s hs => ?_, fun s hs => ?_, hx5.2, rfl, rfl, rfl, rfl⟩ hp
  · rw [gc_rowA hx5 (by omega) hs, gc_rowA hx4 (by omega) hs]
    exact hx3.2 s hs
  · rw [gc_rowA hx5 (by omega) hs]
    exact hx4.2 s hs
theorem gc_cell {post : Int32 → Prop} {L : Nat} {xs : Nat → Int32} (hL : L ≤ 4) (i : Nat) (hi : i < 4) (h : ∀ x, post x) : wpL_cellAt post L xs () (nI i) := by
  unfold wpL_cellAt
  exact pk_le L i (fun _ => h _) (fun z => ⟨vp_in_nI z (by omega), h _⟩) rfl rfl (by omega) (by omega)
theorem i_vc (xs : Nat → Int32) (L : Nat) (hL : L ≤ 4) : wpL_law (fun r => r = 1) L xs := by
  unfold wpL_law
  refine gc_cell hL 0 (by omega) (fun r1 => gc_cell hL 1 (by omega) (fun r2 => gc_cell hL 2 (by omega) (fun r3 => gc_cell hL 3 (by omega) (fun r4 => ⟨1962, 31392, by omega, by omega, ?_⟩))))
  exact gc_top r1 r2 r3 r4 rfl
end
