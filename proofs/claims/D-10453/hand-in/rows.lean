section
/-! ===== Int32 by its bits (the first family of kit/laws/BITS, renamed), card sets as masks ===== -/
def ob_t (x : Int32) (i : Nat) : Bool := x.toBitVec.getLsbD i
theorem ob_ext {x y : Int32} (h : ∀ i, i < 32 → ob_t x i = ob_t y i) : x = y := Int32.toBitVec_inj.mp (BitVec.eq_of_getLsbD_eq (fun i hi => h i hi))
theorem ob_or (x y : Int32) (i : Nat) : ob_t (x ||| y) i = (ob_t x i || ob_t y i) := by unfold ob_t; rw [Int32.toBitVec_or, BitVec.getLsbD_or]
theorem ob_and (x y : Int32) (i : Nat) : ob_t (x &&& y) i = (ob_t x i && ob_t y i) := by unfold ob_t; rw [Int32.toBitVec_and, BitVec.getLsbD_and]
theorem ob_xor (x y : Int32) (i : Nat) : ob_t (x ^^^ y) i = (ob_t x i ^^ ob_t y i) := by unfold ob_t; rw [Int32.toBitVec_xor, BitVec.getLsbD_xor]
theorem ob_m1 : ∀ i, i < 32 → ob_t (-1) i = true := by decide +kernel
theorem ob_sl : ∀ n, n < 32 → ((nI n &&& 31).toBitVec.smod 32).toNat = n := by decide +kernel
theorem ob_one : ∀ c, c < 32 → ∀ i, i < 32 → ob_t ((1 : Int32) <<< (nI c &&& 31)) i = decide (i = c) := by decide +kernel
theorem ob_nI (m i : Nat) : ob_t (nI m) i = (decide (i < 32) && m.testBit i) := by
  show (BitVec.ofNat 32 m).getLsbD i = _
  rw [BitVec.getLsbD_ofNat]
/-- the mask of a set of cards below n -/
def ot_mk (f : Nat → Bool) : Nat → Nat
  | 0 => 0
  | n + 1 => ot_mk f n ||| (if f n = true then 2 ^ n else 0)
abbrev ot_m (f : Nat → Bool) : Nat := ot_mk f 12
theorem ot_mk_tb (f : Nat → Bool) (n c : Nat) : (ot_mk f n).testBit c = (decide (c < n) && f c) := by
  induction n with
  | zero => simp [ot_mk]
  | succ n ih =>
    rw [ot_mk, Nat.testBit_or, ih]
    by_cases e : c = n
    · subst e
      by_cases hf : f c = true
      · simp [hf, Nat.testBit_two_pow]
      · simp [hf]
    · have e1 : (decide (c < n + 1)) = decide (c < n) := decide_eq_decide.mpr (by omega)
      rw [e1]
      by_cases hf : f n = true
      · rw [if_pos hf, Nat.testBit_two_pow, decide_eq_false (show ¬ n = c by omega), Bool.or_false]
      · rw [if_neg hf, Nat.zero_testBit, Bool.or_false]
theorem ot_m_tb (f : Nat → Bool) {c : Nat} (hc : c < 12) : (ot_m f).testBit c = f c := by
  rw [ot_mk_tb, decide_eq_true hc, Bool.true_and]
theorem ot_m_lt (f : Nat → Bool) : ot_m f < 4096 := by
  have h := Nat.lt_pow_two_of_testBit (n := 12) (ot_m f) (fun i hi => by rw [ot_mk_tb, decide_eq_false (show ¬ i < 12 by omega), Bool.false_and])
  omega
theorem ot_m_eq {m : Nat} {f : Nat → Bool} (hm : m < 4096) (h : ∀ c, c < 12 → m.testBit c = f c) : m = ot_m f := by
  apply Nat.eq_of_testBit_eq
  intro i
  rw [ot_mk_tb]
  rcases Nat.lt_or_ge i 12 with hi | hi
  · rw [h i hi, decide_eq_true hi, Bool.true_and]
  · rw [decide_eq_false (show ¬ i < 12 by omega), Bool.false_and]
    apply Nat.testBit_lt_two_pow
    have : 2 ^ 12 ≤ 2 ^ i := Nat.pow_le_pow_right (by omega) hi
    omega
theorem ot_m_congr {f g : Nat → Bool} (h : ∀ c, c < 12 → f c = g c) : ot_m f = ot_m g :=
  ot_m_eq (ot_m_lt f) (fun c hc => by rw [ot_m_tb f hc, h c hc])
theorem ot_m_inj {f g : Nat → Bool} (h : ot_m f = ot_m g) {c : Nat} (hc : c < 12) : f c = g c := by
  rw [← ot_m_tb f hc, h, ot_m_tb g hc]
theorem ob_mk (f : Nat → Bool) {i : Nat} (hi : i < 32) : ob_t (nI (ot_m f)) i = (decide (i < 12) && f i) := by
  rw [ob_nI, ot_mk_tb, decide_eq_true hi, Bool.true_and]
theorem ob_nz : nI 0 = 0 := rfl
theorem ot_m_0 {f : Nat → Bool} (h : ∀ c, c < 12 → f c = false) : ot_m f = 0 := by
  apply Nat.eq_of_testBit_eq
  intro i
  rw [ot_mk_tb, Nat.zero_testBit]
  rcases Nat.lt_or_ge i 12 with hi | hi
  · rw [h i hi, Bool.and_false]
  · rw [decide_eq_false (show ¬ i < 12 by omega), Bool.false_and]
theorem ot_m_z {f : Nat → Bool} : nI (ot_m f) = 0 ↔ ∀ c, c < 12 → f c = false := by
  constructor
  · intro h c hc
    have h2 : ot_m f = 0 := (nI_eq (by have := ot_m_lt f; omega) (by omega)).mp h
    rw [← ot_m_tb f hc, h2, Nat.zero_testBit]
  · intro h
    rw [ot_m_0 h]
    rfl
/-- one bit asked for -/
theorem ot_bitN {m c : Nat} (hm : m < 2 ^ 31) (hc : c < 32) : ((nI m >>> (nI c &&& 31)) &&& 1) = nI (if m.testBit c = true then 1 else 0) := by
  have hd : m / 2 ^ c ≤ m := Nat.div_le_self _ _
  rw [pk_shrN hm _ c (ob_sl c hc), pk_andN (show m / 2 ^ c < 2 ^ 32 by omega) 1 (by decide), Nat.testBit_eq_decide_div_mod_eq, Nat.pow_one]
  rcases Nat.mod_two_eq_zero_or_one (m / 2 ^ c) with h | h
  · simp [h]
  · simp [h]
theorem ot_bit (f : Nat → Bool) {c : Nat} (hc : c < 12) : ((nI (ot_m f) >>> (nI c &&& 31)) &&& 1) = nI (if f c = true then 1 else 0) := by
  have := ot_m_lt f
  rw [ot_bitN (by omega) (by omega), ot_m_tb f hc]
theorem ot_bit1 (f : Nat → Bool) {c : Nat} (hc : c < 12) : ((nI (ot_m f) >>> (nI c &&& 31)) &&& 1) = 1 ↔ f c = true := by
  rw [ot_bit f hc]
  by_cases h : f c = true
  · rw [if_pos h]
    exact ⟨fun _ => h, fun _ => rfl⟩
  · rw [if_neg h]
    exact ⟨fun z => absurd z (by decide), fun z => absurd z h⟩
theorem ot_clr (f : Nat → Bool) {c : Nat} (hc : c < 12) : nI (ot_m f) &&& (((1 : Int32) <<< (nI c &&& 31)) ^^^ (-1)) = nI (ot_m (fun x => f x && x != c)) := by
  apply ob_ext
  intro i hi
  rw [ob_and, ob_xor, ob_mk f hi, ob_mk _ hi, ob_one c (by omega) i hi, ob_m1 i hi]
  by_cases e : i = c
  · simp [e]
  · have e1 : (i == c) = false := beq_eq_false_iff_ne.mpr e
    simp [e, e1, bne]
theorem ot_set (f : Nat → Bool) {c : Nat} (hc : c < 12) : nI (ot_m f) ||| ((1 : Int32) <<< (nI c &&& 31)) = nI (ot_m (fun x => f x || x == c)) := by
  apply ob_ext
  intro i hi
  rw [ob_or, ob_mk f hi, ob_mk _ hi, ob_one c (by omega) i hi]
  by_cases e : i = c
  · simp [e, hc]
  · have e1 : (i == c) = false := beq_eq_false_iff_ne.mpr e
    simp [e, e1]
theorem ot_orM (f g : Nat → Bool) : nI (ot_m f) ||| nI (ot_m g) = nI (ot_m (fun x => f x || g x)) := by
  apply ob_ext
  intro i hi
  rw [ob_or, ob_mk f hi, ob_mk g hi, ob_mk _ hi]
  cases decide (i < 12) <;> simp
theorem ot_andM (f g : Nat → Bool) : nI (ot_m f) &&& nI (ot_m g) = nI (ot_m (fun x => f x && g x)) := by
  apply ob_ext
  intro i hi
  rw [ob_and, ob_mk f hi, ob_mk g hi, ob_mk _ hi]
  cases decide (i < 12) <;> simp
theorem ot_suit : ∀ q, q < 3 → (15 : Int32) <<< ((4 * nI q) &&& 31) = nI (ot_m (fun c => c / 4 == q)) := by decide +kernel
theorem ot_full : (4095 : Int32) = nI (ot_m (fun _ => true)) := by decide +kernel
theorem ot_none : (0 : Int32) = nI (ot_m (fun _ => false)) := by decide +kernel
/-- counting -/
def ot_cn (f : Nat → Bool) : Nat → Nat
  | 0 => 0
  | n + 1 => ot_cn f n + (if f n = true then 1 else 0)
theorem ot_cn_congr {f g : Nat → Bool} {n : Nat} (h : ∀ x, x < n → f x = g x) : ot_cn f n = ot_cn g n := by
  induction n with
  | zero => rfl
  | succ n ih => rw [ot_cn, ot_cn, ih (fun x hx => h x (by omega)), h n (by omega)]
theorem ot_cn_one {f g : Nat → Bool} {c : Nat} (h : ∀ x, x ≠ c → f x = g x) (hf : f c = true) (hg : g c = false) (n : Nat) : ot_cn f n = ot_cn g n + (if c < n then 1 else 0) := by
  induction n with
  | zero => rfl
  | succ n ih =>
    rw [ot_cn, ot_cn, ih]
    by_cases e : n = c
    · subst e
      rw [hf, hg, if_neg (by omega), if_pos rfl, if_neg (by decide), if_pos (by omega)]
    · rw [h n e]
      by_cases hc : c < n
      · rw [if_pos hc, if_pos (show c < n + 1 by omega)]
        omega
      · rw [if_neg hc, if_neg (show ¬ c < n + 1 by omega)]
        omega
theorem ot_cn_mono {f g : Nat → Bool} {n : Nat} (h : ∀ x, x < n → f x = true → g x = true) : ot_cn f n ≤ ot_cn g n := by
  induction n with
  | zero => exact Nat.le_refl 0
  | succ n ih =>
    have ih' := ih (fun x hx => h x (by omega))
    have hn := h n (by omega)
    rw [ot_cn, ot_cn]
    by_cases hf : f n = true
    · rw [if_pos hf, if_pos (hn hf)]
      omega
    · rw [if_neg hf]
      omega
theorem ot_cn_le (f : Nat → Bool) (n : Nat) : ot_cn f n ≤ n := by
  induction n with
  | zero => exact Nat.le_refl 0
  | succ n ih =>
    rw [ot_cn]
    by_cases hf : f n = true
    · rw [if_pos hf]; omega
    · rw [if_neg hf]; omega
theorem ot_cn_z {f : Nat → Bool} {n : Nat} : ot_cn f n = 0 ↔ ∀ x, x < n → f x = false := by
  induction n with
  | zero => exact ⟨fun _ x hx => absurd hx (by omega), fun _ => rfl⟩
  | succ n ih =>
    rw [ot_cn]
    constructor
    · intro h x hx
      have hfn : ¬ f n = true := by
        intro z
        rw [if_pos z] at h
        omega
      by_cases e : x = n
      · rw [e]
        exact Bool.eq_false_iff.mpr hfn
      · exact ih.mp (by omega) x (by omega)
    · intro h
      rw [ih.mpr (fun x hx => h x (by omega)), h n (by omega)]
      rfl
theorem ot_cn_add {f g h : Nat → Bool} {n : Nat} (H : ∀ x, x < n → ((if f x = true then 1 else 0) + (if g x = true then 1 else 0) : Nat) = (if h x = true then 1 else 0)) : ot_cn f n + ot_cn g n = ot_cn h n := by
  induction n with
  | zero => rfl
  | succ n ih =>
    have ih' := ih (fun x hx => H x (by omega))
    have hn := H n (by omega)
    rw [ot_cn, ot_cn, ot_cn]
    omega
theorem ot_cn_m (f : Nat → Bool) : ot_cn (ot_m f).testBit 12 = ot_cn f 12 := ot_cn_congr (fun x hx => ot_m_tb f hx)
theorem ot_cn_low : ∀ c, c < 12 → ot_cn (2 ^ c - 1).testBit 12 = c := by decide +kernel
/-- the list of a set of cards, its fold, its length -/
abbrev ot_li (f : Nat → Bool) : List Nat := (List.range 12).filter f
theorem ot_li_mem {f : Nat → Bool} {c : Nat} : c ∈ ot_li f ↔ c < 12 ∧ f c = true := by
  rw [List.mem_filter, List.mem_range]
theorem ot_li_len (f : Nat → Bool) (n : Nat) : ((List.range n).filter f).length = ot_cn f n := by
  induction n with
  | zero => rfl
  | succ n ih =>
    rw [List.range_succ, List.filter_append, List.length_append, ih, ot_cn]
    by_cases h : f n = true
    · simp [h]
    · simp [h]
def ot_pf {α : Type} (f : Nat → Bool) (g : α → Nat → α) (a : α) : Nat → α
  | 0 => a
  | n + 1 => if f n = true then g (ot_pf f g a n) n else ot_pf f g a n
theorem ot_pf_eq {α : Type} (f : Nat → Bool) (g : α → Nat → α) (a : α) (n : Nat) : ot_pf f g a n = ((List.range n).filter f).foldl g a := by
  induction n with
  | zero => rfl
  | succ n ih =>
    rw [List.range_succ, List.filter_append, List.foldl_append, ← ih, ot_pf]
    by_cases h : f n = true
    · simp [h]
    · simp [h]
/-- the mask of a list of cards -/
def ot_lm : List Nat → Nat
  | [] => 0
  | c :: l => 2 ^ c ||| ot_lm l
theorem ot_lm_tb (l : List Nat) (i : Nat) : (ot_lm l).testBit i = decide (i ∈ l) := by
  induction l with
  | nil => simp [ot_lm]
  | cons c l ih =>
    rw [ot_lm, Nat.testBit_or, ih, Nat.testBit_two_pow]
    by_cases e : i = c
    · simp [e]
    · have e' : ¬ c = i := fun z => e z.symm
      simp [e, e']
theorem ot_lm_li (f : Nat → Bool) : ot_lm (ot_li f) = ot_m f := by
  apply Nat.eq_of_testBit_eq
  intro i
  rw [ot_lm_tb, ot_mk_tb]
  by_cases h : i < 12
  · by_cases hf : f i = true
    · rw [decide_eq_true (ot_li_mem.mpr ⟨h, hf⟩), decide_eq_true h, hf]
      rfl
    · rw [decide_eq_false (fun z => hf (ot_li_mem.mp z).2), decide_eq_true h, Bool.eq_false_iff.mpr hf]
      rfl
  · rw [decide_eq_false (fun z => h (ot_li_mem.mp z).1), decide_eq_false h]
    rfl
/-- a sorted list of cards -/
def ot_so : List Nat → Prop
  | [] => True
  | c :: l => c < 12 ∧ (∀ x, x ∈ l → c < x) ∧ ot_so l
theorem ot_so_lt {l : List Nat} (h : ot_so l) : ∀ x, x ∈ l → x < 12 := by
  induction l with
  | nil => intro x hx; cases hx
  | cons c l ih =>
    intro x hx
    rcases List.mem_cons.mp hx with e | e
    · rw [e]; exact h.1
    · exact ih h.2.2 x e
theorem ot_so_pw {l : List Nat} (h : l.Pairwise (· < ·)) (h2 : ∀ x, x ∈ l → x < 12) : ot_so l := by
  induction l with
  | nil => trivial
  | cons c l ih =>
    rw [List.pairwise_cons] at h
    exact ⟨h2 c (by simp), h.1, ih h.2 (fun x hx => h2 x (by simp [hx]))⟩
theorem ot_so_li (f : Nat → Bool) : ot_so (ot_li f) :=
  ot_so_pw (List.Pairwise.filter f List.pairwise_lt_range) (fun x hx => (ot_li_mem.mp hx).1)
theorem ot_lm_lt {l : List Nat} (h : ot_so l) : ot_lm l < 4096 := by
  have h2 := Nat.lt_pow_two_of_testBit (n := 12) (ot_lm l) (fun i hi => by
    rw [ot_lm_tb]
    exact decide_eq_false (fun z => absurd (ot_so_lt h i z) (by omega)))
  omega
theorem ot_low0 : ∀ c, c < 12 → ∀ q, q < 2048 → 2 ^ c + 2 ^ (c + 1) * q < 4096 → (nI (2 ^ c + 2 ^ (c + 1) * q) &&& -(nI (2 ^ c + 2 ^ (c + 1) * q))) = nI (2 ^ c) ∧ nI (2 ^ c + 2 ^ (c + 1) * q) &&& (nI (2 ^ c) ^^^ (-1)) = nI (2 ^ (c + 1) * q) := by decide +kernel
theorem ot_lm_low {c : Nat} {l : List Nat} (h : ot_so (c :: l)) : (nI (ot_lm (c :: l)) &&& -(nI (ot_lm (c :: l)))) = nI (2 ^ c) ∧ nI (ot_lm (c :: l)) &&& (nI (2 ^ c) ^^^ (-1)) = nI (ot_lm l) := by
  have hm := ot_lm_lt h
  have e2 : ot_lm l % 2 ^ (c + 1) = 0 := by
    apply Nat.eq_of_testBit_eq
    intro i
    rw [Nat.testBit_mod_two_pow, ot_lm_tb, Nat.zero_testBit]
    by_cases hi : i < c + 1
    · rw [decide_eq_false (show ¬ i ∈ l from fun z => absurd (h.2.1 i z) (by omega)), Bool.and_false]
    · rw [decide_eq_false hi, Bool.false_and]
  have e3 : ot_lm l = 2 ^ (c + 1) * (ot_lm l / 2 ^ (c + 1)) := by
    have := Nat.div_add_mod (ot_lm l) (2 ^ (c + 1))
    omega
  have e1 : ot_lm (c :: l) = 2 ^ c + ot_lm l := by
    show 2 ^ c ||| ot_lm l = _
    have k := Nat.two_pow_add_eq_or_of_lt (i := c + 1) (b := 2 ^ c) (Nat.pow_lt_pow_right (by omega) (by omega)) (ot_lm l / 2 ^ (c + 1))
    rw [← e3] at k
    rw [Nat.or_comm, ← k]
    exact Nat.add_comm _ _
  have hq : ot_lm l / 2 ^ (c + 1) < 2048 := by
    apply Nat.div_lt_of_lt_mul
    have h1 : 2 ^ 1 ≤ 2 ^ (c + 1) := Nat.pow_le_pow_right (by omega) (by omega)
    have h2 : 2 * 2048 ≤ 2 ^ (c + 1) * 2048 := Nat.mul_le_mul_right 2048 h1
    omega
  have k := ot_low0 c h.1 _ hq (by rw [← e3, ← e1]; exact hm)
  rw [← e3, ← e1] at k
  exact k
theorem ot_lm_ne {c : Nat} {l : List Nat} (h : ot_so (c :: l)) : ¬ nI (ot_lm (c :: l)) = 0 := by
  have hm := ot_lm_lt h
  intro z
  have z2 : ot_lm (c :: l) = 0 := (nI_eq (by omega) (by omega)).mp z
  have := ot_lm_tb (c :: l) c
  rw [z2, Nat.zero_testBit] at this
  simp at this
/-- small signed numbers -/
def ot_i (x : Int) : Int32 := Int32.ofInt x
theorem ot_i_n (n : Nat) : ot_i (n : Int) = nI n := Int32.ofInt_eq_ofNat
theorem ot_i_add (a b : Int) : ot_i a + ot_i b = ot_i (a + b) := (Int32.ofInt_add a b).symm
theorem ot_i_sub (a b : Int) : ot_i a - ot_i b = ot_i (a - b) := (Int32.ofInt_sub a b).symm
theorem ot_i_to {x : Int} (h : -1000000 ≤ x) (h2 : x ≤ 1000000) : (ot_i x).toInt = x := Int32.toInt_ofInt_of_le (by omega) (by omega)
theorem ot_i_le {x y : Int} (hx : -1000000 ≤ x) (hx2 : x ≤ 1000000) (hy : -1000000 ≤ y) (hy2 : y ≤ 1000000) : ot_i x ≤ ot_i y ↔ x ≤ y := by
  rw [Int32.le_iff_toInt_le, ot_i_to hx hx2, ot_i_to hy hy2]
theorem ot_i_lt {x y : Int} (hx : -1000000 ≤ x) (hx2 : x ≤ 1000000) (hy : -1000000 ≤ y) (hy2 : y ≤ 1000000) : ot_i x < ot_i y ↔ x < y := by
  rw [Int32.lt_iff_toInt_lt, ot_i_to hx hx2, ot_i_to hy hy2]
theorem ot_i_eq {x y : Int} (hx : -1000000 ≤ x) (hx2 : x ≤ 1000000) (hy : -1000000 ≤ y) (hy2 : y ≤ 1000000) : ot_i x = ot_i y ↔ x = y := by
  constructor
  · intro h
    rw [← ot_i_to hx hx2, h, ot_i_to hy hy2]
  · intro h
    rw [h]
end
section
/-! ===== the game, with no program in sight: a position is (owner of a card (4: nobody), trick, lead, played) ===== -/
abbrev ot_P : Type := (Nat → Nat) × (Nat → Nat) × Nat × Nat
def ot_put (f : Nat → Nat) (k v : Nat) : Nat → Nat := fun j => if j = k then v else f j
theorem ot_put_s (f : Nat → Nat) (k v : Nat) : ot_put f k v k = v := if_pos rfl
theorem ot_put_n (f : Nat → Nat) {k j : Nat} (v : Nat) (h : j ≠ k) : ot_put f k v j = f j := if_neg h
def ot_mv (s : ot_P) : Nat := (s.2.2.1 + s.2.2.2) % 4
theorem ot_mv_lt (s : ot_P) : ot_mv s < 4 := Nat.mod_lt _ (by omega)
def ot_own (s : ot_P) (c : Nat) : Bool := s.1 c == ot_mv s
def ot_fol (s : ot_P) (c : Nat) : Bool := ot_own s c && c / 4 == s.2.1 0 / 4
def ot_leg (s : ot_P) (c : Nat) : Bool := if s.2.2.2 = 0 then ot_own s c else if ot_m (ot_fol s) = 0 then ot_own s c else ot_fol s c
def ot_str (T : Int32) (t0 c : Nat) : Nat := if nI (c / 4) = T then 10 + c % 4 else if c / 4 = t0 / 4 then 1 + c % 4 else 0
def ot_bp (T : Int32) (t : Nat → Nat) : Nat → Nat
  | 0 => 0
  | i + 1 => if ot_str T (t 0) (t (ot_bp T t i)) < ot_str T (t 0) (t (i + 1)) then i + 1 else ot_bp T t i
def ot_win (T : Int32) (s : ot_P) : Nat := (s.2.2.1 + ot_bp T s.2.1 3) % 4
def ot_raw (s : ot_P) (c : Nat) : ot_P := (ot_put s.1 c 4, ot_put s.2.1 s.2.2.2 c, s.2.2.1, s.2.2.2 + 1)
def ot_fin (T : Int32) (s : ot_P) : ot_P := if s.2.2.2 = 4 then (s.1, fun _ => 0, ot_win T s, 0) else s
def ot_gf (T : Int32) (w : Nat) (s : ot_P) : Nat := if s.2.2.2 = 4 ∧ ot_win T s % 2 = w then 1 else 0
/-- a card is played; the tricks that side 0 (side 1) gains by it -/
def ot_psh (T : Int32) (s : ot_P) (c : Nat) : ot_P := ot_fin T (ot_raw s c)
def ot_gn (T : Int32) (s : ot_P) (c : Nat) : Nat := ot_gf T 0 (ot_raw s c)
def ot_gs (T : Int32) (s : ot_P) (c : Nat) : Nat := ot_gf T 1 (ot_raw s c)
theorem ot_gn_le (T : Int32) (s : ot_P) (c : Nat) : ot_gn T s c ≤ 1 := by
  unfold ot_gn ot_gf
  split <;> omega
theorem ot_gnz (T : Int32) {s : ot_P} (c : Nat) (h : s.2.2.2 ≠ 3) : ot_gn T s c = 0 ∧ ot_gs T s c = 0 := by
  constructor
  · exact if_neg (fun z => h (by have := z.1; exact Nat.succ.inj this))
  · exact if_neg (fun z => h (by have := z.1; exact Nat.succ.inj this))
theorem ot_gn3 (T : Int32) {s : ot_P} (c : Nat) (h : s.2.2.2 = 3) : ot_gn T s c + ot_gs T s c = 1 := by
  have h4 : (ot_raw s c).2.2.2 = 4 := by show s.2.2.2 + 1 = 4; omega
  unfold ot_gn ot_gs ot_gf
  rcases Nat.mod_two_eq_zero_or_one (ot_win T (ot_raw s c)) with e | e
  · rw [if_pos ⟨h4, e⟩, if_neg (fun z => by have := z.2; omega)]
  · rw [if_neg (fun z => by have := z.2; omega), if_pos ⟨h4, e⟩]
/-- the cards held by others, the trick's among them; of touching cards only the lowest -/
def ot_inT (t : Nat → Nat) (c : Nat) : Nat → Bool
  | 0 => false
  | i + 1 => ot_inT t c i || t i == c
theorem ot_inT_iff (t : Nat → Nat) (c n : Nat) : ot_inT t c n = true ↔ ∃ i, i < n ∧ t i = c := by
  induction n with
  | zero => exact ⟨fun z => absurd z (by simp [ot_inT]), fun ⟨i, h, _⟩ => absurd h (by omega)⟩
  | succ n ih =>
    rw [ot_inT, Bool.or_eq_true, ih, beq_iff_eq]
    constructor
    · rintro (⟨i, h, e⟩ | e)
      · exact ⟨i, by omega, e⟩
      · exact ⟨n, by omega, e⟩
    · rintro ⟨i, h, e⟩
      by_cases z : i = n
      · exact Or.inr (z ▸ e)
      · exact Or.inl ⟨i, by omega, e⟩
def ot_oth (s : ot_P) (c : Nat) : Bool := (decide (s.1 c < 4) && s.1 c != ot_mv s) || ot_inT s.2.1 c s.2.2.2
def ot_fl (st oth : Nat → Bool) : Nat → Bool
  | 0 => false
  | c + 1 => st c || (ot_fl st oth c && !(c % 4 == 0 || oth c))
def ot_few (st oth : Nat → Bool) (c : Nat) : Bool := st c && !(ot_fl st oth c && !(c % 4 == 0 || oth c))
def ot_ch (k : Nat) (s : ot_P) (c : Nat) : Bool := if k = 2 then ot_leg s c else ot_few (ot_leg s) (ot_oth s) c
def ot_up (k : Nat) (s : ot_P) : Bool := k == 0 && ot_mv s % 2 == 0
def ot_cb (k : Nat) (up : Bool) (a v : Int) : Int := if k = 2 then a + v else if up = true then (if v ≤ a then a else v) else (if a ≤ v then a else v)
def ot_in (k : Nat) (up : Bool) : Int := if k = 2 then 0 else if up = true then -1 else 100
def ot_gk (k : Nat) (T : Int32) (s : ot_P) (c : Nat) : Int := if k = 2 then 0 else (ot_gn T s c : Int)
/-- what is to come, over the choices ch -/
def ot_gv (ch : ot_P → Nat → Bool) (k : Nat) (T : Int32) : Nat → ot_P → Int
  | 0, _ => if k = 2 then 1 else 0
  | r + 1, s => (ot_li (ch s)).foldl (fun a c => ot_cb k (ot_up k s) a (ot_gv ch k T r (ot_psh T s c) + ot_gk k T s c)) (ot_in k (ot_up k s))
abbrev ot_sv (k : Nat) (T : Int32) (r : Nat) (s : ot_P) : Int := ot_gv (ot_ch k) k T r s
abbrev ot_val (ch : ot_P → Nat → Bool) (k : Nat) (T : Int32) (r : Nat) (s : ot_P) (c : Nat) : Int := ot_gv ch k T r (ot_psh T s c) + ot_gk k T s c
/-- a sound position with r cards to be played -/
def ot_V (r : Nat) (s : ot_P) : Prop :=
  s.2.2.1 < 4 ∧ s.2.2.2 < 4 ∧ (r + s.2.2.2) % 4 = 0 ∧ r ≤ 12 ∧ (∀ c, s.1 c ≤ 4) ∧ (∀ c, 12 ≤ c → s.1 c = 4) ∧
  (∀ j, j < 4 → ot_cn (fun c => s.1 c == (ot_mv s + j) % 4) 12 = (r + 3 - j) / 4) ∧
  (∀ i, i < s.2.2.2 → s.2.1 i < 12 ∧ s.1 (s.2.1 i) = 4) ∧ (s.2.2.2 = 0 → s.2.1 = fun _ => 0)
theorem ot_V_own {r : Nat} {s : ot_P} (h : ot_V r s) : ot_cn (ot_own s) 12 = (r + 3) / 4 := by
  have k := h.2.2.2.2.2.2.1 0 (by omega)
  rw [Nat.add_zero, Nat.mod_eq_of_lt (ot_mv_lt s), Nat.sub_zero] at k
  exact k
theorem ot_V_card {r : Nat} {s : ot_P} (h : ot_V r s) {c : Nat} (hc : ot_own s c = true) : c < 12 := by
  rcases Nat.lt_or_ge c 12 with z | z
  · exact z
  · have e : s.1 c = ot_mv s := by simpa [ot_own] using hc
    have := h.2.2.2.2.2.1 c z
    have := ot_mv_lt s
    omega
theorem ot_leg_own {s : ot_P} {c : Nat} (h : ot_leg s c = true) : ot_own s c = true := by
  unfold ot_leg at h
  split at h
  · exact h
  · split at h
    · exact h
    · unfold ot_fol at h
      rw [Bool.and_eq_true] at h
      exact h.1
theorem ot_few_st {st oth : Nat → Bool} {c : Nat} (h : ot_few st oth c = true) : st c = true := by
  unfold ot_few at h
  rw [Bool.and_eq_true] at h
  exact h.1
theorem ot_ch_leg {k : Nat} {s : ot_P} {c : Nat} (h : ot_ch k s c = true) : ot_leg s c = true := by
  unfold ot_ch at h
  split at h
  · exact h
  · exact ot_few_st h
theorem ot_V_leg {r : Nat} {s : ot_P} (h : ot_V (r + 1) s) : ∃ c, c < 12 ∧ ot_leg s c = true := by
  have h1 : ot_cn (ot_own s) 12 ≠ 0 := by rw [ot_V_own h]; omega
  have own : ∃ c, c < 12 ∧ ot_own s c = true := by
    refine Classical.byContradiction (fun z => h1 (ot_cn_z.mpr (fun x hx => Bool.eq_false_iff.mpr (fun w => z ⟨x, hx, w⟩))))
  unfold ot_leg
  split
  · exact own
  · split
    · exact own
    · rename_i h2
      refine Classical.byContradiction (fun z => h2 (ot_m_0 (fun x hx => Bool.eq_false_iff.mpr (fun w => z ⟨x, hx, w⟩))))
theorem ot_fl_spec {st oth : Nat → Bool} {c : Nat} (h : ot_fl st oth c = true) : ∃ b, b < c ∧ st b = true ∧ ∀ x, b < x → x < c → ¬ x % 4 = 0 ∧ ¬ oth x = true := by
  induction c with
  | zero => simp [ot_fl] at h
  | succ c ih =>
    rw [ot_fl, Bool.or_eq_true] at h
    rcases h with h | h
    · exact ⟨c, by omega, h, fun x h1 h2 => absurd h1 (by omega)⟩
    · rw [Bool.and_eq_true] at h
      obtain ⟨b, hb, hs, hx⟩ := ih h.1
      refine ⟨b, by omega, hs, fun x h1 h2 => ?_⟩
      by_cases e : x = c
      · subst e
        have := h.2
        simp at this
        exact ⟨by omega, by simp [this.2]⟩
      · exact hx x h1 (by omega)
theorem ot_few_rep {st oth : Nat → Bool} {α : Type} {val : Nat → α} (hv : ∀ b c, b < c → st b = true → st c = true → (∀ x, b < x → x ≤ c → ¬ x % 4 = 0 ∧ ¬ oth x = true) → val b = val c) :
    ∀ c, st c = true → ∃ a, a ≤ c ∧ ot_few st oth a = true ∧ val a = val c := by
  intro c
  induction c using Nat.strongRecOn with
  | _ c ih =>
    intro hc
    by_cases hf : ot_few st oth c = true
    · exact ⟨c, Nat.le_refl c, hf, rfl⟩
    · have hh : ot_fl st oth c = true ∧ ¬ c % 4 = 0 ∧ ¬ oth c = true := by
        unfold ot_few at hf
        rw [hc, Bool.true_and] at hf
        simp at hf
        exact ⟨hf.1, by omega, by simp [hf.2.2]⟩
      obtain ⟨b, hb, hs, hx⟩ := ot_fl_spec hh.1
      obtain ⟨a, ha, hfa, hva⟩ := ih b hb hs
      refine ⟨a, by omega, hfa, hva.trans (hv b c hb hs hc (fun x h1 h2 => ?_))⟩
      by_cases e : x = c
      · rw [e]; exact hh.2
      · exact hx x h1 (by omega)
theorem ot_V_ch {r k : Nat} {s : ot_P} (h : ot_V (r + 1) s) : ∃ c, c ∈ ot_li (ot_ch k s) := by
  obtain ⟨c, hc, hl⟩ := ot_V_leg h
  unfold ot_ch
  by_cases hk : k = 2
  · exact ⟨c, ot_li_mem.mpr ⟨hc, by rw [if_pos hk]; exact hl⟩⟩
  · obtain ⟨a, ha, hf, _⟩ := ot_few_rep (st := ot_leg s) (oth := ot_oth s) (val := fun _ => ()) (fun _ _ _ _ _ _ => rfl) c hl
    exact ⟨a, ot_li_mem.mpr ⟨by omega, by rw [if_neg hk]; exact hf⟩⟩
theorem ot_ch_len {r k : Nat} {s : ot_P} (h : ot_V r s) : (ot_li (ot_ch k s)).length ≤ (r + 3) / 4 := by
  rw [ot_li_len, ← ot_V_own h]
  exact ot_cn_mono (fun x _ hx => ot_leg_own (ot_ch_leg hx))
/-- a card of the mover's is played: the position stays sound -/
theorem ot_V_psh {r : Nat} {s : ot_P} (T : Int32) (h : ot_V (r + 1) s) {c : Nat} (hc : ot_own s c = true) : ot_V r (ot_psh T s c) := by
  have hc12 := ot_V_card h hc
  have ho : s.1 c = ot_mv s := by simpa [ot_own] using hc
  obtain ⟨o, t, l, p⟩ := s
  obtain ⟨h1, h2, h3, h4, h5, h6, h7, h8, h9⟩ := h
  have hmv : ot_mv (o, t, l, p) = (l + p) % 4 := rfl
  rw [hmv] at ho
  dsimp only at h1 h2 h3 h5 h6 h8 h9 ho
  have h7 : ∀ j, j < 4 → ot_cn (fun c => o c == ((l + p) % 4 + j) % 4) 12 = (r + 1 + 3 - j) / 4 := h7
  have cnt : ∀ q, q < 4 → ot_cn (fun x => ot_put o c 4 x == q) 12 + (if q = (l + p) % 4 then 1 else 0) = ot_cn (fun x => o x == q) 12 := by
    intro q hq
    by_cases e : q = (l + p) % 4
    · rw [if_pos e]
      have k := ot_cn_one (f := fun x => o x == q) (g := fun x => ot_put o c 4 x == q) (c := c) (fun x hx => by rw [ot_put_n o 4 hx]) (by simp [ho, e]) (by simp [ot_put_s]; omega) 12
      rw [if_pos hc12] at k
      exact k.symm
    · rw [if_neg e, Nat.add_zero]
      refine ot_cn_congr (fun x _ => ?_)
      by_cases z : x = c
      · subst z
        rw [ot_put_s, ho]
        rw [beq_eq_false_iff_ne.mpr (show (4 : Nat) ≠ q by omega), beq_eq_false_iff_ne.mpr (fun w => e w.symm)]
      · rw [ot_put_n o 4 z]
  have o4 : ∀ x, ot_put o c 4 x ≤ 4 := fun x => by
    unfold ot_put
    split
    · omega
    · exact h5 x
  have o12 : ∀ x, 12 ≤ x → ot_put o c 4 x = 4 := fun x hx => by
    unfold ot_put
    split
    · rfl
    · exact h6 x hx
  show ot_V r (ot_fin T (ot_put o c 4, ot_put t p c, l, p + 1))
  unfold ot_fin
  by_cases hp : p + 1 = 4
  · rw [if_pos hp]
    generalize hw : ot_win T (ot_put o c 4, ot_put t p c, l, p + 1) = w
    have hw4 : w < 4 := by rw [← hw]; exact Nat.mod_lt _ (by omega)
    refine ⟨hw4, by show 0 < 4; omega, by dsimp only; omega, by omega, o4, o12, fun j hj => ?_, fun i hi => absurd hi (by dsimp only; omega), fun _ => rfl⟩
    have hq : ((w + 0) % 4 + j) % 4 < 4 := Nat.mod_lt _ (by omega)
    show ot_cn (fun x => ot_put o c 4 x == ((w + 0) % 4 + j) % 4) 12 = (r + 3 - j) / 4
    generalize ((w + 0) % 4 + j) % 4 = q at hq
    have k := cnt q hq
    have k2 := h7 ((q + 4 - (l + p) % 4) % 4) (Nat.mod_lt _ (by omega))
    have e : ((l + p) % 4 + (q + 4 - (l + p) % 4) % 4) % 4 = q := by omega
    rw [e] at k2
    rw [k2] at k
    by_cases z : q = (l + p) % 4
    · rw [if_pos z] at k
      have e2 : (q + 4 - (l + p) % 4) % 4 = 0 := by omega
      rw [e2] at k
      omega
    · rw [if_neg z] at k
      have e2 : (q + 4 - (l + p) % 4) % 4 ≠ 0 := by omega
      have e3 : (q + 4 - (l + p) % 4) % 4 < 4 := Nat.mod_lt _ (by omega)
      generalize (q + 4 - (l + p) % 4) % 4 = jj at k e2 e3
      omega
  · rw [if_neg hp]
    refine ⟨h1, by dsimp only; omega, by dsimp only; omega, by omega, o4, o12, fun j hj => ?_, fun i hi => ?_, fun z => absurd z (by dsimp only; omega)⟩
    · have hq : ((l + (p + 1)) % 4 + j) % 4 < 4 := Nat.mod_lt _ (by omega)
      show ot_cn (fun x => ot_put o c 4 x == ((l + (p + 1)) % 4 + j) % 4) 12 = (r + 3 - j) / 4
      have k := cnt _ hq
      have k2 := h7 ((j + 1) % 4) (Nat.mod_lt _ (by omega))
      have e : ((l + p) % 4 + (j + 1) % 4) % 4 = ((l + (p + 1)) % 4 + j) % 4 := by omega
      rw [e] at k2
      rw [k2] at k
      by_cases z : j = 3
      · subst z
        rw [if_pos (by omega)] at k
        omega
      · rw [if_neg (by omega)] at k
        have e2 : (j + 1) % 4 = j + 1 := by omega
        rw [e2] at k
        omega
    · show ot_put t p c i < 12 ∧ ot_put o c 4 (ot_put t p c i) = 4
      by_cases z : i = p
      · subst z
        rw [ot_put_s, ot_put_s]
        exact ⟨hc12, rfl⟩
      · have hi' : i < p + 1 := hi
        rw [ot_put_n t c z]
        have k := h8 i (by omega)
        refine ⟨k.1, ?_⟩
        unfold ot_put
        split
        · rfl
        · exact k.2
end
section
/-! ===== values: folds, bounds, the swap of two touching cards ===== -/
theorem ot_opt {k : Nat} (hk : k ≠ 2) (up : Bool) (val : Nat → Int) (l : List Nat) : ∀ a : Int,
    (l.foldl (fun a c => ot_cb k up a (val c)) a = a ∨ ∃ c, c ∈ l ∧ l.foldl (fun a c => ot_cb k up a (val c)) a = val c) ∧
    (up = true → a ≤ l.foldl (fun a c => ot_cb k up a (val c)) a ∧ ∀ c, c ∈ l → val c ≤ l.foldl (fun a c => ot_cb k up a (val c)) a) ∧
    (¬ up = true → l.foldl (fun a c => ot_cb k up a (val c)) a ≤ a ∧ ∀ c, c ∈ l → l.foldl (fun a c => ot_cb k up a (val c)) a ≤ val c) := by
  induction l with
  | nil => exact fun a => ⟨Or.inl rfl, fun _ => ⟨Int.le_refl a, fun c hc => nomatch hc⟩, fun _ => ⟨Int.le_refl a, fun c hc => nomatch hc⟩⟩
  | cons d l ih =>
    intro a
    have k1 := ih (ot_cb k up a (val d))
    rw [List.foldl_cons]
    generalize List.foldl (fun a c => ot_cb k up a (val c)) (ot_cb k up a (val d)) l = x at k1
    have e1 : ot_cb k up a (val d) = a ∨ ot_cb k up a (val d) = val d := by
      unfold ot_cb
      rw [if_neg hk]
      split <;> split <;> first | exact Or.inl rfl | exact Or.inr rfl
    have e2 : up = true → a ≤ ot_cb k up a (val d) ∧ val d ≤ ot_cb k up a (val d) := by
      intro hu
      unfold ot_cb
      rw [if_neg hk, if_pos hu]
      split <;> omega
    have e3 : ¬ up = true → ot_cb k up a (val d) ≤ a ∧ ot_cb k up a (val d) ≤ val d := by
      intro hu
      unfold ot_cb
      rw [if_neg hk, if_neg hu]
      split <;> omega
    generalize ot_cb k up a (val d) = a' at k1 e1 e2 e3
    refine ⟨?_, fun hu => ?_, fun hu => ?_⟩
    · rcases k1.1 with e | ⟨c, hc, e⟩
      · rcases e1 with z | z
        · exact Or.inl (e.trans z)
        · exact Or.inr ⟨d, by simp, e.trans z⟩
      · exact Or.inr ⟨c, by simp [hc], e⟩
    · have q1 := k1.2.1 hu
      have q2 := e2 hu
      refine ⟨by omega, fun c hc => ?_⟩
      rcases List.mem_cons.mp hc with z | z
      · rw [z]; omega
      · exact q1.2 c z
    · have q1 := k1.2.2 hu
      have q2 := e3 hu
      refine ⟨by omega, fun c hc => ?_⟩
      rcases List.mem_cons.mp hc with z | z
      · rw [z]; omega
      · exact q1.2 c z
theorem ot_opt_same {k : Nat} (hk : k ≠ 2) (up : Bool) {val val' : Nat → Int} {l l' : List Nat} (a : Int) (h1 : ∀ c, c ∈ l → ∃ c', c' ∈ l' ∧ val' c' = val c) (h2 : ∀ c', c' ∈ l' → ∃ c, c ∈ l ∧ val c = val' c') :
    l.foldl (fun a c => ot_cb k up a (val c)) a = l'.foldl (fun a c => ot_cb k up a (val' c)) a := by
  have A := ot_opt hk up val l a
  have B := ot_opt hk up val' l' a
  generalize List.foldl (fun a c => ot_cb k up a (val c)) a l = x at A
  generalize List.foldl (fun a c => ot_cb k up a (val' c)) a l' = y at B
  by_cases hu : up = true
  · have A2 := A.2.1 hu
    have B2 := B.2.1 hu
    have q1 : x ≤ y := by
      rcases A.1 with e | ⟨c, hc, e⟩
      · rw [e]; exact B2.1
      · obtain ⟨c', hc', e'⟩ := h1 c hc
        rw [e, ← e']; exact B2.2 c' hc'
    have q2 : y ≤ x := by
      rcases B.1 with e | ⟨c, hc, e⟩
      · rw [e]; exact A2.1
      · obtain ⟨c', hc', e'⟩ := h2 c hc
        rw [e, ← e']; exact A2.2 c' hc'
    omega
  · have A2 := A.2.2 hu
    have B2 := B.2.2 hu
    have q1 : y ≤ x := by
      rcases A.1 with e | ⟨c, hc, e⟩
      · rw [e]; exact B2.1
      · obtain ⟨c', hc', e'⟩ := h1 c hc
        rw [e, ← e']; exact B2.2 c' hc'
    have q2 : x ≤ y := by
      rcases B.1 with e | ⟨c, hc, e⟩
      · rw [e]; exact A2.1
      · obtain ⟨c', hc', e'⟩ := h2 c hc
        rw [e, ← e']; exact A2.2 c' hc'
    omega
theorem ot_opt_in {k : Nat} (hk : k ≠ 2) (up : Bool) {val : Nat → Int} {l : List Nat} (hne : ∃ c, c ∈ l) (hb : ∀ c, c ∈ l → 0 ≤ val c ∧ val c < 100) :
    ∃ c, c ∈ l ∧ l.foldl (fun a c => ot_cb k up a (val c)) (ot_in k up) = val c := by
  have A := ot_opt hk up val l (ot_in k up)
  obtain ⟨d, hd⟩ := hne
  have hbd := hb d hd
  generalize List.foldl (fun a c => ot_cb k up a (val c)) (ot_in k up) l = x at A
  rcases A.1 with e | e
  · exfalso
    by_cases hu : up = true
    · have := (A.2.1 hu).2 d hd
      have e2 : ot_in k up = -1 := by unfold ot_in; rw [if_neg hk, if_pos hu]
      omega
    · have := (A.2.2 hu).2 d hd
      have e2 : ot_in k up = 100 := by unfold ot_in; rw [if_neg hk, if_neg hu]
      omega
  · exact e
/-- the optimum over other numbers, all moved by w -/
theorem ot_opt_mv {k : Nat} (hk : k ≠ 2) (up : Bool) {val : Nat → Int} {l : List Nat} (w : Nat) (hw : w < 50) (hne : ∃ c, c ∈ l) (hb : ∀ c, c ∈ l → 0 ≤ val c ∧ val c < 50) :
    l.foldl (fun a c => ot_cb k up a ((w : Int) + val c)) (ot_in k up) = (w : Int) + l.foldl (fun a c => ot_cb k up a (val c)) (ot_in k up) := by
  obtain ⟨c, hc, e⟩ := ot_opt_in hk up (val := val) hne (fun c hc => ⟨(hb c hc).1, by have := (hb c hc).2; omega⟩)
  obtain ⟨d, hd, e'⟩ := ot_opt_in hk up (val := fun c => (w : Int) + val c) hne (fun c hc => ⟨by have := (hb c hc).1; omega, by have := (hb c hc).2; omega⟩)
  have A := ot_opt hk up val l (ot_in k up)
  have B := ot_opt hk up (fun c => (w : Int) + val c) l (ot_in k up)
  generalize List.foldl (fun a c => ot_cb k up a (val c)) (ot_in k up) l = x at A e
  generalize List.foldl (fun a c => ot_cb k up a ((w : Int) + val c)) (ot_in k up) l = y at B e'
  by_cases hu : up = true
  · have q1 := (A.2.1 hu).2 d hd
    have q2 := (B.2.1 hu).2 c hc
    omega
  · have q1 := (A.2.2 hu).2 d hd
    have q2 := (B.2.2 hu).2 c hc
    omega
theorem ot_gk_n {k : Nat} (hk : k ≠ 2) (T : Int32) (s : ot_P) (c : Nat) : ot_gk k T s c = (ot_gn T s c : Int) := if_neg hk
theorem ot_gain {r : Nat} {s : ot_P} (T : Int32) (h : ot_V (r + 1) s) (c : Nat) : ot_gn T s c + (r + 3) / 4 ≤ (r + 4) / 4 := by
  have h3 := h.2.2.1
  by_cases e : s.2.2.2 = 3
  · have := ot_gn_le T s c
    omega
  · have := (ot_gnz T c e).1
    omega
/-- bounds: no more tricks than are to come -/
theorem ot_gv_b {ch : ot_P → Nat → Bool} {k : Nat} (hk : k ≠ 2) (T : Int32) (hl : ∀ s c, ch s c = true → ot_leg s c = true) (hne : ∀ r s, ot_V (r + 1) s → ∃ c, c ∈ ot_li (ch s)) :
    ∀ r s, ot_V r s → 0 ≤ ot_gv ch k T r s ∧ ot_gv ch k T r s ≤ (((r + 3) / 4 : Nat) : Int) := by
  intro r
  induction r with
  | zero => 
    intro s _
    rw [ot_gv, if_neg hk]
    exact ⟨Int.le_refl 0, by omega⟩
  | succ r ih =>
    intro s hs
    have hb : ∀ c, c ∈ ot_li (ch s) → 0 ≤ ot_val ch k T r s c ∧ ot_val ch k T r s c ≤ (((r + 4) / 4 : Nat) : Int) := by
      intro c hc
      have k1 := ih _ (ot_V_psh T hs (ot_leg_own (hl s c (ot_li_mem.mp hc).2)))
      have k2 := ot_gain T hs c
      show 0 ≤ ot_gv ch k T r (ot_psh T s c) + ot_gk k T s c ∧ ot_gv ch k T r (ot_psh T s c) + ot_gk k T s c ≤ (((r + 4) / 4 : Nat) : Int)
      rw [ot_gk_n hk]
      generalize ot_gv ch k T r (ot_psh T s c) = x at k1
      omega
    have hr := hs.2.2.2.1
    obtain ⟨c, hc, e⟩ := ot_opt_in hk (ot_up k s) (val := ot_val ch k T r s) (hne r s hs) (fun c hc => ⟨(hb c hc).1, by have := (hb c hc).2; omega⟩)
    rw [ot_gv]
    rw [e]
    exact hb c hc
theorem ot_sv_b {k : Nat} (hk : k ≠ 2) (T : Int32) {r : Nat} {s : ot_P} (h : ot_V r s) : 0 ≤ ot_sv k T r s ∧ ot_sv k T r s ≤ (((r + 3) / 4 : Nat) : Int) :=
  ot_gv_b hk T (fun _ _ h => ot_ch_leg h) (fun _ _ h => ot_V_ch h) r s h
theorem ot_sum (val : Nat → Int) (hi : Int) (l : List Nat) : ∀ a : Int, (∀ c, c ∈ l → 1 ≤ val c ∧ val c ≤ hi) → a + l.length ≤ l.foldl (fun a c => ot_cb 2 false a (val c)) a ∧ l.foldl (fun a c => ot_cb 2 false a (val c)) a ≤ a + l.length * hi := by
  induction l with
  | nil => intro a _; simp
  | cons d l ih =>
    intro a h
    have k1 := ih (ot_cb 2 false a (val d)) (fun c hc => h c (by simp [hc]))
    have k2 := h d (by simp)
    have e : ot_cb 2 false a (val d) = a + val d := if_pos rfl
    rw [List.foldl_cons]
    generalize List.foldl (fun a c => ot_cb 2 false a (val c)) (ot_cb 2 false a (val d)) l = x at k1
    rw [e] at k1
    rw [List.length_cons]
    have e3 : ((l.length + 1 : Nat) : Int) * hi = (l.length : Int) * hi + hi := by
      rw [Int.natCast_add, Int.add_mul]; simp
    rw [e3]
    generalize (l.length : Int) * hi = z at k1
    omega
theorem ot_cb2 (up : Bool) (a v : Int) : ot_cb 2 up a v = a + v := if_pos rfl
theorem ot_sv_2 (T : Int32) : ∀ (r : Nat) (s : ot_P), ot_V r s → 1 ≤ ot_sv 2 T r s ∧ ot_sv 2 T r s ≤ ((3 ^ r : Nat) : Int) := by
  intro r
  induction r with
  | zero => intro s _; exact ⟨Int.le_refl 1, Int.le_refl 1⟩
  | succ r ih =>
    intro s hs
    have hb : ∀ c, c ∈ ot_li (ot_ch 2 s) → 1 ≤ ot_val (ot_ch 2) 2 T r s c ∧ ot_val (ot_ch 2) 2 T r s c ≤ ((3 ^ r : Nat) : Int) := by
      intro c hc
      have k1 := ih _ (ot_V_psh T hs (ot_leg_own (ot_ch_leg (ot_li_mem.mp hc).2)))
      have e : ot_gk 2 T s c = 0 := if_pos rfl
      show 1 ≤ ot_gv (ot_ch 2) 2 T r (ot_psh T s c) + ot_gk 2 T s c ∧ ot_gv (ot_ch 2) 2 T r (ot_psh T s c) + ot_gk 2 T s c ≤ ((3 ^ r : Nat) : Int)
      rw [e, Int.add_zero]
      exact k1
    have k := ot_sum (ot_val (ot_ch 2) 2 T r s) ((3 ^ r : Nat) : Int) (ot_li (ot_ch 2 s)) 0 hb
    have e : ot_sv 2 T (r + 1) s = (ot_li (ot_ch 2 s)).foldl (fun a c => ot_cb 2 false a (ot_val (ot_ch 2) 2 T r s c)) 0 := by
      show (ot_li (ot_ch 2 s)).foldl (fun a c => ot_cb 2 (ot_up 2 s) a (ot_gv (ot_ch 2) 2 T r (ot_psh T s c) + ot_gk 2 T s c)) (ot_in 2 (ot_up 2 s)) = _
      have e0 : ot_in 2 (ot_up 2 s) = 0 := if_pos rfl
      have e1 : ot_up 2 s = false := rfl
      rw [e0, e1]
    rw [e]
    have hlen := ot_ch_len (k := 2) hs
    have hr := hs.2.2.2.1
    obtain ⟨d, hd⟩ := ot_V_ch (k := 2) hs
    have hpos : 0 < (ot_li (ot_ch 2 s)).length := List.length_pos_of_mem hd
    generalize List.foldl (fun a c => ot_cb 2 false a (ot_val (ot_ch 2) 2 T r s c)) 0 (ot_li (ot_ch 2 s)) = x at k
    generalize (ot_li (ot_ch 2 s)).length = n at k hlen hpos
    have h3 : (n : Int) * ((3 ^ r : Nat) : Int) ≤ 3 * ((3 ^ r : Nat) : Int) := Int.mul_le_mul_of_nonneg_right (by omega) (Int.natCast_nonneg _)
    have e5 : ((3 ^ (r + 1) : Nat) : Int) = 3 * ((3 ^ r : Nat) : Int) := by rw [Nat.pow_succ]; omega
    rw [e5]
    omega
theorem ot_sv_any {k : Nat} (T : Int32) {r : Nat} {s : ot_P} (h : ot_V r s) : 0 ≤ ot_sv k T r s ∧ ot_sv k T r s ≤ 600000 := by
  have hr := h.2.2.2.1
  by_cases hk : k = 2
  · subst hk
    have := ot_sv_2 T r s h
    have h3 : 3 ^ r ≤ 3 ^ 12 := Nat.pow_le_pow_right (by omega) hr
    omega
  · have := ot_sv_b hk T h
    omega
/-- the least result is no more than the value -/
theorem ot_lv (T : Int32) : ∀ (r : Nat) (s : ot_P), ot_V r s → ot_sv 1 T r s ≤ ot_sv 0 T r s := by
  intro r
  induction r with
  | zero => intro s _; exact Int.le_refl 0
  | succ r ih =>
    intro s hs
    have hr := hs.2.2.2.1
    have hch : ot_ch 1 s = ot_ch 0 s := rfl
    have hb : ∀ c, c ∈ ot_li (ot_ch 0 s) → 0 ≤ ot_val (ot_ch 0) 0 T r s c ∧ ot_val (ot_ch 0) 0 T r s c < 100 ∧ ot_val (ot_ch 1) 1 T r s c ≤ ot_val (ot_ch 0) 0 T r s c := by
      intro c hc
      have hv := ot_V_psh T hs (ot_leg_own (ot_ch_leg (ot_li_mem.mp hc).2))
      have k1 := ih _ hv
      have k2 := ot_sv_b (k := 0) (by omega) T hv
      have k3 := ot_gn_le T s c
      show 0 ≤ ot_gv (ot_ch 0) 0 T r (ot_psh T s c) + ot_gk 0 T s c ∧ ot_gv (ot_ch 0) 0 T r (ot_psh T s c) + ot_gk 0 T s c < 100 ∧ ot_gv (ot_ch 1) 1 T r (ot_psh T s c) + ot_gk 1 T s c ≤ ot_gv (ot_ch 0) 0 T r (ot_psh T s c) + ot_gk 0 T s c
      rw [ot_gk_n (show 0 ≠ 2 by omega), ot_gk_n (show 1 ≠ 2 by omega)]
      have k1' : ot_gv (ot_ch 1) 1 T r (ot_psh T s c) ≤ ot_gv (ot_ch 0) 0 T r (ot_psh T s c) := k1
      have k2' : 0 ≤ ot_gv (ot_ch 0) 0 T r (ot_psh T s c) ∧ ot_gv (ot_ch 0) 0 T r (ot_psh T s c) ≤ (((r + 3) / 4 : Nat) : Int) := k2
      omega
    obtain ⟨c, hc, e⟩ := ot_opt_in (k := 0) (by omega) (ot_up 0 s) (val := ot_val (ot_ch 0) 0 T r s) (ot_V_ch hs) (fun c hc => ⟨(hb c hc).1, (hb c hc).2.1⟩)
    have A := (ot_opt (k := 1) (by omega) (ot_up 1 s) (ot_val (ot_ch 1) 1 T r s) (ot_li (ot_ch 1 s)) (ot_in 1 (ot_up 1 s))).2.2 (by simp [ot_up])
    have A2 := A.2 c hc
    have A3 := (hb c hc).2.2
    show (ot_li (ot_ch 1 s)).foldl (fun a c => ot_cb 1 (ot_up 1 s) a (ot_val (ot_ch 1) 1 T r s c)) (ot_in 1 (ot_up 1 s)) ≤ (ot_li (ot_ch 0 s)).foldl (fun a c => ot_cb 0 (ot_up 0 s) a (ot_val (ot_ch 0) 0 T r s c)) (ot_in 0 (ot_up 0 s))
    rw [e]
    omega
/-! ===== two touching cards a, b of player m change places ===== -/
def ot_sg (a b x : Nat) : Nat := if x = a then b else if x = b then a else x
theorem ot_sg_a (a b : Nat) : ot_sg a b a = b := if_pos rfl
theorem ot_sg_b (a b : Nat) : ot_sg a b b = a := by
  unfold ot_sg
  split
  · rename_i h; exact h
  · exact if_pos rfl
theorem ot_sg_n {a b x : Nat} (h1 : x ≠ a) (h2 : x ≠ b) : ot_sg a b x = x := by
  unfold ot_sg
  rw [if_neg h1, if_neg h2]
theorem ot_sg_sg (a b x : Nat) : ot_sg a b (ot_sg a b x) = x := by
  by_cases h1 : x = a
  · rw [h1, ot_sg_a, ot_sg_b]
  · by_cases h2 : x = b
    · rw [h2, ot_sg_b, ot_sg_a]
    · rw [ot_sg_n h1 h2, ot_sg_n h1 h2]
theorem ot_sg_q {a b : Nat} (h : a / 4 = b / 4) (x : Nat) : ot_sg a b x / 4 = x / 4 := by
  by_cases h1 : x = a
  · rw [h1, ot_sg_a, h]
  · by_cases h2 : x = b
    · rw [h2, ot_sg_b, h]
    · rw [ot_sg_n h1 h2]
theorem ot_sg_lt {a b x : Nat} (ha : a < 12) (hb : b < 12) (hx : x < 12) : ot_sg a b x < 12 := by
  unfold ot_sg
  split
  · exact hb
  · split
    · exact ha
    · exact hx
def ot_far (a b x : Nat) : Prop := x < 12 ∧ x ≠ a ∧ x ≠ b ∧ (x / 4 = a / 4 → (x < a ↔ x < b))
theorem ot_str_far {a b x : Nat} (T : Int32) (t0 : Nat) (ha : a < 12) (hab : a / 4 = b / 4) (h : ot_far a b x) :
    (ot_str T t0 x < ot_str T t0 a ↔ ot_str T t0 x < ot_str T t0 b) ∧ (ot_str T t0 a < ot_str T t0 x ↔ ot_str T t0 b < ot_str T t0 x) := by
  obtain ⟨hx, h1, h2, h3⟩ := h
  unfold ot_str
  rw [← hab]
  by_cases e : x / 4 = a / 4
  · have h4 := h3 e
    rw [e]
    by_cases hT : nI (a / 4) = T
    · rw [if_pos hT, if_pos hT, if_pos hT]
      omega
    · rw [if_neg hT, if_neg hT, if_neg hT]
      by_cases hq : a / 4 = t0 / 4
      · rw [if_pos hq, if_pos hq, if_pos hq]
        omega
      · rw [if_neg hq, if_neg hq, if_neg hq]
        omega
  · by_cases hT : nI (a / 4) = T
    · have hTx : ¬ nI (x / 4) = T := fun z => e ((nI_eq (by omega) (by omega)).mp (z.trans hT.symm))
      rw [if_pos hT, if_pos hT, if_neg hTx]
      by_cases hq : x / 4 = t0 / 4
      · rw [if_pos hq]
        omega
      · rw [if_neg hq]
        omega
    · rw [if_neg hT, if_neg hT]
      by_cases hTx : nI (x / 4) = T
      · rw [if_pos hTx]
        by_cases hq : a / 4 = t0 / 4
        · rw [if_pos hq, if_pos hq]
          omega
        · rw [if_neg hq, if_neg hq]
          omega
      · rw [if_neg hTx]
        by_cases hq : a / 4 = t0 / 4
        · rw [if_pos hq, if_pos hq, if_neg (fun z => e (z.trans hq.symm))]
          omega
        · rw [if_neg hq, if_neg hq]
          exact ⟨Iff.rfl, Iff.rfl⟩
theorem ot_str_q (T : Int32) {t0 t1 : Nat} (h : t0 / 4 = t1 / 4) (c : Nat) : ot_str T t0 c = ot_str T t1 c := by
  unfold ot_str
  rw [h]
theorem ot_str_sg {a b x y : Nat} (T : Int32) (t0 : Nat) (ha : a < 12) (hb : b < 12) (hab : a / 4 = b / 4) (h : ot_far a b x ∨ ot_far a b y) :
    ot_str T t0 (ot_sg a b x) < ot_str T t0 (ot_sg a b y) ↔ ot_str T t0 x < ot_str T t0 y := by
  rcases h with h | h
  · have k := ot_str_far T t0 ha hab h
    rw [ot_sg_n h.2.1 h.2.2.1]
    by_cases e1 : y = a
    · rw [e1, ot_sg_a]; exact k.1.symm
    · by_cases e2 : y = b
      · rw [e2, ot_sg_b]; exact k.1
      · rw [ot_sg_n e1 e2]
  · have k := ot_str_far T t0 ha hab h
    rw [ot_sg_n h.2.1 h.2.2.1]
    by_cases e1 : x = a
    · rw [e1, ot_sg_a]; exact k.2.symm
    · by_cases e2 : x = b
      · rw [e2, ot_sg_b]; exact k.2
      · rw [ot_sg_n e1 e2]
theorem ot_bp_le (T : Int32) (t : Nat → Nat) (i : Nat) : ot_bp T t i ≤ i := by
  induction i with
  | zero => exact Nat.le_refl 0
  | succ i ih =>
    rw [ot_bp]
    split <;> omega
def ot_Rl (a b m : Nat) (s s' : ot_P) : Prop :=
  s'.2.2.1 = s.2.2.1 ∧ s'.2.2.2 = s.2.2.2 ∧ (∀ c, s'.1 c = s.1 (ot_sg a b c)) ∧ (∀ i, i < s.2.2.2 → s'.2.1 i = ot_sg a b (s.2.1 i)) ∧
  (∀ i, i < s.2.2.2 → (s.2.2.1 + i) % 4 ≠ m → ot_far a b (s.2.1 i)) ∧ (∀ c, s.1 c < 4 → s.1 c ≠ m → ot_far a b c)
theorem ot_Rl_raw {a b m : Nat} {s s' : ot_P} (h : ot_Rl a b m s s') {c : Nat} (hc : ot_own s c = true) : ot_Rl a b m (ot_raw s c) (ot_raw s' (ot_sg a b c)) := by
  have ho : s.1 c = ot_mv s := by simpa [ot_own] using hc
  obtain ⟨o, t, l, p⟩ := s
  obtain ⟨o', t', l', p'⟩ := s'
  obtain ⟨h1, h2, h3, h4, h5, h6⟩ := h
  dsimp only at h1 h2 h3 h4 h5 h6 ho
  subst h1 h2
  have hmv : ot_mv (o, t, l', p') = (l' + p') % 4 := rfl
  rw [hmv] at ho
  refine ⟨rfl, rfl, fun x => ?_, fun i hi => ?_, fun i hi hm => ?_, fun x hx hm => ?_⟩
  · show ot_put o' (ot_sg a b c) 4 x = ot_put o c 4 (ot_sg a b x)
    by_cases e : x = ot_sg a b c
    · rw [e, ot_put_s, ot_sg_sg, ot_put_s]
    · rw [ot_put_n _ _ e, ot_put_n _ _ (fun z => e (by rw [← z, ot_sg_sg])), h3]
  · show ot_put t' p' (ot_sg a b c) i = ot_sg a b (ot_put t p' c i)
    have hi' : i < p' + 1 := hi
    by_cases e : i = p'
    · rw [e, ot_put_s, ot_put_s]
    · rw [ot_put_n _ _ e, ot_put_n _ _ e, h4 i (by omega)]
  · show ot_far a b (ot_put t p' c i)
    have hi' : i < p' + 1 := hi
    have hm' : (l' + i) % 4 ≠ m := hm
    by_cases e : i = p'
    · rw [e, ot_put_s]
      rw [e] at hm'
      exact h6 c (by rw [ho]; exact Nat.mod_lt _ (by omega)) (by rw [ho]; exact hm')
    · rw [ot_put_n _ _ e]
      exact h5 i (by omega) hm'
  · have hx' : ot_put o c 4 x < 4 := hx
    have hm' : ot_put o c 4 x ≠ m := hm
    have e : x ≠ c := by
      intro z
      rw [z, ot_put_s] at hx'
      omega
    rw [ot_put_n _ _ e] at hx' hm'
    exact h6 x hx' hm'
theorem ot_Rl_bp {a b m : Nat} {s s' : ot_P} (T : Int32) (ha : a < 12) (hb : b < 12) (hab : a / 4 = b / 4) (h : ot_Rl a b m s s') (h4 : s.2.2.2 = 4) : ∀ i, i < 4 → ot_bp T s'.2.1 i = ot_bp T s.2.1 i := by
  obtain ⟨h1, h2, h3, ht, hf, h6⟩ := h
  intro i
  induction i with
  | zero => intro _; rfl
  | succ i ih =>
    intro hi
    have hle := ot_bp_le T s.2.1 i
    rw [ot_bp, ot_bp, ih (by omega)]
    have e0 : s'.2.1 0 / 4 = s.2.1 0 / 4 := by rw [ht 0 (by omega), ot_sg_q hab]
    rw [ot_str_q T e0, ot_str_q T e0, ht (ot_bp T s.2.1 i) (by omega), ht (i + 1) (by omega)]
    have hfar : ot_far a b (s.2.1 (ot_bp T s.2.1 i)) ∨ ot_far a b (s.2.1 (i + 1)) := by
      by_cases z : (s.2.2.1 + ot_bp T s.2.1 i) % 4 = m
      · exact Or.inr (hf (i + 1) (by omega) (by omega))
      · exact Or.inl (hf _ (by omega) z)
    have k := ot_str_sg T (s.2.1 0) ha hb hab hfar
    by_cases q : ot_str T (s.2.1 0) (s.2.1 (ot_bp T s.2.1 i)) < ot_str T (s.2.1 0) (s.2.1 (i + 1))
    · rw [if_pos q, if_pos (k.mpr q)]
    · rw [if_neg q, if_neg (fun z => q (k.mp z))]
theorem ot_Rl_fin {a b m : Nat} {s s' : ot_P} (T : Int32) (ha : a < 12) (hb : b < 12) (hab : a / 4 = b / 4) (h : ot_Rl a b m s s') : ot_Rl a b m (ot_fin T s) (ot_fin T s') ∧ ∀ w, ot_gf T w s' = ot_gf T w s := by
  have h2 := h.2.1
  by_cases h4 : s.2.2.2 = 4
  · have hw : ot_win T s' = ot_win T s := by
      unfold ot_win
      rw [h.1, ot_Rl_bp T ha hb hab h h4 3 (by omega)]
    constructor
    · unfold ot_fin
      rw [if_pos h4, if_pos (h2.trans h4), hw]
      exact ⟨rfl, rfl, h.2.2.1, fun i hi => absurd hi (by dsimp only; omega), fun i hi => absurd hi (by dsimp only; omega), h.2.2.2.2.2⟩
    · intro w
      unfold ot_gf
      rw [hw, h2]
  · constructor
    · unfold ot_fin
      rw [if_neg h4, if_neg (by rw [h2]; exact h4)]
      exact h
    · intro w
      unfold ot_gf
      rw [if_neg (fun z => h4 (h2.symm.trans z.1)), if_neg (fun z => h4 z.1)]
theorem ot_leg_sg {a b m : Nat} {s s' : ot_P} (ha : a < 12) (hb : b < 12) (hab : a / 4 = b / 4) (h : ot_Rl a b m s s') (c : Nat) : ot_leg s' (ot_sg a b c) = ot_leg s c := by
  have hmv : ot_mv s' = ot_mv s := by unfold ot_mv; rw [h.1, h.2.1]
  have hown : ∀ c, ot_own s' (ot_sg a b c) = ot_own s c := by
    intro c
    unfold ot_own
    rw [h.2.2.1, ot_sg_sg, hmv]
  unfold ot_leg
  rw [h.2.1]
  by_cases hp : s.2.2.2 = 0
  · rw [if_pos hp, if_pos hp, hown]
  · rw [if_neg hp, if_neg hp]
    have hfol : ∀ c, ot_fol s' (ot_sg a b c) = ot_fol s c := by
      intro c
      unfold ot_fol
      rw [hown, ot_sg_q hab, h.2.2.2.1 0 (by omega), ot_sg_q hab]
    have hz : ot_m (ot_fol s') = 0 ↔ ot_m (ot_fol s) = 0 := by
      constructor
      · intro z
        refine ot_m_0 (fun c hc => ?_)
        rw [← hfol, ← ot_m_tb (ot_fol s') (ot_sg_lt ha hb hc), z, Nat.zero_testBit]
      · intro z
        refine ot_m_0 (fun c hc => ?_)
        have := hfol (ot_sg a b c)
        rw [ot_sg_sg] at this
        rw [this, ← ot_m_tb (ot_fol s) (ot_sg_lt ha hb hc), z, Nat.zero_testBit]
    by_cases q : ot_m (ot_fol s) = 0
    · rw [if_pos q, if_pos (hz.mpr q), hown]
    · rw [if_neg q, if_neg (fun z => q (hz.mp z)), hfol]
/-- related positions have the same full value -/
theorem ot_sym {a b m : Nat} (T : Int32) (ha : a < 12) (hb : b < 12) (hab : a / 4 = b / 4) : ∀ (r : Nat) (s s' : ot_P), ot_Rl a b m s s' → ot_gv ot_leg 0 T r s = ot_gv ot_leg 0 T r s' := by
  intro r
  induction r with
  | zero => intro s s' _; rfl
  | succ r ih =>
    intro s s' h
    have hmv : ot_mv s' = ot_mv s := by unfold ot_mv; rw [h.1, h.2.1]
    have hup : ot_up 0 s' = ot_up 0 s := by unfold ot_up; rw [hmv]
    have hval : ∀ c, ot_leg s c = true → ot_val ot_leg 0 T r s' (ot_sg a b c) = ot_val ot_leg 0 T r s c := by
      intro c hc
      have k := ot_Rl_fin T ha hb hab (ot_Rl_raw h (ot_leg_own hc))
      have e1 := ih _ _ k.1
      have e2 := k.2 0
      show ot_gv ot_leg 0 T r (ot_fin T (ot_raw s' (ot_sg a b c))) + ot_gk 0 T s' (ot_sg a b c) = ot_gv ot_leg 0 T r (ot_fin T (ot_raw s c)) + ot_gk 0 T s c
      rw [ot_gk_n (by omega), ot_gk_n (by omega), e1]
      show _ + ((ot_gf T 0 (ot_raw s' (ot_sg a b c)) : Nat) : Int) = _ + ((ot_gf T 0 (ot_raw s c) : Nat) : Int)
      rw [e2]
    show (ot_li (ot_leg s)).foldl (fun a c => ot_cb 0 (ot_up 0 s) a (ot_val ot_leg 0 T r s c)) (ot_in 0 (ot_up 0 s)) = (ot_li (ot_leg s')).foldl (fun a c => ot_cb 0 (ot_up 0 s') a (ot_val ot_leg 0 T r s' c)) (ot_in 0 (ot_up 0 s'))
    rw [hup]
    refine ot_opt_same (by omega) _ _ (fun c hc => ?_) (fun c hc => ?_)
    · have hc' := ot_li_mem.mp hc
      exact ⟨ot_sg a b c, ot_li_mem.mpr ⟨ot_sg_lt ha hb hc'.1, by rw [ot_leg_sg ha hb hab h]; exact hc'.2⟩, hval c hc'.2⟩
    · have hc' := ot_li_mem.mp hc
      have hl : ot_leg s (ot_sg a b c) = true := by rw [← ot_leg_sg ha hb hab h, ot_sg_sg]; exact hc'.2
      refine ⟨ot_sg a b c, ot_li_mem.mpr ⟨ot_sg_lt ha hb hc'.1, hl⟩, ?_⟩
      have := hval _ hl
      rw [ot_sg_sg] at this
      exact this.symm
/-- touching cards are worth the same -/
theorem ot_touch {r : Nat} {s : ot_P} (T : Int32) (h : ot_V (r + 1) s) {b c : Nat} (hbc : b < c) (hb : ot_leg s b = true) (hc : ot_leg s c = true)
    (hx : ∀ x, b < x → x ≤ c → ¬ x % 4 = 0 ∧ ¬ ot_oth s x = true) : ot_val ot_leg 0 T r s b = ot_val ot_leg 0 T r s c := by
  have hb1 := ot_leg_own hb
  have hc1 := ot_leg_own hc
  have hb12 := ot_V_card h hb1
  have hc12 := ot_V_card h hc1
  have hob : s.1 b = ot_mv s := by simpa [ot_own] using hb1
  have hoc : s.1 c = ot_mv s := by simpa [ot_own] using hc1
  have hm4 := ot_mv_lt s
  have hq : b / 4 = c / 4 := by
    rcases Nat.lt_or_ge (b / 4) (c / 4) with z | z
    · exact absurd (show 4 * (c / 4) % 4 = 0 by omega) (hx (4 * (c / 4)) (by omega) (by omega)).1
    · omega
  have hfar : ∀ x, x < 12 → ot_oth s x = true → x ≠ b → x ≠ c → ot_far b c x := by
    intro x hx12 ho h1 h2
    refine ⟨hx12, h1, h2, fun _ => ?_⟩
    constructor
    · intro z; omega
    · intro z
      rcases Nat.lt_or_ge b x with w | w
      · exact absurd ho (hx x w (by omega)).2
      · omega
  have hrl : ot_Rl b c (ot_mv s) (ot_raw s b) (ot_raw s c) := by
    refine ⟨rfl, rfl, fun x => ?_, fun i hi => ?_, fun i hi hm => ?_, fun x hx4 hm => ?_⟩
    · show ot_put s.1 c 4 x = ot_put s.1 b 4 (ot_sg b c x)
      by_cases e1 : x = b
      · rw [e1, ot_sg_a, ot_put_n _ _ (show b ≠ c by omega), ot_put_n _ _ (show c ≠ b by omega), hob, hoc]
      · by_cases e2 : x = c
        · rw [e2, ot_sg_b, ot_put_s, ot_put_s]
        · rw [ot_sg_n e1 e2, ot_put_n _ _ e1, ot_put_n _ _ e2]
    · show ot_put s.2.1 s.2.2.2 c i = ot_sg b c (ot_put s.2.1 s.2.2.2 b i)
      have hi' : i < s.2.2.2 + 1 := hi
      by_cases e : i = s.2.2.2
      · rw [e, ot_put_s, ot_put_s, ot_sg_a]
      · have k := (h.2.2.2.2.2.2.2.1 i (by omega)).2
        rw [ot_put_n _ _ e, ot_put_n _ _ e, ot_sg_n (fun z => by rw [z] at k; omega) (fun z => by rw [z] at k; omega)]
    · show ot_far b c (ot_put s.2.1 s.2.2.2 b i)
      have hi' : i < s.2.2.2 + 1 := hi
      have hm' : (s.2.2.1 + i) % 4 ≠ (s.2.2.1 + s.2.2.2) % 4 := hm
      have e : i ≠ s.2.2.2 := fun z => hm' (by rw [z])
      have k := h.2.2.2.2.2.2.2.1 i (by omega)
      rw [ot_put_n _ _ e]
      refine hfar _ k.1 ?_ (fun z => by rw [z] at k; omega) (fun z => by rw [z] at k; omega)
      unfold ot_oth
      rw [(ot_inT_iff _ _ _).mpr ⟨i, by omega, rfl⟩, Bool.or_true]
    · have hx' : ot_put s.1 b 4 x < 4 := hx4
      have hm' : ot_put s.1 b 4 x ≠ ot_mv s := hm
      have e : x ≠ b := by
        intro z
        rw [z, ot_put_s] at hx'
        omega
      rw [ot_put_n _ _ e] at hx' hm'
      have hx12 : x < 12 := by
        rcases Nat.lt_or_ge x 12 with z | z
        · exact z
        · have := h.2.2.2.2.2.1 x z
          omega
      refine hfar x hx12 ?_ e (fun z => hm' (by rw [z]; exact hoc))
      unfold ot_oth
      rw [decide_eq_true hx', bne_iff_ne.mpr hm']
      rfl
  have k := ot_Rl_fin T hb12 hc12 hq hrl
  have e1 := ot_sym T hb12 hc12 hq r _ _ k.1
  have e2 := k.2 0
  show ot_gv ot_leg 0 T r (ot_fin T (ot_raw s b)) + ot_gk 0 T s b = ot_gv ot_leg 0 T r (ot_fin T (ot_raw s c)) + ot_gk 0 T s c
  rw [ot_gk_n (by omega), ot_gk_n (by omega), e1]
  show _ + ((ot_gf T 0 (ot_raw s b) : Nat) : Int) = _ + ((ot_gf T 0 (ot_raw s c) : Nat) : Int)
  rw [e2]
/-- the reduced search loses nothing -/
theorem ot_fullv (T : Int32) : ∀ (r : Nat) (s : ot_P), ot_V r s → ot_sv 0 T r s = ot_gv ot_leg 0 T r s := by
  intro r
  induction r with
  | zero => intro s _; rfl
  | succ r ih =>
    intro s hs
    have hval : ∀ c, ot_leg s c = true → ot_val (ot_ch 0) 0 T r s c = ot_val ot_leg 0 T r s c := by
      intro c hc
      have k := ih _ (ot_V_psh T hs (ot_leg_own hc))
      show ot_gv (ot_ch 0) 0 T r (ot_psh T s c) + ot_gk 0 T s c = ot_gv ot_leg 0 T r (ot_psh T s c) + ot_gk 0 T s c
      rw [show ot_gv (ot_ch 0) 0 T r (ot_psh T s c) = _ from k]
    show (ot_li (ot_ch 0 s)).foldl (fun a c => ot_cb 0 (ot_up 0 s) a (ot_val (ot_ch 0) 0 T r s c)) (ot_in 0 (ot_up 0 s)) = (ot_li (ot_leg s)).foldl (fun a c => ot_cb 0 (ot_up 0 s) a (ot_val ot_leg 0 T r s c)) (ot_in 0 (ot_up 0 s))
    refine ot_opt_same (by omega) _ _ (fun c hc => ?_) (fun c hc => ?_)
    · have hc' := ot_li_mem.mp hc
      have hl := ot_ch_leg hc'.2
      exact ⟨c, ot_li_mem.mpr ⟨hc'.1, hl⟩, (hval c hl).symm⟩
    · have hc' := ot_li_mem.mp hc
      obtain ⟨a, ha, hf, e⟩ := ot_few_rep (st := ot_leg s) (oth := ot_oth s) (val := ot_val ot_leg 0 T r s) (fun b c h1 h2 h3 h4 => ot_touch T hs h1 h2 h3 h4) c hc'.2
      have hfa : ot_ch 0 s a = true := hf
      refine ⟨a, ot_li_mem.mpr ⟨by omega, hfa⟩, ?_⟩
      rw [hval a (ot_ch_leg hfa)]
      exact e
/-- so the value is the optimum over all legal cards, of the same numbers -/
theorem ot_value (T : Int32) {r : Nat} {s : ot_P} (h : ot_V (r + 1) s) : ot_sv 0 T (r + 1) s = (ot_li (ot_leg s)).foldl (fun a c => ot_cb 0 (ot_up 0 s) a (ot_val (ot_ch 0) 0 T r s c)) (ot_in 0 (ot_up 0 s)) := by
  rw [ot_fullv T (r + 1) s h]
  show (ot_li (ot_leg s)).foldl (fun a c => ot_cb 0 (ot_up 0 s) a (ot_val ot_leg 0 T r s c)) (ot_in 0 (ot_up 0 s)) = _
  refine ot_opt_same (by omega) _ _ (fun c hc => ⟨c, hc, ?_⟩) (fun c hc => ⟨c, hc, ?_⟩)
  · have k := ot_fullv T r _ (ot_V_psh T h (ot_leg_own (ot_li_mem.mp hc).2))
    show ot_gv (ot_ch 0) 0 T r (ot_psh T s c) + ot_gk 0 T s c = ot_gv ot_leg 0 T r (ot_psh T s c) + ot_gk 0 T s c
    rw [show ot_gv (ot_ch 0) 0 T r (ot_psh T s c) = _ from k]
  · have k := ot_fullv T r _ (ot_V_psh T h (ot_leg_own (ot_li_mem.mp hc).2))
    show ot_gv ot_leg 0 T r (ot_psh T s c) + ot_gk 0 T s c = ot_gv (ot_ch 0) 0 T r (ot_psh T s c) + ot_gk 0 T s c
    rw [show ot_gv (ot_ch 0) 0 T r (ot_psh T s c) = _ from k]
/-- how many rounds the search may take -/
def ot_B : Nat → Nat
  | 0 => 0
  | r + 1 => 1 + (r + 4) / 4 * (1 + ot_B r)
theorem ot_B_12 : ∀ r, r ≤ 12 → ot_B r ≤ 14173 := by decide
end
section
/-! ===== the walk of the small methods ===== -/
theorem ot_c4 : ¬ (4 : Int32) = 0 := by decide
/-- a played card with what was before: position, tricks of the two sides, card -/
abbrev ot_E : Type := ot_P × Nat × Nat × Nat
def ot_pst (a4 a5 a6 a7 a8 a9 : Nat → Int32) : List ot_E → Prop
  | [] => True
  | (s, w1, w2, c) :: tl => a4 tl.length = nI c ∧ a5 tl.length = nI s.2.2.1 ∧ a7 tl.length = nI s.2.2.2 ∧ a8 tl.length = nI w1 ∧ a9 tl.length = nI w2 ∧ (∀ i, i < s.2.2.2 → a6 (4 * tl.length + i) = nI (s.2.1 i)) ∧ ot_pst a4 a5 a6 a7 a8 a9 tl
theorem ot_pst_keep {a4 a5 a6 a7 a8 a9 b4 b5 b6 b7 b8 b9 : Nat → Int32} (n : Nat) (h4 : ∀ j, j < n → b4 j = a4 j) (h5 : ∀ j, j < n → b5 j = a5 j) (h6 : ∀ j, j < 4 * n → b6 j = a6 j) (h7 : ∀ j, j < n → b7 j = a7 j) (h8 : ∀ j, j < n → b8 j = a8 j) (h9 : ∀ j, j < n → b9 j = a9 j) :
    ∀ tr : List ot_E, tr.length ≤ n → (∀ e, e ∈ tr → e.1.2.2.2 < 4) → ot_pst a4 a5 a6 a7 a8 a9 tr → ot_pst b4 b5 b6 b7 b8 b9 tr := by
  intro tr
  induction tr with
  | nil => intro _ _ _; trivial
  | cons e tl ih =>
    intro hn hp h
    obtain ⟨s, w1, w2, c⟩ := e
    obtain ⟨q1, q2, q3, q4, q5, q6, q7⟩ := h
    have hl : tl.length < n := hn
    have hp0 : s.2.2.2 < 4 := hp (s, w1, w2, c) (by simp)
    refine ⟨by rw [h4 _ hl]; exact q1, by rw [h5 _ hl]; exact q2, by rw [h7 _ hl]; exact q3, by rw [h8 _ hl]; exact q4, by rw [h9 _ hl]; exact q5, fun i hi => by rw [h6 _ (by omega)]; exact q6 i hi, ih (by omega) (fun e he => hp e (by simp [he])) q7⟩
/-- the state shows the position -/
def ot_R (T : Int32) (s : ot_P) (w1 w2 : Nat) (tr : List ot_E) (u : St1) : Prop := match u with
  | (on, tp, ld, pl, fw, sw, st, kd, en, a1, a2, a3, a4, a5, a6, a7, a8, a9, a10, a11, a12, a13, a14) => on = 1 ∧ tp = T ∧ ld = nI s.2.2.1 ∧ pl = nI s.2.2.2 ∧ fw = nI w1 ∧ sw = nI w2 ∧ st = nI tr.length ∧ (∀ p, p < 4 → a2 p = nI (ot_m (fun c => s.1 c == p))) ∧ (∀ i, i < s.2.2.2 → a3 i = nI (s.2.1 i)) ∧ ot_pst a4 a5 a6 a7 a8 a9 tr
theorem ot_mvI {l p : Nat} (hl : l < 4) (hp : p < 4) : (nI l + nI p) &&& 3 = nI ((l + p) % 4) := by
  rw [nI_add, pk_andN (show l + p < 2 ^ 32 by omega) 2 (by decide)]
theorem ot_mover {post : Int32 → Prop} {on tp ld pl fw sw st kd en : Int32} {a1 a2 a3 a4 a5 a6 a7 a8 a9 a10 a11 a12 : Nat → Int32} {a13 : Nat → Int64} {a14 : Nat → Int32} {s : ot_P} (hl : s.2.2.1 < 4) (hp : s.2.2.2 < 4) (h1 : ld = nI s.2.2.1) (h2 : pl = nI s.2.2.2) (H : post (nI (ot_mv s))) : wpX_mover post (on, tp, ld, pl, fw, sw, st, kd, en, a1, a2, a3, a4, a5, a6, a7, a8, a9, a10, a11, a12, a13, a14) := by
  show post ((ld + pl) &&& 3)
  rw [h1, h2, ot_mvI hl hp]
  exact H
theorem ot_sizeOf {post : Int32 → Prop} {u : St1} {m : Nat} (hm : m < 2 ^ 31) (H : post (nI (ot_cn m.testBit 12))) : wpX_sizeOf post u (nI m) := by
  obtain ⟨on, tp, ld, pl, fw, sw, st, kd, en, a1, a2, a3, a4, a5, a6, a7, a8, a9, a10, a11, a12, a13, a14⟩ := u
  exact pk_loop (σ := Unit) (fun n i _ => wX_sizeOf_4 post (nI m) on tp ld pl fw sw st kd en a1 a2 a3 a4 a5 a6 a7 a8 a9 a10 a11 a12 a13 a14 n (nI (ot_cn m.testBit i)) (nI i)) (fun _ _ => True) 12 0 () (by omega) trivial
    (fun n _ _ => pk_le 12 12 (fun _ => H) (fun z => absurd z (by omega)))
    (fun n i _ hi _ hw => pk_le 12 i (fun z => absurd z (by omega)) (fun _ => nm_r (by rw [ot_bitN hm (by omega), nI_add]; rfl) (nm_r (nI_1 i) (hw () trivial))))
theorem ot_sizeM {post : Int32 → Prop} {u : St1} (f : Nat → Bool) (H : post (nI (ot_cn f 12))) : wpX_sizeOf post u (nI (ot_m f)) :=
  ot_sizeOf (by have := ot_m_lt f; omega) (by rw [ot_cn_m]; exact H)
theorem ot_legalNow {post : Int32 → Prop} {u : St1} {T : Int32} {s : ot_P} {w1 w2 r : Nat} {tr : List ot_E} (hR : ot_R T s w1 w2 tr u) (hV : ot_V r s) (H : post (nI (ot_m (ot_leg s)))) : wpX_legalNow post u := by
  obtain ⟨on, tp, ld, pl, fw, sw, st, kd, en, a1, a2, a3, a4, a5, a6, a7, a8, a9, a10, a11, a12, a13, a14⟩ := u
  obtain ⟨h1, h2, h3, h4, h5, h6, h7, h8, h9, h10⟩ := hR
  have hmv := ot_mv_lt s
  have e2 : a2 (nI (ot_mv s)).toNatClampNeg = nI (ot_m (ot_own s)) := by
    rw [nI_clamp (by omega)]
    exact h8 _ hmv
  unfold wpX_legalNow
  refine ot_mover hV.1 hV.2.1 h3 h4 ?_
  refine ⟨pk_in _ 4 hmv, nm_r e2 ?_⟩
  have hp := hV.2.1
  by_cases hp0 : s.2.2.2 = 0
  · refine br_t (by rw [h4, hp0]; rfl) ?_
    have e : ot_leg s = ot_own s := by
      funext c
      exact if_pos hp0
    rw [← e]
    exact H
  · refine br_f (by rw [h4]; exact nI_ne0 (by omega) (by omega)) ⟨ot_c4, ?_⟩
    have ht := (hV.2.2.2.2.2.2.2.1 0 (by omega)).1
    have eq : a3 0 / 4 = nI (s.2.1 0 / 4) := by
      rw [h9 0 (by omega)]
      exact pk_div (d := 4) (by omega) (by omega) (by omega)
    rw [eq]
    show ∀ x, x = nI (ot_m (ot_own s)) &&& ((15 : Int32) <<< ((4 * nI (s.2.1 0 / 4)) &&& 31)) → _
    rw [ot_suit _ (by omega), ot_andM]
    refine nm_e ?_
    have ef : ot_m (fun x => ot_own s x && x / 4 == s.2.1 0 / 4) = ot_m (ot_fol s) := rfl
    rw [ef]
    have hlt := ot_m_lt (ot_fol s)
    by_cases hz : ot_m (ot_fol s) = 0
    · refine br_t (by rw [hz]; rfl) ?_
      have e : ot_leg s = ot_own s := by
        funext c
        exact (if_neg hp0).trans (if_pos hz)
      rw [← e]
      exact H
    · refine br_f (nI_ne0 (by omega) (by omega)) ?_
      have e : ot_leg s = ot_fol s := by
        funext c
        exact (if_neg hp0).trans (if_neg hz)
      rw [← e]
      exact H
theorem ot_strength {post : Int32 → Prop} {on tp ld pl fw sw st kd en : Int32} {a1 a2 a3 a4 a5 a6 a7 a8 a9 a10 a11 a12 : Nat → Int32} {a13 : Nat → Int64} {a14 : Nat → Int32} {T : Int32} {t0 c : Nat} (hT : tp = T) (h0 : a3 0 = nI t0) (ht : t0 < 12) (hc : c < 12) (H : post (nI (ot_str T t0 c))) : wpX_strength post (on, tp, ld, pl, fw, sw, st, kd, en, a1, a2, a3, a4, a5, a6, a7, a8, a9, a10, a11, a12, a13, a14) (nI c) := by
  have e1 : nI c / 4 = nI (c / 4) := pk_div (d := 4) (by omega) (by omega) (by omega)
  have e2 : nI c - nI c / 4 * 4 = nI (c % 4) := pk_rem (d := 4) (by omega) (by omega) (by omega)
  have e3 : a3 0 / 4 = nI (t0 / 4) := by
    rw [h0]
    exact pk_div (d := 4) (by omega) (by omega) (by omega)
  refine ⟨ot_c4, ?_⟩
  rw [e2, e1, e3, hT]
  unfold ot_str at H
  by_cases k1 : nI (c / 4) = T
  · rw [if_pos k1] at H
    exact br_t k1 ⟨ot_c4, by rw [show (10 : Int32) = nI 10 from rfl, nI_add]; exact H⟩
  · rw [if_neg k1] at H
    refine br_f k1 ⟨ot_c4, ot_c4, ?_⟩
    by_cases k2 : c / 4 = t0 / 4
    · rw [if_pos k2] at H
      exact br_t (by rw [k2]) ⟨ot_c4, by rw [show (1 : Int32) = nI 1 from rfl, nI_add]; exact H⟩
    · rw [if_neg k2] at H
      exact br_f (fun z => k2 ((nI_eq (by omega) (by omega)).mp z)) H
theorem ot_str_lt (T : Int32) (t0 c : Nat) : ot_str T t0 c < 20 := by
  unfold ot_str
  split
  · omega
  · split <;> omega
theorem ot_bestPlace {post : Int32 → Prop} {on tp ld pl fw sw st kd en : Int32} {a1 a2 a3 a4 a5 a6 a7 a8 a9 a10 a11 a12 : Nat → Int32} {a13 : Nat → Int64} {a14 : Nat → Int32} {T : Int32} {t : Nat → Nat} (hT : tp = T) (h4 : pl = nI 4) (ha : ∀ i, i < 4 → a3 i = nI (t i)) (ht : ∀ i, i < 4 → t i < 12) (H : post (nI (ot_bp T t 3))) : wpX_bestPlace post (on, tp, ld, pl, fw, sw, st, kd, en, a1, a2, a3, a4, a5, a6, a7, a8, a9, a10, a11, a12, a13, a14) := by
  subst h4
  exact pk_loop (σ := Unit) (fun n i _ => wX_bestPlace_4 post on tp ld (nI 4) fw sw st kd en a1 a2 a3 a4 a5 a6 a7 a8 a9 a10 a11 a12 a13 a14 n (nI (ot_bp T t (i - 1))) (nI i)) (fun i _ => 1 ≤ i) 4 1 () (by omega) (by omega)
    (fun n _ _ => pk_le 4 4 (fun _ => H) (fun z => absurd z (by omega)))
    (fun n i _ hi h1 hw => pk_le 4 i (fun z => absurd z (by omega)) (fun _ => by
      have hb := ot_bp_le T t (i - 1)
      have hw' : wX_bestPlace_4 post on tp ld (nI 4) fw sw st kd en a1 a2 a3 a4 a5 a6 a7 a8 a9 a10 a11 a12 a13 a14 n (nI (ot_bp T t i)) (nI (i + 1)) := hw () (by omega)
      have ei : ot_bp T t i = if ot_str T (t 0) (t (ot_bp T t (i - 1))) < ot_str T (t 0) (t i) then i else ot_bp T t (i - 1) := by
        obtain ⟨j, rfl⟩ : ∃ j, i = j + 1 := ⟨i - 1, by omega⟩
        rfl
      have s1 := ot_str_lt T (t 0) (t i)
      have s2 := ot_str_lt T (t 0) (t (ot_bp T t (i - 1)))
      refine ⟨pk_in i 4 hi, ?_⟩
      rw [nI_clamp (show i < 2 ^ 31 by omega), ha i hi]
      refine ot_strength hT (ha 0 (by omega)) (ht 0 (by omega)) (ht i hi) ⟨pk_in (ot_bp T t (i - 1)) 4 (by omega), ?_⟩
      rw [nI_clamp (show ot_bp T t (i - 1) < 2 ^ 31 by omega), ha _ (by omega)]
      refine ot_strength hT (ha 0 (by omega)) (ht 0 (by omega)) (ht _ (by omega)) ?_
      refine pk_le (ot_str T (t 0) (t i)) (ot_str T (t 0) (t (ot_bp T t (i - 1)))) (fun z => nm_r (nI_1 i) ?_) (fun z => nm_r (nI_1 i) ?_)
      · rw [ei, if_neg (by omega)] at hw'
        exact hw'
      · rw [ei, if_pos z] at hw'
        exact hw'))
end
section
/-! ===== push and pop ===== -/
theorem ot_psh_o (T : Int32) (s : ot_P) (c : Nat) : (ot_psh T s c).1 = ot_put s.1 c 4 := by
  unfold ot_psh ot_fin
  split <;> rfl
theorem ot_psh_3 (T : Int32) {s : ot_P} (c : Nat) (h : s.2.2.2 + 1 = 4) : ot_psh T s c = (ot_put s.1 c 4, fun _ => 0, (s.2.2.1 + ot_bp T (ot_put s.2.1 s.2.2.2 c) 3) % 4, 0) := if_pos h
theorem ot_psh_n (T : Int32) {s : ot_P} (c : Nat) (h : s.2.2.2 + 1 ≠ 4) : ot_psh T s c = (ot_put s.1 c 4, ot_put s.2.1 s.2.2.2 c, s.2.2.1, s.2.2.2 + 1) := if_neg h
theorem ot_a2_push {a2 : Nat → Int32} {o : Nat → Nat} {c m : Nat} (hc : c < 12) (ho : o c = m) (hm : m < 4) (h : ∀ p, p < 4 → a2 p = nI (ot_m (fun x => o x == p))) :
    ∀ p, p < 4 → upd a2 m (a2 m &&& (((1 : Int32) <<< (nI c &&& 31)) ^^^ (-1))) p = nI (ot_m (fun x => ot_put o c 4 x == p)) := by
  intro p hp
  by_cases e : p = m
  · rw [e, pk_us, h m hm, ot_clr _ hc]
    refine congrArg nI (ot_m_congr (fun x hx => ?_))
    by_cases z : x = c
    · rw [z, ot_put_s, beq_eq_false_iff_ne.mpr (show (4 : Nat) ≠ m by omega)]
      simp
    · rw [ot_put_n _ _ z]
      simp [z]
  · rw [pk_un e, h p hp]
    refine congrArg nI (ot_m_congr (fun x hx => ?_))
    by_cases z : x = c
    · rw [z, ot_put_s, ho, beq_eq_false_iff_ne.mpr (show (4 : Nat) ≠ p by omega), beq_eq_false_iff_ne.mpr (fun w => e w.symm)]
    · rw [ot_put_n _ _ z]
theorem ot_a2_pop {a2 : Nat → Int32} {o : Nat → Nat} {c m : Nat} (hc : c < 12) (ho : o c = m) (hm : m < 4) (h : ∀ p, p < 4 → a2 p = nI (ot_m (fun x => ot_put o c 4 x == p))) :
    ∀ p, p < 4 → upd a2 m (a2 m ||| ((1 : Int32) <<< (nI c &&& 31))) p = nI (ot_m (fun x => o x == p)) := by
  intro p hp
  by_cases e : p = m
  · rw [e, pk_us, h m hm, ot_set _ hc]
    refine congrArg nI (ot_m_congr (fun x hx => ?_))
    by_cases z : x = c
    · rw [z, ho]
      simp
    · rw [ot_put_n _ _ z]
      simp [z]
  · rw [pk_un e, h p hp]
    refine congrArg nI (ot_m_congr (fun x hx => ?_))
    by_cases z : x = c
    · rw [z, ot_put_s, ho, beq_eq_false_iff_ne.mpr (show (4 : Nat) ≠ p by omega), beq_eq_false_iff_ne.mpr (fun w => e w.symm)]
    · rw [ot_put_n _ _ z]
theorem ot_a3_push {a3 : Nat → Int32} {t : Nat → Nat} {p c : Nat} (h : ∀ i, i < p → a3 i = nI (t i)) : ∀ i, i < p + 1 → upd a3 p (nI c) i = nI (ot_put t p c i) := by
  intro i hi
  by_cases e : i = p
  · rw [e, pk_us, ot_put_s]
  · rw [pk_un e, ot_put_n _ _ e, h i (by omega)]
theorem ot_46 (k i : Nat) : (4 * nI k) + nI i = nI (4 * k + i) := by
  rw [show (4 : Int32) = nI 4 from rfl, pk_mul, nI_add]
theorem ot_push {post : St1 → Prop} {on tp ld pl fw sw st kd en : Int32} {a1 a2 a3 a4 a5 a6 a7 a8 a9 a10 a11 a12 : Nat → Int32} {a13 : Nat → Int64} {a14 : Nat → Int32} {T : Int32} {s : ot_P} {w1 w2 r c : Nat} {tr : List ot_E} (hR : ot_R T s w1 w2 tr (on, tp, ld, pl, fw, sw, st, kd, en, a1, a2, a3, a4, a5, a6, a7, a8, a9, a10, a11, a12, a13, a14)) (hV : ot_V (r + 1) s) (hE : ∀ e, e ∈ tr → e.1.2.2.2 < 4) (hn : tr.length < 13) (hc : ot_own s c = true)
    (H : ∀ (ld' pl' fw' sw' st' : Int32) (b2 b3 b4 b5 b6 b7 b8 b9 : Nat → Int32), ot_R T (ot_psh T s c) (w1 + ot_gn T s c) (w2 + ot_gs T s c) ((s, w1, w2, c) :: tr) (on, tp, ld', pl', fw', sw', st', kd, en, a1, b2, b3, b4, b5, b6, b7, b8, b9, a10, a11, a12, a13, a14) →
      post (on, tp, ld', pl', fw', sw', st', kd, en, a1, b2, b3, b4, b5, b6, b7, b8, b9, a10, a11, a12, a13, a14)) : wpX_push post (on, tp, ld, pl, fw, sw, st, kd, en, a1, a2, a3, a4, a5, a6, a7, a8, a9, a10, a11, a12, a13, a14) (nI c) := by
  obtain ⟨h1, h2, h3, h4, h5, h6, h7, h8, h9, h10⟩ := hR
  have hc12 := ot_V_card hV hc
  have ho : s.1 c = ot_mv s := by simpa [ot_own] using hc
  have hmv := ot_mv_lt s
  have hp4 := hV.2.1
  have est : st.toNatClampNeg = tr.length := by rw [h7]; exact nI_clamp (by omega)
  have vin : vp_in st 13 := by rw [h7]; exact vp_in_nI hn (by omega)
  refine ⟨vin, nm_e ⟨vin, nm_e ⟨vin, nm_e ⟨vin, nm_e ⟨vin, nm_e ?_⟩⟩⟩⟩⟩
  rw [est]
  have p4 : ∀ j, j < tr.length → upd a4 tr.length (nI c) j = a4 j := fun j hj => pk_un (by omega)
  have p5 : ∀ j, j < tr.length → upd a5 tr.length ld j = a5 j := fun j hj => pk_un (by omega)
  have p7 : ∀ j, j < tr.length → upd a7 tr.length pl j = a7 j := fun j hj => pk_un (by omega)
  have p8 : ∀ j, j < tr.length → upd a8 tr.length fw j = a8 j := fun j hj => pk_un (by omega)
  have p9 : ∀ j, j < tr.length → upd a9 tr.length sw j = a9 j := fun j hj => pk_un (by omega)
  have q4 : upd a4 tr.length (nI c) tr.length = nI c := pk_us
  have q5 : upd a5 tr.length ld tr.length = ld := pk_us
  have q7 : upd a7 tr.length pl tr.length = pl := pk_us
  have q8 : upd a8 tr.length fw tr.length = fw := pk_us
  have q9 : upd a9 tr.length sw tr.length = sw := pk_us
  generalize upd a4 tr.length (nI c) = b4 at p4 q4 ⊢
  generalize upd a5 tr.length ld = b5 at p5 q5 ⊢
  generalize upd a7 tr.length pl = b7 at p7 q7 ⊢
  generalize upd a8 tr.length fw = b8 at p8 q8 ⊢
  generalize upd a9 tr.length sw = b9 at p9 q9 ⊢
  refine pk_loop (fun n i (x : Nat → Int32) => wX_push_64 post (nI c) on tp ld pl fw sw st kd en n (nI i) a1 a2 a3 b4 b5 x b7 b8 b9 a10 a11 a12 a13 a14) (fun i x => (∀ j, j < i → x (4 * tr.length + j) = a3 j) ∧ ∀ j, j < 4 * tr.length → x j = a6 j) 4 0 a6 (by omega) ⟨fun j hj => absurd hj (by omega), fun j _ => rfl⟩ ?_ ?_
  · intro n x hx
    have pst : ot_pst b4 b5 x b7 b8 b9 ((s, w1, w2, c) :: tr) :=
      ⟨q4, by rw [q5]; exact h3, by rw [q7]; exact h4, by rw [q8]; exact h5, by rw [q9]; exact h6, fun i hi => by rw [hx.1 i (by omega)]; exact h9 i hi, ot_pst_keep tr.length p4 p5 hx.2 p7 p8 p9 tr (Nat.le_refl _) hE h10⟩
    refine pk_le 4 4 (fun _ => ?_) (fun z => absurd z (by omega))
    refine nm_r (show st + 1 = nI (tr.length + 1) by rw [h7]; exact nI_1 _) ?_
    refine ot_mover hV.1 hV.2.1 h3 h4 ?_
    refine ⟨pk_in (ot_mv s) 4 hmv, pk_in (ot_mv s) 4 hmv, ?_⟩
    rw [nI_clamp (show ot_mv s < 2 ^ 31 by omega)]
    have k2 := ot_a2_push hc12 ho hmv h8
    refine nm_e ?_
    generalize upd a2 (ot_mv s) (a2 (ot_mv s) &&& (((1 : Int32) <<< (nI c &&& 31)) ^^^ (-1))) = b2 at k2 ⊢
    have epl : pl.toNatClampNeg = s.2.2.2 := by rw [h4]; exact nI_clamp (by omega)
    refine ⟨by rw [h4]; exact vp_in_nI hp4 (by omega), ?_⟩
    rw [epl]
    have k3 := ot_a3_push (c := c) h9
    refine nm_e ?_
    generalize upd a3 s.2.2.2 (nI c) = b3 at k3 ⊢
    refine nm_r (show pl + 1 = nI (s.2.2.2 + 1) by rw [h4]; exact nI_1 _) ?_
    refine pk_eq (s.2.2.2 + 1) 4 (fun z => ?_) (fun z => ?_)
    · have ht : ∀ i, i < 4 → ot_put s.2.1 s.2.2.2 c i < 12 := by
        intro i hi
        by_cases e : i = s.2.2.2
        · rw [e, ot_put_s]; exact hc12
        · rw [ot_put_n _ _ e]; exact (hV.2.2.2.2.2.2.2.1 i (by omega)).1
      refine ot_bestPlace (t := ot_put s.2.1 s.2.2.2 c) h2 (by rw [z]) (fun i hi => k3 i (by omega)) ht ?_
      have hb := ot_bp_le T (ot_put s.2.1 s.2.2.2 c) 3
      have hl := hV.1
      refine nm_r (show (ld + nI (ot_bp T (ot_put s.2.1 s.2.2.2 c) 3)) &&& 3 = nI ((s.2.2.1 + ot_bp T (ot_put s.2.1 s.2.2.2 c) 3) % 4) by rw [h3]; exact ot_mvI hl (by omega)) ?_
      have e0 := ot_psh_3 T c z
      have eg : ot_gn T s c = if (s.2.2.1 + ot_bp T (ot_put s.2.1 s.2.2.2 c) 3) % 4 % 2 = 0 then 1 else 0 := by
        show (if (ot_raw s c).2.2.2 = 4 ∧ ot_win T (ot_raw s c) % 2 = 0 then 1 else 0) = _
        have ew : ot_win T (ot_raw s c) = (s.2.2.1 + ot_bp T (ot_put s.2.1 s.2.2.2 c) 3) % 4 := rfl
        have ep : (ot_raw s c).2.2.2 = 4 := z
        rw [ew]
        by_cases y : (s.2.2.1 + ot_bp T (ot_put s.2.1 s.2.2.2 c) 3) % 4 % 2 = 0
        · rw [if_pos ⟨ep, y⟩, if_pos y]
        · rw [if_neg (fun w => y w.2), if_neg y]
      have eh : ot_gs T s c = if (s.2.2.1 + ot_bp T (ot_put s.2.1 s.2.2.2 c) 3) % 4 % 2 = 1 then 1 else 0 := by
        show (if (ot_raw s c).2.2.2 = 4 ∧ ot_win T (ot_raw s c) % 2 = 1 then 1 else 0) = _
        have ew : ot_win T (ot_raw s c) = (s.2.2.1 + ot_bp T (ot_put s.2.1 s.2.2.2 c) 3) % 4 := rfl
        have ep : (ot_raw s c).2.2.2 = 4 := z
        rw [ew]
        by_cases y : (s.2.2.1 + ot_bp T (ot_put s.2.1 s.2.2.2 c) 3) % 4 % 2 = 1
        · rw [if_pos ⟨ep, y⟩, if_pos y]
        · rw [if_neg (fun w => y w.2), if_neg y]
      have hw4 : (s.2.2.1 + ot_bp T (ot_put s.2.1 s.2.2.2 c) 3) % 4 < 4 := Nat.mod_lt _ (by omega)
      generalize (s.2.2.1 + ot_bp T (ot_put s.2.1 s.2.2.2 c) 3) % 4 = w at e0 eg eh hw4 ⊢
      have ea : nI w &&& 1 = nI (w % 2) := pk_andN (show w < 2 ^ 32 by omega) 1 (by decide)
      have HR : ∀ (fw' sw' : Int32), fw' = nI (w1 + ot_gn T s c) → sw' = nI (w2 + ot_gs T s c) → ot_R T (ot_psh T s c) (w1 + ot_gn T s c) (w2 + ot_gs T s c) ((s, w1, w2, c) :: tr) (on, tp, nI w, 0, fw', sw', nI (tr.length + 1), kd, en, a1, b2, b3, b4, b5, x, b7, b8, b9, a10, a11, a12, a13, a14) := by
        intro fw' sw' e1 e2
        rw [e0]
        exact ⟨h1, h2, rfl, rfl, e1, e2, rfl, k2, fun i hi => absurd hi (Nat.not_lt_zero i), pst⟩
      rw [ea]
      unfold wX_push_187 wX_push_211
      rw [ea]
      rcases Nat.mod_two_eq_zero_or_one w with y | y
      · rw [if_pos y] at eg
        rw [if_neg (by omega)] at eh
        refine br_t (by rw [y]; rfl) (br_f (by rw [y]; decide) ?_)
        exact H _ _ _ _ _ _ _ _ _ _ _ _ _ (HR _ _ (by rw [eg, h5]; exact nI_1 _) (by rw [eh, h6]; rfl))
      · rw [if_neg (by omega)] at eg
        rw [if_pos y] at eh
        refine br_f (by rw [y]; decide) (br_t (by rw [y]; rfl) ?_)
        exact H _ _ _ _ _ _ _ _ _ _ _ _ _ (HR _ _ (by rw [eg, h5]; rfl) (by rw [eh, h6]; exact nI_1 _))
    · have e0 := ot_psh_n T c z
      have eg := ot_gnz T c (show s.2.2.2 ≠ 3 by omega)
      refine H _ _ _ _ _ _ _ _ _ _ _ _ _ ?_
      rw [e0, eg.1, eg.2]
      exact ⟨h1, h2, h3, rfl, h5, h6, rfl, k2, k3, pst⟩
  · intro n i x hi hx hw
    refine pk_le 4 i (fun z => absurd z (by omega)) (fun _ => ⟨pk_in i 4 hi, ?_⟩)
    have e46 : (4 * st) + nI i = nI (4 * tr.length + i) := by rw [h7]; exact ot_46 _ _
    rw [e46, nI_clamp (show 4 * tr.length + i < 2 ^ 31 by omega), nI_clamp (show i < 2 ^ 31 by omega)]
    refine ⟨pk_in (4 * tr.length + i) 52 (by omega), nm_e (nm_r (nI_1 i) (hw _ ⟨fun j hj => ?_, fun j hj => ?_⟩))⟩
    · by_cases e : j = i
      · rw [e, pk_us]
      · rw [pk_un (by omega)]
        exact hx.1 j (by omega)
    · rw [pk_un (by omega)]
      exact hx.2 j hj
theorem ot_pop {post : Int32 → St1 → Prop} {on tp ld pl fw sw st kd en : Int32} {a1 a2 a3 a4 a5 a6 a7 a8 a9 a10 a11 a12 : Nat → Int32} {a13 : Nat → Int64} {a14 : Nat → Int32} {T : Int32} {s : ot_P} {w1 w2 v1 v2 r c : Nat} {tl : List ot_E} (hR : ot_R T (ot_psh T s c) v1 v2 ((s, w1, w2, c) :: tl) (on, tp, ld, pl, fw, sw, st, kd, en, a1, a2, a3, a4, a5, a6, a7, a8, a9, a10, a11, a12, a13, a14)) (hV : ot_V (r + 1) s) (hn : tl.length < 13) (hc : ot_own s c = true)
    (H : ∀ (ld' pl' fw' sw' st' : Int32) (b2 b3 : Nat → Int32), ot_R T s w1 w2 tl (on, tp, ld', pl', fw', sw', st', kd, en, a1, b2, b3, a4, a5, a6, a7, a8, a9, a10, a11, a12, a13, a14) → post (nI c) (on, tp, ld', pl', fw', sw', st', kd, en, a1, b2, b3, a4, a5, a6, a7, a8, a9, a10, a11, a12, a13, a14)) : wpX_pop post (on, tp, ld, pl, fw, sw, st, kd, en, a1, a2, a3, a4, a5, a6, a7, a8, a9, a10, a11, a12, a13, a14) := by
  obtain ⟨h1, h2, h3, h4, h5, h6, h7, h8, h9, h10⟩ := hR
  obtain ⟨g1, g2, g3, g4, g5, g6, g7⟩ := h10
  have hc12 := ot_V_card hV hc
  have ho : s.1 c = ot_mv s := by simpa [ot_own] using hc
  have hmv := ot_mv_lt s
  have hp4 := hV.2.1
  have cl : (nI tl.length).toNatClampNeg = tl.length := nI_clamp (by omega)
  have vin : vp_in (nI tl.length) 13 := vp_in_nI hn (by omega)
  refine nm_r (show st - 1 = nI tl.length by rw [h7]; exact nI_pred _) ⟨vin, ?_⟩
  rw [cl]
  refine nm_r g1 ⟨vin, nm_r g2 ⟨vin, nm_r g3 ⟨vin, nm_r g4 ⟨vin, nm_r g5 ?_⟩⟩⟩⟩
  refine pk_loop (fun n i (x : Nat → Int32) => wX_pop_74 post (nI c) on tp (nI s.2.2.1) (nI s.2.2.2) (nI w1) (nI w2) (nI tl.length) kd en n (nI i) a1 a2 x a4 a5 a6 a7 a8 a9 a10 a11 a12 a13 a14) (fun i x => ∀ j, j < i → x j = a6 (4 * tl.length + j)) 4 0 a3 (by omega) (fun j hj => absurd hj (by omega)) ?_ ?_
  · intro n x hx
    refine pk_le 4 4 (fun _ => ?_) (fun z => absurd z (by omega))
    refine ot_mover hV.1 hV.2.1 rfl rfl ?_
    refine ⟨pk_in (ot_mv s) 4 hmv, pk_in (ot_mv s) 4 hmv, ?_⟩
    rw [nI_clamp (show ot_mv s < 2 ^ 31 by omega)]
    rw [ot_psh_o] at h8
    refine nm_e (H _ _ _ _ _ _ _ ⟨h1, h2, rfl, rfl, rfl, rfl, rfl, ot_a2_pop hc12 ho hmv h8, fun i hi => ?_, g7⟩)
    rw [hx i (by omega)]
    exact g6 i hi
  · intro n i x hi hx hw
    refine pk_le 4 i (fun z => absurd z (by omega)) (fun _ => ?_)
    rw [ot_46, nI_clamp (show 4 * tl.length + i < 2 ^ 31 by omega), nI_clamp (show i < 2 ^ 31 by omega)]
    refine ⟨pk_in (4 * tl.length + i) 52 (by omega), pk_in i 4 hi, nm_e (nm_r (nI_1 i) (hw _ (fun j hj => ?_)))⟩
    by_cases e : j = i
    · rw [e, pk_us]
    · rw [pk_un e]
      exact hx j (by omega)
end
section
/-! ===== fewer, the table, begin, count ===== -/
theorem ot_i0 : ot_i 0 = 0 := by decide
theorem ot_i1 : ot_i 1 = 1 := by decide
theorem ot_im1 : ot_i (-1) = -1 := by decide
theorem ot_i100 : ot_i 100 = 100 := by decide
/-- what doesn't show the position may change -/
theorem ot_R_fr {on tp ld pl fw sw st kd en : Int32} {a1 a2 a3 a4 a5 a6 a7 a8 a9 a10 a11 a12 : Nat → Int32} {a13 : Nat → Int64} {a14 : Nat → Int32} {T : Int32} {s : ot_P} {w1 w2 : Nat} {tr : List ot_E} {kd' en' : Int32} {b1 b10 b11 b12 : Nat → Int32} {b13 : Nat → Int64} {b14 : Nat → Int32} (h : ot_R T s w1 w2 tr (on, tp, ld, pl, fw, sw, st, kd, en, a1, a2, a3, a4, a5, a6, a7, a8, a9, a10, a11, a12, a13, a14)) : ot_R T s w1 w2 tr (on, tp, ld, pl, fw, sw, st, kd', en', b1, a2, a3, a4, a5, a6, a7, a8, a9, b10, b11, b12, b13, b14) := by
  obtain ⟨h1, h2, h3, h4, h5, h6, h7, h8, h9, h10⟩ := h
  exact ⟨h1, h2, h3, h4, h5, h6, h7, h8, h9, h10⟩
theorem ot_fewer {post : Int32 → Prop} {on tp ld pl fw sw st kd en : Int32} {a1 a2 a3 a4 a5 a6 a7 a8 a9 a10 a11 a12 : Nat → Int32} {a13 : Nat → Int64} {a14 : Nat → Int32} {T : Int32} {s : ot_P} {w1 w2 r : Nat} {tr : List ot_E} (hR : ot_R T s w1 w2 tr (on, tp, ld, pl, fw, sw, st, kd, en, a1, a2, a3, a4, a5, a6, a7, a8, a9, a10, a11, a12, a13, a14)) (hV : ot_V r s) (sf : Nat → Bool) (H : post (nI (ot_m (ot_few sf (ot_oth s))))) : wpX_fewer post (on, tp, ld, pl, fw, sw, st, kd, en, a1, a2, a3, a4, a5, a6, a7, a8, a9, a10, a11, a12, a13, a14) (nI (ot_m sf)) := by
  obtain ⟨h1, h2, h3, h4, h5, h6, h7, h8, h9, h10⟩ := hR
  have hmv := ot_mv_lt s
  have hp4 := hV.2.1
  have z4 : nI (ot_m (fun c => decide (s.1 c < 0) && s.1 c != ot_mv s)) = 0 := ot_m_z.mpr (fun c _ => by rw [decide_eq_false (Nat.not_lt_zero _), Bool.false_and])
  show ∃ n, wX_fewer_4 post (nI (ot_m sf)) on tp ld pl fw sw st kd en a1 a2 a3 a4 a5 a6 a7 a8 a9 a10 a11 a12 a13 a14 n 0 (nI 0)
  rw [← z4]
  refine pk_loop (σ := Unit) (fun n i _ => wX_fewer_4 post (nI (ot_m sf)) on tp ld pl fw sw st kd en a1 a2 a3 a4 a5 a6 a7 a8 a9 a10 a11 a12 a13 a14 n (nI (ot_m (fun c => decide (s.1 c < i) && s.1 c != ot_mv s))) (nI i)) (fun _ _ => True) 4 0 () (by omega) trivial ?_ ?_
  · intro n _ _
    refine pk_le 4 4 (fun _ => ?_) (fun z => absurd z (by omega))
    have z38 : ot_m (fun c => decide (s.1 c < 4) && s.1 c != ot_mv s) = ot_m (fun c => (decide (s.1 c < 4) && s.1 c != ot_mv s) || ot_inT s.2.1 c 0) := ot_m_congr (fun c _ => by rw [ot_inT, Bool.or_false])
    show ∃ n, wX_fewer_38 post (nI (ot_m sf)) on tp ld pl fw sw st kd en a1 a2 a3 a4 a5 a6 a7 a8 a9 a10 a11 a12 a13 a14 n (nI (ot_m (fun c => decide (s.1 c < 4) && s.1 c != ot_mv s))) 0
    rw [z38]
    refine pk_loop (σ := Unit) (fun n i _ => wX_fewer_38 post (nI (ot_m sf)) on tp ld pl fw sw st kd en a1 a2 a3 a4 a5 a6 a7 a8 a9 a10 a11 a12 a13 a14 n (nI (ot_m (fun c => (decide (s.1 c < 4) && s.1 c != ot_mv s) || ot_inT s.2.1 c i))) (nI i)) (fun _ _ => True) s.2.2.2 0 () (by omega) trivial ?_ ?_
    · intro n _ _
      show (pl ≤ nI s.2.2.2 → _) ∧ _
      rw [h4]
      refine pk_le s.2.2.2 s.2.2.2 (fun _ => ?_) (fun z => absurd z (by omega))
      show ∃ fu, wX_fewer_71 post (nI (ot_m sf)) (nI (ot_m (ot_oth s))) on tp ld (nI s.2.2.2) fw sw st kd en a1 a2 a3 a4 a5 a6 a7 a8 a9 a10 a11 a12 a13 a14 fu 0 (-1) 0
      have z71 : nI (ot_m (fun c => decide (c < 0) && ot_few sf (ot_oth s) c)) = 0 := ot_m_z.mpr (fun c _ => by rw [decide_eq_false (Nat.not_lt_zero _), Bool.false_and])
      have k71 : (∃ fu, wX_fewer_71 post (nI (ot_m sf)) (nI (ot_m (ot_oth s))) on tp ld (nI s.2.2.2) fw sw st kd en a1 a2 a3 a4 a5 a6 a7 a8 a9 a10 a11 a12 a13 a14 fu (nI (ot_m (fun c => decide (c < 0) && ot_few sf (ot_oth s) c))) (-1) (nI 0)) → ∃ fu, wX_fewer_71 post (nI (ot_m sf)) (nI (ot_m (ot_oth s))) on tp ld (nI s.2.2.2) fw sw st kd en a1 a2 a3 a4 a5 a6 a7 a8 a9 a10 a11 a12 a13 a14 fu 0 (-1) 0 := by
        intro h
        rw [z71] at h
        exact h
      refine k71 ?_
      refine pk_loop (fun n i (x : Int32) => wX_fewer_71 post (nI (ot_m sf)) (nI (ot_m (ot_oth s))) on tp ld (nI s.2.2.2) fw sw st kd en a1 a2 a3 a4 a5 a6 a7 a8 a9 a10 a11 a12 a13 a14 n (nI (ot_m (fun c => decide (c < i) && ot_few sf (ot_oth s) c))) x (nI i)) (fun i x => (0 ≤ x ↔ ot_fl sf (ot_oth s) i = true)) 12 0 (-1) (by omega) ⟨fun z => absurd z (by decide), fun z => absurd z (by simp [ot_fl])⟩ ?_ ?_
      · intro n x _
        refine pk_le 12 12 (fun _ => ?_) (fun z => absurd z (by omega))
        show post (nI (ot_m (fun c => decide (c < 12) && ot_few sf (ot_oth s) c)))
        rw [ot_m_congr (g := ot_few sf (ot_oth s)) (fun c hc => by rw [decide_eq_true hc, Bool.true_and])]
        exact H
      · intro n i x hi hx hw
        refine pk_le 12 i (fun z => absurd z (by omega)) (fun _ => ⟨ot_c4, ?_⟩)
        have er : nI i - nI i / 4 * 4 = nI (i % 4) := pk_rem (d := 4) (by omega) (by omega) (by omega)
        have step : ∀ y : Int32, (0 ≤ y ↔ (ot_fl sf (ot_oth s) i && !(i % 4 == 0 || ot_oth s i)) = true) →
            wX_fewer_98 post (wX_fewer_71 post (nI (ot_m sf)) (nI (ot_m (ot_oth s))) on tp ld (nI s.2.2.2) fw sw st kd en a1 a2 a3 a4 a5 a6 a7 a8 a9 a10 a11 a12 a13 a14 n) (nI (ot_m sf)) (nI (ot_m (ot_oth s))) (nI (ot_m (fun c => decide (c < i) && ot_few sf (ot_oth s) c))) y (nI i) on tp ld (nI s.2.2.2) fw sw st kd en a1 a2 a3 a4 a5 a6 a7 a8 a9 a10 a11 a12 a13 a14 := by
          intro y hy
          unfold wX_fewer_98
          refine ek_if (ot_bit1 sf hi) (fun hs => ?_) (fun hs => ?_)
          · have hflag : ∀ z : Int32, z = nI i → (0 ≤ z ↔ ot_fl sf (ot_oth s) (i + 1) = true) := by
              intro z ez
              rw [ez]
              refine ⟨fun _ => ?_, fun _ => nI_pos' (by omega)⟩
              rw [ot_fl, hs, Bool.true_or]
            by_cases hyy : 0 ≤ y
            · refine br_t hyy (nm_r (nI_1 i) ?_)
              have k := hw (nI i) (hflag _ rfl)
              have e : ot_m (fun c => decide (c < i + 1) && ot_few sf (ot_oth s) c) = ot_m (fun c => decide (c < i) && ot_few sf (ot_oth s) c) := by
                refine ot_m_congr (fun c hc => ?_)
                by_cases ec : c = i
                · rw [ec]
                  have hf : ot_few sf (ot_oth s) i = false := by
                    unfold ot_few
                    rw [hy.mp hyy]
                    simp
                  rw [hf, Bool.and_false, Bool.and_false]
                · rw [decide_eq_decide.mpr (show c < i + 1 ↔ c < i by omega)]
              rw [e] at k
              exact k
            · refine br_f hyy ?_
              rw [ot_set _ hi]
              refine nm_e (nm_r (nI_1 i) ?_)
              have k := hw (nI i) (hflag _ rfl)
              have e : ot_m (fun c => decide (c < i + 1) && ot_few sf (ot_oth s) c) = ot_m (fun x => (decide (x < i) && ot_few sf (ot_oth s) x) || x == i) := by
                refine ot_m_congr (fun c hc => ?_)
                by_cases ec : c = i
                · rw [ec]
                  have hf : ot_few sf (ot_oth s) i = true := by
                    unfold ot_few
                    rw [hs, Bool.eq_false_iff.mpr (fun z => hyy (hy.mpr z))]
                    rfl
                  rw [hf]
                  simp
                · rw [decide_eq_decide.mpr (show c < i + 1 ↔ c < i by omega), beq_eq_false_iff_ne.mpr ec, Bool.or_false]
              rw [e] at k
              exact k
          · refine nm_r (nI_1 i) ?_
            have hs' : sf i = false := Bool.eq_false_iff.mpr hs
            have k := hw y (by rw [ot_fl, hs', Bool.false_or]; exact hy)
            have e : ot_m (fun c => decide (c < i + 1) && ot_few sf (ot_oth s) c) = ot_m (fun c => decide (c < i) && ot_few sf (ot_oth s) c) := by
              refine ot_m_congr (fun c hc => ?_)
              by_cases ec : c = i
              · rw [ec]
                have hf : ot_few sf (ot_oth s) i = false := by
                  unfold ot_few
                  rw [hs']
                  rfl
                rw [hf, Bool.and_false, Bool.and_false]
              · rw [decide_eq_decide.mpr (show c < i + 1 ↔ c < i by omega)]
            rw [e] at k
            exact k
        have stepm : (ot_fl sf (ot_oth s) i && !(i % 4 == 0 || ot_oth s i)) = false → wX_fewer_95 post (wX_fewer_71 post (nI (ot_m sf)) (nI (ot_m (ot_oth s))) on tp ld (nI s.2.2.2) fw sw st kd en a1 a2 a3 a4 a5 a6 a7 a8 a9 a10 a11 a12 a13 a14 n) (nI (ot_m sf)) (nI (ot_m (ot_oth s))) (nI (ot_m (fun c => decide (c < i) && ot_few sf (ot_oth s) c))) (nI i) on tp ld (nI s.2.2.2) fw sw st kd en a1 a2 a3 a4 a5 a6 a7 a8 a9 a10 a11 a12 a13 a14 := by
          intro e
          unfold wX_fewer_95
          exact step (-1) ⟨fun z => absurd z (by decide), fun z => by rw [e] at z; exact absurd z (by decide)⟩
        rw [er]
        refine pk_eq (i % 4) 0 (fun z => stepm (by simp [z])) (fun z => ?_)
        refine ek_if (ot_bit1 (ot_oth s) hi) (fun ho => stepm (by simp [ho])) (fun ho => step x ?_)
        have e : (ot_fl sf (ot_oth s) i && !(i % 4 == 0 || ot_oth s i)) = ot_fl sf (ot_oth s) i := by
          rw [Bool.eq_false_iff.mpr ho, beq_eq_false_iff_ne.mpr z]
          simp
        rw [e]
        exact hx
    · intro n i _ hi _ hw
      have ht := (hV.2.2.2.2.2.2.2.1 i hi).1
      show (pl ≤ nI i → _) ∧ _
      rw [h4]
      refine pk_le s.2.2.2 i (fun z => absurd z (by omega)) (fun _ => ⟨pk_in i 4 (by omega), ?_⟩)
      rw [nI_clamp (show i < 2 ^ 31 by omega), h9 i hi, ot_set _ ht]
      refine nm_e (nm_r (nI_1 i) ?_)
      have k := hw () trivial
      have e : ot_m (fun c => (decide (s.1 c < 4) && s.1 c != ot_mv s) || ot_inT s.2.1 c (i + 1)) = ot_m (fun x => ((decide (s.1 x < 4) && s.1 x != ot_mv s) || ot_inT s.2.1 x i) || x == s.2.1 i) := by
        refine ot_m_congr (fun c hc => ?_)
        rw [ot_inT, Bool.or_assoc, BEq.comm (a := s.2.1 i)]
      rw [h4, e] at k
      exact k
  · intro n i _ hi _ hw
    refine pk_le 4 i (fun z => absurd z (by omega)) (fun _ => ?_)
    refine ot_mover hV.1 hV.2.1 h3 h4 ?_
    refine pk_eq i (ot_mv s) (fun z => nm_r (nI_1 i) ?_) (fun z => ⟨pk_in i 4 hi, ?_⟩)
    · have k := hw () trivial
      have e : ot_m (fun c => decide (s.1 c < i + 1) && s.1 c != ot_mv s) = ot_m (fun c => decide (s.1 c < i) && s.1 c != ot_mv s) := by
        refine ot_m_congr (fun c hc => ?_)
        by_cases ec : s.1 c = ot_mv s
        · rw [ec]; simp
        · rw [decide_eq_decide.mpr (show s.1 c < i + 1 ↔ s.1 c < i by omega)]
      rw [e] at k
      exact k
    · rw [nI_clamp (show i < 2 ^ 31 by omega), h8 i hi, ot_orM]
      refine nm_e (nm_r (nI_1 i) ?_)
      have k := hw () trivial
      have e : ot_m (fun c => decide (s.1 c < i + 1) && s.1 c != ot_mv s) = ot_m (fun x => (decide (s.1 x < i) && s.1 x != ot_mv s) || s.1 x == i) := by
        refine ot_m_congr (fun c hc => ?_)
        by_cases ec : s.1 c = i
        · rw [ec]; simp [z]
        · rw [decide_eq_decide.mpr (show s.1 c < i + 1 ↔ s.1 c < i by omega), beq_eq_false_iff_ne.mpr ec, Bool.or_false]
      rw [e] at k
      exact k
/-- the key of a position -/
def ot_kn (s : ot_P) : Nat → Nat
  | 0 => s.2.2.1 + 1
  | i + 1 => ot_kn s i * 4096 + ot_m (fun c => s.1 c == i)
abbrev ot_key (s : ot_P) : Nat := ot_kn s 4
theorem ot_kn_lt {s : ot_P} (h : s.2.2.1 < 4) : ot_kn s 0 < 5 ∧ ot_kn s 1 < 20480 ∧ ot_kn s 2 < 83886080 ∧ ot_kn s 3 < 343597383680 ∧ ot_kn s 4 < 1407374883553280 := by
  have m0 := ot_m_lt (fun c => s.1 c == 0)
  have m1 := ot_m_lt (fun c => s.1 c == 1)
  have m2 := ot_m_lt (fun c => s.1 c == 2)
  have m3 := ot_m_lt (fun c => s.1 c == 3)
  have e0 : ot_kn s 0 = s.2.2.1 + 1 := rfl
  have e1 : ot_kn s 1 = ot_kn s 0 * 4096 + ot_m (fun c => s.1 c == 0) := rfl
  have e2 : ot_kn s 2 = ot_kn s 1 * 4096 + ot_m (fun c => s.1 c == 1) := rfl
  have e3 : ot_kn s 3 = ot_kn s 2 * 4096 + ot_m (fun c => s.1 c == 2) := rfl
  have e4 : ot_kn s 4 = ot_kn s 3 * 4096 + ot_m (fun c => s.1 c == 3) := rfl
  omega
theorem ot_kn_b {s : ot_P} (h : s.2.2.1 < 4) {i : Nat} (hi : i < 5) : ot_kn s i < 1407374883553280 := by
  have k := ot_kn_lt h
  rcases (show i = 0 ∨ i = 1 ∨ i = 2 ∨ i = 3 ∨ i = 4 by omega) with e | e | e | e | e <;> rw [e] <;> omega
theorem ot_key_pos {s : ot_P} : 0 < ot_key s := by
  have e0 : ot_kn s 0 = s.2.2.1 + 1 := rfl
  have e1 : ot_kn s 1 = ot_kn s 0 * 4096 + ot_m (fun c => s.1 c == 0) := rfl
  have e2 : ot_kn s 2 = ot_kn s 1 * 4096 + ot_m (fun c => s.1 c == 1) := rfl
  have e3 : ot_kn s 3 = ot_kn s 2 * 4096 + ot_m (fun c => s.1 c == 2) := rfl
  have e4 : ot_kn s 4 = ot_kn s 3 * 4096 + ot_m (fun c => s.1 c == 3) := rfl
  show 0 < ot_kn s 4
  omega
theorem ot_key_inj {r r' : Nat} {s s' : ot_P} (h : ot_V r s) (h' : ot_V r' s') (hp : s.2.2.2 = 0) (hp' : s'.2.2.2 = 0) (e : ot_key s = ot_key s') : s = s' ∧ r = r' := by
  have m0 := ot_m_lt (fun c => s.1 c == 0)
  have m1 := ot_m_lt (fun c => s.1 c == 1)
  have m2 := ot_m_lt (fun c => s.1 c == 2)
  have m3 := ot_m_lt (fun c => s.1 c == 3)
  have e0 : ot_kn s 0 = s.2.2.1 + 1 := rfl
  have e1 : ot_kn s 1 = ot_kn s 0 * 4096 + ot_m (fun c => s.1 c == 0) := rfl
  have e2 : ot_kn s 2 = ot_kn s 1 * 4096 + ot_m (fun c => s.1 c == 1) := rfl
  have e3 : ot_kn s 3 = ot_kn s 2 * 4096 + ot_m (fun c => s.1 c == 2) := rfl
  have e4 : ot_kn s 4 = ot_kn s 3 * 4096 + ot_m (fun c => s.1 c == 3) := rfl
  have n0 := ot_m_lt (fun c => s'.1 c == 0)
  have n1 := ot_m_lt (fun c => s'.1 c == 1)
  have n2 := ot_m_lt (fun c => s'.1 c == 2)
  have n3 := ot_m_lt (fun c => s'.1 c == 3)
  have f0 : ot_kn s' 0 = s'.2.2.1 + 1 := rfl
  have f1 : ot_kn s' 1 = ot_kn s' 0 * 4096 + ot_m (fun c => s'.1 c == 0) := rfl
  have f2 : ot_kn s' 2 = ot_kn s' 1 * 4096 + ot_m (fun c => s'.1 c == 1) := rfl
  have f3 : ot_kn s' 3 = ot_kn s' 2 * 4096 + ot_m (fun c => s'.1 c == 2) := rfl
  have f4 : ot_kn s' 4 = ot_kn s' 3 * 4096 + ot_m (fun c => s'.1 c == 3) := rfl
  have e' : ot_kn s 4 = ot_kn s' 4 := e
  have q3 : ot_kn s 3 = ot_kn s' 3 ∧ ot_m (fun c => s.1 c == 3) = ot_m (fun c => s'.1 c == 3) := by omega
  have q2 : ot_kn s 2 = ot_kn s' 2 ∧ ot_m (fun c => s.1 c == 2) = ot_m (fun c => s'.1 c == 2) := by omega
  have q1 : ot_kn s 1 = ot_kn s' 1 ∧ ot_m (fun c => s.1 c == 1) = ot_m (fun c => s'.1 c == 1) := by omega
  have q0 : ot_kn s 0 = ot_kn s' 0 ∧ ot_m (fun c => s.1 c == 0) = ot_m (fun c => s'.1 c == 0) := by omega
  have ql : s.2.2.1 = s'.2.2.1 := by omega
  have qm : ∀ p, p < 4 → ot_m (fun c => s.1 c == p) = ot_m (fun c => s'.1 c == p) := by
    intro p hp
    rcases (show p = 0 ∨ p = 1 ∨ p = 2 ∨ p = 3 by omega) with e | e | e | e <;> rw [e]
    · exact q0.2
    · exact q1.2
    · exact q2.2
    · exact q3.2
  have qo : s.1 = s'.1 := by
    funext c
    rcases Nat.lt_or_ge c 12 with hc | hc
    · have b1 := h.2.2.2.2.1 c
      have b2 := h'.2.2.2.2.1 c
      rcases Nat.lt_or_ge (s.1 c) 4 with z | z
      · have k := ot_m_inj (qm _ z) hc
        have k2 : (s'.1 c == s.1 c) = true := by rw [← k]; simp
        exact (beq_iff_eq.mp k2).symm
      · rcases Nat.lt_or_ge (s'.1 c) 4 with y | y
        · have k := ot_m_inj (qm _ y) hc
          have k2 : (s.1 c == s'.1 c) = true := by rw [k]; simp
          exact beq_iff_eq.mp k2
        · omega
    · rw [h.2.2.2.2.2.1 c hc, h'.2.2.2.2.2.1 c hc]
  have qt : s.2.1 = s'.2.1 := by rw [h.2.2.2.2.2.2.2.2 hp, h'.2.2.2.2.2.2.2.2 hp']
  have qs : s = s' := Prod.ext qo (Prod.ext qt (Prod.ext ql (hp.trans hp'.symm)))
  refine ⟨qs, ?_⟩
  subst qs
  have c1 := ot_V_own h
  have c2 := ot_V_own h'
  have d1 := h.2.2.1
  have d2 := h'.2.2.1
  omega
theorem ot_gu {n : Nat} (h : n < 2 ^ 64) : (UInt64.ofNat n).toNat = n := Nat.mod_eq_of_lt h
theorem ot_gor {k p a b : Nat} (hp : 2 ^ k = p) (ha : a < p) (h : b * p + a < 2 ^ 64) : lN (b * p) ||| lN a = lN (b * p + a) := by
  subst hp
  have h1 : b * 2 ^ k ||| a = b * 2 ^ k + a := by rw [← Nat.shiftLeft_eq, Nat.shiftLeft_add_eq_or_of_lt ha]
  have h3 : UInt64.ofNat (b * 2 ^ k) ||| UInt64.ofNat a = UInt64.ofNat (b * 2 ^ k + a) := UInt64.toNat_inj.mp (by rw [UInt64.toNat_or, ot_gu (by omega), ot_gu (by omega), ot_gu h, h1])
  have h2 := congrArg UInt64.toInt64 h3
  exact h2
theorem ot_gsl {a k p : Nat} {y : Int64} (hy : y.toBitVec.smod 64 = BitVec.ofNat 64 k) (hk : k < 64) (hp : 2 ^ k = p) (ha : a < 2 ^ 64) : lN a <<< y = lN (a * p) := by
  subst hp
  apply Int64.toBitVec_inj.mp
  rw [Int64.toBitVec_shiftLeft, hy]
  apply BitVec.eq_of_toNat_eq
  have hb : (lN a).toBitVec.toNat = a := Nat.mod_eq_of_lt ha
  have hk' : (BitVec.ofNat 64 k).toNat = k := Nat.mod_eq_of_lt (by omega)
  have h : ((lN a).toBitVec <<< BitVec.ofNat 64 k).toNat = (a * 2 ^ k) % 2 ^ 64 := by simp only [BitVec.shiftLeft_eq', BitVec.toNat_shiftLeft, hb, hk', Nat.shiftLeft_eq]
  exact h
theorem ot_keyNow {post : Int64 → Prop} {on tp ld pl fw sw st kd en : Int32} {a1 a2 a3 a4 a5 a6 a7 a8 a9 a10 a11 a12 : Nat → Int32} {a13 : Nat → Int64} {a14 : Nat → Int32} {T : Int32} {s : ot_P} {w1 w2 r : Nat} {tr : List ot_E} (hR : ot_R T s w1 w2 tr (on, tp, ld, pl, fw, sw, st, kd, en, a1, a2, a3, a4, a5, a6, a7, a8, a9, a10, a11, a12, a13, a14)) (hV : ot_V r s) (H : post (lN (ot_key s))) : wpX_keyNow post (on, tp, ld, pl, fw, sw, st, kd, en, a1, a2, a3, a4, a5, a6, a7, a8, a9, a10, a11, a12, a13, a14) := by
  obtain ⟨h1, h2, h3, h4, h5, h6, h7, h8, h9, h10⟩ := hR
  have hl := hV.1
  refine nm_r (show (ld + 1).toInt64 = lN (ot_kn s 0) by rw [h3, nI_1]; exact nI_l (by omega)) ?_
  exact pk_loop (σ := Unit) (fun n i _ => wX_keyNow_10 post on tp ld pl fw sw st kd en a1 a2 a3 a4 a5 a6 a7 a8 a9 a10 a11 a12 a13 a14 n (lN (ot_kn s i)) (nI i)) (fun _ _ => True) 4 0 () (by omega) trivial
    (fun n _ _ => pk_le 4 4 (fun _ => H) (fun z => absurd z (by omega)))
    (fun n i _ hi _ hw => pk_le 4 i (fun z => absurd z (by omega)) (fun _ => ⟨pk_in i 4 hi, nm_r (by
      have hb := ot_kn_b hl (show i < 5 by omega)
      have hm := ot_m_lt (fun c => s.1 c == i)
      rw [nI_clamp (show i < 2 ^ 31 by omega), h8 i hi, nI_l (by omega), ot_gsl (k := 12) (p := 4096) (by decide +kernel) (by omega) (by decide) (by omega), ot_gor (k := 12) (by decide) hm (by omega)]
      rfl) (nm_r (nI_1 i) (hw () trivial))⟩))
theorem ot_2047 (x : Int32) : ∃ h, h < 2048 ∧ x &&& 2047 = nI h := by
  obtain ⟨j, hj, e⟩ := pk_andE x (m := 2047) 11 (by decide)
  exact ⟨j, by omega, e⟩
theorem ot_slotFor {post : Int32 → Prop} {u : St1} {key : Int64} (H : ∀ h, h < 2048 → post (nI h)) : wpX_slotFor post u key := by
  obtain ⟨on, tp, ld, pl, fw, sw, st, kd, en, a1, a2, a3, a4, a5, a6, a7, a8, a9, a10, a11, a12, a13, a14⟩ := u
  obtain ⟨g, hg, eg⟩ := ot_2047 (((key ^^^ ((key.toUInt64 >>> ((17 : Int32).toInt64.toUInt64 &&& Int64.toUInt64 63)).toInt64)) ^^^ ((key.toUInt64 >>> ((31 : Int32).toInt64.toUInt64 &&& Int64.toUInt64 63)).toInt64)).toInt32)
  refine nm_r eg ?_
  refine pk_loop (fun n i (x : Nat) => wX_slotFor_20 post key on tp ld pl fw sw st kd en a1 a2 a3 a4 a5 a6 a7 a8 a9 a10 a11 a12 a13 a14 n (nI x) (nI i)) (fun _ x => x < 2048) 2048 0 g (by omega) hg
    (fun n x hx => pk_le 2048 2048 (fun _ => H x hx) (fun z => absurd z (by omega)))
    (fun n i x hi hx hw => pk_le 2048 i (fun z => absurd z (by omega)) (fun _ => ⟨pk_in x 2048 hx, br_c (fun _ => H x hx) (fun _ => ⟨pk_in x 2048 hx, br_c (fun _ => H x hx) (fun _ => ?_)⟩)⟩))
  obtain ⟨y, hy, ey⟩ := ot_2047 (nI x + 1)
  exact nm_r ey (nm_r (nI_1 i) (hw y hy))
/-- the table is right -/
def ot_TB (k : Nat) (T : Int32) (a13 : Nat → Int64) (a14 : Nat → Int32) : Prop := ∀ h, h < 2048 → ∀ r s, ot_V r s → s.2.2.2 = 0 → a13 h = lN (ot_key s) → a14 h = ot_i (ot_sv k T r s)
theorem ot_TB_0 {k : Nat} {T : Int32} {a13 : Nat → Int64} {a14 : Nat → Int32} (h : ∀ j, j < 2048 → a13 j = 0) : ot_TB k T a13 a14 := by
  intro j hj r s hV _ e
  rw [h j hj] at e
  have hb := ot_kn_b hV.1 (show 4 < 5 by omega)
  have hp := ot_key_pos (s := s)
  have e2 : lN 0 = lN (ot_key s) := e
  have := (pk_lEQ (by omega) (by show ot_kn s 4 < 2 ^ 63; omega)).mp e2
  omega
theorem ot_clearTable {post : St1 → Prop} {on tp ld pl fw sw st kd en : Int32} {a1 a2 a3 a4 a5 a6 a7 a8 a9 a10 a11 a12 : Nat → Int32} {a13 : Nat → Int64} {a14 : Nat → Int32} (H : ∀ b13 : Nat → Int64, (∀ j, j < 2048 → b13 j = 0) → post (on, tp, ld, pl, fw, sw, st, kd, 0, a1, a2, a3, a4, a5, a6, a7, a8, a9, a10, a11, a12, b13, a14)) : wpX_clearTable post (on, tp, ld, pl, fw, sw, st, kd, en, a1, a2, a3, a4, a5, a6, a7, a8, a9, a10, a11, a12, a13, a14) :=
  pk_loop (fun n i (x : Nat → Int64) => wX_clearTable_2 post on tp ld pl fw sw st kd en n (nI i) a1 a2 a3 a4 a5 a6 a7 a8 a9 a10 a11 a12 x a14) (fun i x => ∀ j, j < i → x j = 0) 2048 0 a13 (by omega) (fun j hj => absurd hj (by omega))
    (fun n x hx => pk_le 2048 2048 (fun _ => H x hx) (fun z => absurd z (by omega)))
    (fun n i x hi hx hw => pk_le 2048 i (fun z => absurd z (by omega)) (fun _ => ⟨pk_in i 2048 hi, nm_e (nm_r (nI_1 i) (hw _ (fun j hj => by
      rw [nI_clamp (show i < 2 ^ 31 by omega)]
      by_cases e : j = i
      · rw [e, pk_uLs]
      · rw [pk_uLn e]
        exact hx j (by omega))))⟩))
theorem ot_remember {post : St1 → Prop} {on tp ld pl fw sw st kd en : Int32} {a1 a2 a3 a4 a5 a6 a7 a8 a9 a10 a11 a12 : Nat → Int32} {a13 : Nat → Int64} {a14 : Nat → Int32} {k r : Nat} {T : Int32} {s : ot_P} (hT : ot_TB k T a13 a14) (hV : ot_V r s) (hp : s.2.2.2 = 0)
    (H : ∀ (en' : Int32) (b13 : Nat → Int64) (b14 : Nat → Int32), ot_TB k T b13 b14 → post (on, tp, ld, pl, fw, sw, st, kd, en', a1, a2, a3, a4, a5, a6, a7, a8, a9, a10, a11, a12, b13, b14)) : wpX_remember post (on, tp, ld, pl, fw, sw, st, kd, en, a1, a2, a3, a4, a5, a6, a7, a8, a9, a10, a11, a12, a13, a14) (lN (ot_key s)) (ot_i (ot_sv k T r s)) := by
  refine br_c (fun _ => H _ _ _ hT) (fun _ => ?_)
  refine ot_slotFor (fun h hh => ⟨pk_in h 2048 hh, ?_⟩)
  have hT' : ot_TB k T (vp_updL a13 h (lN (ot_key s))) (upd a14 h (ot_i (ot_sv k T r s))) := by
    intro j hj r' s' hV' hp' e
    by_cases z : j = h
    · rw [z, pk_uLs] at e
      rw [z, pk_us]
      have b1 := ot_kn_b hV.1 (show 4 < 5 by omega)
      have b2 := ot_kn_b hV'.1 (show 4 < 5 by omega)
      have e2 := (pk_lEQ (show ot_kn s 4 < 2 ^ 63 by omega) (show ot_kn s' 4 < 2 ^ 63 by omega)).mp e
      obtain ⟨e3, e4⟩ := ot_key_inj hV hV' hp hp' e2
      rw [e3, e4]
    · rw [pk_uLn z] at e
      rw [pk_un z]
      exact hT j hj r' s' hV' hp' e
  have st43 : ∀ z0, wX_remember_43 post (lN (ot_key s)) (ot_i (ot_sv k T r s)) (nI h) z0 on tp ld pl fw sw st kd en a1 a2 a3 a4 a5 a6 a7 a8 a9 a10 a11 a12 a13 a14 := by
    intro z0
    refine ⟨pk_in h 2048 hh, ?_⟩
    rw [nI_clamp (show h < 2 ^ 31 by omega)]
    exact nm_e ⟨pk_in h 2048 hh, nm_e (H _ _ _ hT')⟩
  exact br_c (fun _ => st43 _) (fun _ => st43 _)
theorem ot_atOnce {post : Int32 → Prop} {on tp ld pl fw sw st kd en : Int32} {a1 a2 a3 a4 a5 a6 a7 a8 a9 a10 a11 a12 : Nat → Int32} {a13 : Nat → Int64} {a14 : Nat → Int32} {T : Int32} {s : ot_P} {w1 w2 r k : Nat} {tr : List ot_E} (hR : ot_R T s w1 w2 tr (on, tp, ld, pl, fw, sw, st, kd, en, a1, a2, a3, a4, a5, a6, a7, a8, a9, a10, a11, a12, a13, a14)) (hV : ot_V r s) (hk : kd = nI k) (hk3 : k < 3) (hT : ot_TB k T a13 a14)
    (H1 : post (ot_i (ot_sv k T r s))) (H2 : 0 < r → post (-1)) : wpX_atOnce post (on, tp, ld, pl, fw, sw, st, kd, en, a1, a2, a3, a4, a5, a6, a7, a8, a9, a10, a11, a12, a13, a14) := by
  have hR0 := hR
  obtain ⟨h1, h2, h3, h4, h5, h6, h7, h8, h9, h10⟩ := hR
  have hmv := ot_mv_lt s
  have hp4 := hV.2.1
  have hown := ot_V_own hV
  unfold wpX_atOnce
  refine ot_mover hV.1 hV.2.1 h3 h4 ?_
  refine ⟨pk_in (ot_mv s) 4 hmv, ?_⟩
  rw [nI_clamp (show ot_mv s < 2 ^ 31 by omega), h8 _ hmv]
  by_cases hr : r = 0
  · refine br_t (ot_m_z.mpr (ot_cn_z.mp (by rw [show (fun c => s.1 c == ot_mv s) = ot_own s from rfl, hown, hr]))) ?_
    rw [hk]
    subst hr
    refine pk_eq k 2 (fun z => ?_) (fun z => ?_)
    · have e : ot_sv k T 0 s = 1 := if_pos z
      rw [e, ot_i1] at H1
      exact H1
    · have e : ot_sv k T 0 s = 0 := if_neg z
      rw [e, ot_i0] at H1
      exact H1
  · refine br_f (fun z => ?_) ?_
    · have z2 := ot_cn_z.mpr (ot_m_z.mp z)
      rw [show (fun c => s.1 c == ot_mv s) = ot_own s from rfl, hown] at z2
      omega
    · show (pl ≤ 0 → _) ∧ _
      rw [h4]
      refine pk_le s.2.2.2 0 (fun z => ?_) (fun z => H2 (by omega))
      have hp0 : s.2.2.2 = 0 := by omega
      have hR1 : ot_R T s w1 w2 tr (on, tp, ld, nI s.2.2.2, fw, sw, st, kd, en, a1, a2, a3, a4, a5, a6, a7, a8, a9, a10, a11, a12, a13, a14) := by rw [← h4]; exact hR0
      refine ot_keyNow hR1 hV ?_
      refine ot_slotFor (fun h hh => ⟨pk_in h 2048 hh, ?_⟩)
      rw [nI_clamp (show h < 2 ^ 31 by omega)]
      refine br_c (fun e => ⟨pk_in h 2048 hh, ?_⟩) (fun _ => H2 (by omega))
      rw [hT h hh r s hV hp0 e]
      exact H1
theorem ot_gained {post : Int32 → Prop} {on tp ld pl fw sw st kd en : Int32} {a1 a2 a3 a4 a5 a6 a7 a8 a9 a10 a11 a12 : Nat → Int32} {a13 : Nat → Int64} {a14 : Nat → Int32} {k w1 : Nat} (hk : kd = nI k) (hk3 : k < 3) (hf : fw = nI w1) (H : post (nI (if k = 2 then 0 else w1))) : wpX_gained post (on, tp, ld, pl, fw, sw, st, kd, en, a1, a2, a3, a4, a5, a6, a7, a8, a9, a10, a11, a12, a13, a14) := by
  show (kd = 2 → _) ∧ _
  rw [hk]
  refine pk_eq k 2 (fun z => ?_) (fun z => ?_)
  · rw [if_pos z] at H
    exact H
  · rw [if_neg z] at H
    rw [hf]
    exact H
theorem ot_raising {post : Int32 → Prop} {on tp ld pl fw sw st kd en : Int32} {a1 a2 a3 a4 a5 a6 a7 a8 a9 a10 a11 a12 : Nat → Int32} {a13 : Nat → Int64} {a14 : Nat → Int32} {T : Int32} {s : ot_P} {w1 w2 r k : Nat} {tr : List ot_E} (hR : ot_R T s w1 w2 tr (on, tp, ld, pl, fw, sw, st, kd, en, a1, a2, a3, a4, a5, a6, a7, a8, a9, a10, a11, a12, a13, a14)) (hV : ot_V r s) (hk : kd = nI k) (hk3 : k < 3) (H : post (if ot_up k s = true then 1 else 0)) : wpX_raising post (on, tp, ld, pl, fw, sw, st, kd, en, a1, a2, a3, a4, a5, a6, a7, a8, a9, a10, a11, a12, a13, a14) := by
  obtain ⟨h1, h2, h3, h4, h5, h6, h7, h8, h9, h10⟩ := hR
  have hmv := ot_mv_lt s
  show (kd = 0 → wpX_mover _ (on, tp, ld, pl, fw, sw, st, kd, en, a1, a2, a3, a4, a5, a6, a7, a8, a9, a10, a11, a12, a13, a14)) ∧ _
  have e0 : (kd = 0) = (nI k = nI 0) := by rw [hk]; rfl
  rw [e0]
  refine pk_eq k 0 (fun z => ?_) (fun z => ?_)
  · refine ot_mover hV.1 hV.2.1 h3 h4 ?_
    have ea : nI (ot_mv s) &&& 1 = nI (ot_mv s % 2) := pk_andN (show ot_mv s < 2 ^ 32 by omega) 1 (by decide)
    show (nI (ot_mv s) &&& 1 = 0 → _) ∧ _
    rw [ea]
    refine pk_eq (ot_mv s % 2) 0 (fun y => ?_) (fun y => ?_)
    · have e : ot_up k s = true := by unfold ot_up; simp [z, y]
      rw [if_pos e] at H
      exact H
    · have e : ¬ ot_up k s = true := by unfold ot_up; simp [y]
      rw [if_neg e] at H
      exact H
  · have e : ¬ ot_up k s = true := by unfold ot_up; simp [z]
    rw [if_neg e] at H
    exact H
theorem ot_begin {post : St1 → Prop} {on tp ld pl fw sw st kd en : Int32} {a1 a2 a3 a4 a5 a6 a7 a8 a9 a10 a11 a12 : Nat → Int32} {a13 : Nat → Int64} {a14 : Nat → Int32} {T : Int32} {s : ot_P} {w1 w2 r k d : Nat} {tr : List ot_E} (hR : ot_R T s w1 w2 tr (on, tp, ld, pl, fw, sw, st, kd, en, a1, a2, a3, a4, a5, a6, a7, a8, a9, a10, a11, a12, a13, a14)) (hV : ot_V r s) (hk : kd = nI k) (hk3 : k < 3) (hd : d < 14)
    (H : post (on, tp, ld, pl, fw, sw, st, kd, en, a1, a2, a3, a4, a5, a6, a7, a8, a9, upd a10 d (nI (ot_m (ot_ch k s))), upd a11 d (ot_i (ot_in k (ot_up k s))), upd a12 d (nI (if k = 2 then 0 else w1)), a13, a14)) : wpX_begin post (on, tp, ld, pl, fw, sw, st, kd, en, a1, a2, a3, a4, a5, a6, a7, a8, a9, a10, a11, a12, a13, a14) (nI d) := by
  have hfw : fw = nI w1 := hR.2.2.2.2.1
  have b27 : wX_begin_27 post (nI d) (nI (ot_m (ot_ch k s))) (nI d) on tp ld pl fw sw st kd en a1 a2 a3 a4 a5 a6 a7 a8 a9 a10 a11 a12 a13 a14 := by
    unfold wX_begin_27
    refine ⟨pk_in d 14 hd, ?_⟩
    rw [nI_clamp (show d < 2 ^ 31 by omega)]
    refine nm_e (ot_gained hk hk3 hfw ⟨pk_in d 14 hd, nm_e ?_⟩)
    have e0 : (kd = 2) = (nI k = nI 2) := by rw [hk]; rfl
    rw [e0]
    refine pk_eq k 2 (fun z => ⟨pk_in d 14 hd, nm_e ?_⟩) (fun z => ?_)
    · have e : ot_in k (ot_up k s) = 0 := if_pos z
      rw [e, ot_i0] at H
      exact H
    · refine ot_raising (ot_R_fr hR) hV hk hk3 ?_
      by_cases y : ot_up k s = true
      · have e : ot_in k (ot_up k s) = -1 := by unfold ot_in; rw [if_neg z, if_pos y]
        rw [e, ot_im1] at H
        rw [if_pos y]
        exact br_f (by decide) ⟨pk_in d 14 hd, nm_e H⟩
      · have e : ot_in k (ot_up k s) = 100 := by unfold ot_in; rw [if_neg z, if_neg y]
        rw [e, ot_i100] at H
        rw [if_neg y]
        exact br_t rfl ⟨pk_in d 14 hd, nm_e H⟩
  unfold wpX_begin
  refine ot_legalNow hR hV ?_
  have e0 : (kd = 2) = (nI k = nI 2) := by rw [hk]; rfl
  rw [e0]
  refine pk_eq k 2 (fun z => ?_) (fun z => ?_)
  · have e : ot_ch k s = ot_leg s := by
      funext c
      exact if_pos z
    rw [← e]
    exact b27
  · have e : ot_ch k s = ot_few (ot_leg s) (ot_oth s) := by
      funext c
      exact if_neg z
    refine ot_fewer hR hV _ ?_
    rw [← e]
    exact b27
theorem ot_count {post : St1 → Prop} {on tp ld pl fw sw st kd en : Int32} {a1 a2 a3 a4 a5 a6 a7 a8 a9 a10 a11 a12 : Nat → Int32} {a13 : Nat → Int64} {a14 : Nat → Int32} {T : Int32} {s : ot_P} {w1 w2 r k d : Nat} {tr : List ot_E} {a v : Int} (hR : ot_R T s w1 w2 tr (on, tp, ld, pl, fw, sw, st, kd, en, a1, a2, a3, a4, a5, a6, a7, a8, a9, a10, a11, a12, a13, a14)) (hV : ot_V r s) (hk : kd = nI k) (hk3 : k < 3) (hd : d < 14) (ha : a11 d = ot_i a)
    (hb : k ≠ 2 → (-1 ≤ a ∧ a ≤ 100) ∧ (-1 ≤ v ∧ v ≤ 100)) (H : ∀ b11 : Nat → Int32, b11 d = ot_i (ot_cb k (ot_up k s) a v) → (∀ j, j ≠ d → b11 j = a11 j) → post (on, tp, ld, pl, fw, sw, st, kd, en, a1, a2, a3, a4, a5, a6, a7, a8, a9, a10, b11, a12, a13, a14)) : wpX_count post (on, tp, ld, pl, fw, sw, st, kd, en, a1, a2, a3, a4, a5, a6, a7, a8, a9, a10, a11, a12, a13, a14) (nI d) (ot_i v) := by
  have upn : ∀ x : Int32, ∀ j, j ≠ d → upd a11 d x j = a11 j := fun x j hj => pk_un hj
  show (kd = 2 → _) ∧ (¬ kd = 2 → _)
  have e0 : (kd = 2) = (nI k = nI 2) := by rw [hk]; rfl
  rw [e0, nI_clamp (show d < 2 ^ 31 by omega)]
  refine pk_eq k 2 (fun z => ⟨pk_in d 14 hd, pk_in d 14 hd, nm_e (H _ ?_ (upn _))⟩) (fun z => ?_)
  · rw [pk_us, ha, ot_i_add]
    unfold ot_cb
    rw [if_pos z]
  · refine ot_raising hR hV hk hk3 ?_
    obtain ⟨⟨b1, b2⟩, b3, b4⟩ := hb z
    have hle : ot_i a ≤ ot_i v ↔ a ≤ v := ot_i_le (by omega) (by omega) (by omega) (by omega)
    have hle2 : ot_i v ≤ ot_i a ↔ v ≤ a := ot_i_le (by omega) (by omega) (by omega) (by omega)
    by_cases y : ot_up k s = true
    · rw [if_pos y, ha]
      refine br_f (by decide) ⟨pk_in d 14 hd, ek_if hle2 (fun q => ⟨pk_in d 14 hd, pk_in d 14 hd, nm_e (H _ ?_ (upn _))⟩) (fun q => ⟨pk_in d 14 hd, nm_e (H _ ?_ (upn _))⟩)⟩
      · unfold ot_cb
        rw [pk_us, if_neg z, if_pos y, if_pos q]
      · unfold ot_cb
        rw [pk_us, if_neg z, if_pos y, if_neg q]
    · rw [if_neg y, ha]
      refine br_t rfl ⟨pk_in d 14 hd, ek_if hle (fun q => ⟨pk_in d 14 hd, pk_in d 14 hd, nm_e (H _ ?_ (upn _))⟩) (fun q => ⟨pk_in d 14 hd, nm_e (H _ ?_ (upn _))⟩)⟩
      · unfold ot_cb
        rw [pk_us, if_neg z, if_neg y, if_pos q]
      · unfold ot_cb
        rw [pk_us, if_neg z, if_neg y, if_neg q]
end
section
/-! ===== the search ===== -/
/-- the loop goes on well from here, with all the fuel that the rounds left may need -/
def ot_G (post : Int32 → St1 → Prop) (d round : Nat) (u : St1) : Prop := match u with
  | (on, tp, ld, pl, fw, sw, st, kd, en, a1, a2, a3, a4, a5, a6, a7, a8, a9, a10, a11, a12, a13, a14) => ∀ n, 200001 ≤ n + round → wX_search_30 post n (nI d) (nI round) on tp ld pl fw sw st kd en a1 a2 a3 a4 a5 a6 a7 a8 a9 a10 a11 a12 a13 a14
/-- what a level of the search holds: the choices left, what was found, what side 0 had -/
def ot_Ld (k w1 d : Nat) (l : List Nat) (a : Int) (u : St1) : Prop := match u with
  | (on, tp, ld, pl, fw, sw, st, kd, en, a1, a2, a3, a4, a5, a6, a7, a8, a9, a10, a11, a12, a13, a14) => a10 d = nI (ot_lm l) ∧ a11 d = ot_i a ∧ a12 d = nI (if k = 2 then 0 else w1)
def ot_Lk (k : Nat) (T : Int32) (u : St1) : Prop := match u with
  | (on, tp, ld, pl, fw, sw, st, kd, en, a1, a2, a3, a4, a5, a6, a7, a8, a9, a10, a11, a12, a13, a14) => kd = nI k ∧ ot_TB k T a13 a14
def ot_L (k : Nat) (T : Int32) (s : ot_P) (w1 w2 : Nat) (tr : List ot_E) (d : Nat) (l : List Nat) (a : Int) (u : St1) : Prop := ot_R T s w1 w2 tr u ∧ ot_Lk k T u ∧ ot_Ld k w1 d l a u
/-- the levels below d are as they were -/
def ot_F (d : Nat) (u u' : St1) : Prop := match u, u' with
  | (on, tp, ld, pl, fw, sw, st, kd, en, a1, a2, a3, a4, a5, a6, a7, a8, a9, a10, a11, a12, a13, a14), (onz, tpz, ldz, plz, fwz, swz, stz, kdz, enz, a1z, a2z, a3z, a4z, a5z, a6z, a7z, a8z, a9z, a10z, a11z, a12z, a13z, a14z) => ∀ e, e < d → a10z e = a10 e ∧ a11z e = a11 e ∧ a12z e = a12 e
theorem ot_F_refl (d : Nat) (u : St1) : ot_F d u u := by
  obtain ⟨on, tp, ld, pl, fw, sw, st, kd, en, a1, a2, a3, a4, a5, a6, a7, a8, a9, a10, a11, a12, a13, a14⟩ := u
  exact fun e _ => ⟨rfl, rfl, rfl⟩
theorem ot_F_trans {d d' : Nat} {u v w : St1} (hd : d ≤ d') (h : ot_F d u v) (h' : ot_F d' v w) : ot_F d u w := by
  obtain ⟨on, tp, ld, pl, fw, sw, st, kd, en, a1, a2, a3, a4, a5, a6, a7, a8, a9, a10, a11, a12, a13, a14⟩ := u
  obtain ⟨ony, tpy, ldy, ply, fwy, swy, sty, kdy, eny, a1y, a2y, a3y, a4y, a5y, a6y, a7y, a8y, a9y, a10y, a11y, a12y, a13y, a14y⟩ := v
  obtain ⟨onz, tpz, ldz, plz, fwz, swz, stz, kdz, enz, a1z, a2z, a3z, a4z, a5z, a6z, a7z, a8z, a9z, a10z, a11z, a12z, a13z, a14z⟩ := w
  intro e he
  obtain ⟨p1, p2, p3⟩ := h e he
  obtain ⟨q1, q2, q3⟩ := h' e (by omega)
  exact ⟨q1.trans p1, q2.trans p2, q3.trans p3⟩
theorem ot_F_Ld {d d' k w1 : Nat} {l : List Nat} {a : Int} {u v : St1} (hd : d < d') (h : ot_F d' u v) (h' : ot_Ld k w1 d l a u) : ot_Ld k w1 d l a v := by
  obtain ⟨on, tp, ld, pl, fw, sw, st, kd, en, a1, a2, a3, a4, a5, a6, a7, a8, a9, a10, a11, a12, a13, a14⟩ := u
  obtain ⟨ony, tpy, ldy, ply, fwy, swy, sty, kdy, eny, a1y, a2y, a3y, a4y, a5y, a6y, a7y, a8y, a9y, a10y, a11y, a12y, a13y, a14y⟩ := v
  obtain ⟨p1, p2, p3⟩ := h d hd
  obtain ⟨q1, q2, q3⟩ := h'
  exact ⟨p1.trans q1, p2.trans q2, p3.trans q3⟩
theorem ot_val_b {k : Nat} (hk : k ≠ 2) (T : Int32) {r : Nat} {s : ot_P} {c : Nat} (hV : ot_V (r + 1) s) (hc : ot_own s c = true) : 0 ≤ ot_val (ot_ch k) k T r s c ∧ ot_val (ot_ch k) k T r s c ≤ 5 := by
  have hr := hV.2.2.2.1
  have h1 := ot_sv_b hk T (ot_V_psh T hV hc)
  have h2 := ot_gn_le T s c
  show 0 ≤ ot_sv k T r (ot_psh T s c) + ot_gk k T s c ∧ ot_sv k T r (ot_psh T s c) + ot_gk k T s c ≤ 5
  rw [ot_gk_n hk]
  generalize ot_sv k T r (ot_psh T s c) = x at h1
  omega
theorem ot_cb_b {k : Nat} (hk : k ≠ 2) (up : Bool) {a v : Int} (ha : -1 ≤ a ∧ a ≤ 100) (hv : -1 ≤ v ∧ v ≤ 100) : -1 ≤ ot_cb k up a v ∧ ot_cb k up a v ≤ 100 := by
  unfold ot_cb
  rw [if_neg hk]
  split <;> split <;> assumption
theorem ot_in_b (k : Nat) (up : Bool) : -1 ≤ ot_in k up ∧ ot_in k up ≤ 100 := by
  unfold ot_in
  split
  · omega
  · split <;> omega
/-- what was found below, moved to the level above -/
theorem ot_all (k : Nat) (T : Int32) (s : ot_P) (c w1 : Nat) (x : Int) : ot_i x + nI (if k = 2 then 0 else w1 + ot_gn T s c) - nI (if k = 2 then 0 else w1) = ot_i (x + ot_gk k T s c) := by
  rw [← ot_i_n, ← ot_i_n, ot_i_add, ot_i_sub]
  refine congrArg ot_i ?_
  unfold ot_gk
  by_cases h : k = 2
  · rw [if_pos h, if_pos h, if_pos h]
    omega
  · rw [if_neg h, if_neg h, if_neg h]
    omega
theorem ot_stepA {post : Int32 → St1 → Prop} {k d round : Nat} {T : Int32} {s : ot_P} {w1 w2 r c : Nat} {tr : List ot_E} {l : List Nat} {a : Int} {u : St1} (hk3 : k < 3) (hV : ot_V (r + 1) s) (hE : ∀ e, e ∈ tr → e.1.2.2.2 < 4) (hn : tr.length + (r + 1) ≤ 12) (hd : d + (r + 1) ≤ 12)
    (hso : ot_so (c :: l)) (hc : ot_own s c = true) (ha : k ≠ 2 → -1 ≤ a ∧ a ≤ 100) (hr : round < 200000) (hL : ot_L k T s w1 w2 tr d (c :: l) a u)
    (H1 : ∀ u', ot_L k T s w1 w2 tr d l (ot_cb k (ot_up k s) a (ot_val (ot_ch k) k T r s c)) u' → ot_F d u u' → ot_G post d (round + 1) u')
    (H2 : 0 < r → ∀ u', ot_L k T (ot_psh T s c) (w1 + ot_gn T s c) (w2 + ot_gs T s c) ((s, w1, w2, c) :: tr) (d + 1) (ot_li (ot_ch k (ot_psh T s c))) (ot_in k (ot_up k (ot_psh T s c))) u' → ot_Ld k w1 d l a u' → ot_F d u u' → ot_G post (d + 1) (round + 1) u') :
    ot_G post d round u := by
  obtain ⟨on, tp, ld, pl, fw, sw, st, kd, en, a1, a2, a3, a4, a5, a6, a7, a8, a9, a10, a11, a12, a13, a14⟩ := u
  obtain ⟨hR, ⟨hk, hT⟩, hL1, hL2, hL3⟩ := hL
  have hc12 := ot_V_card hV hc
  have hV1 := ot_V_psh T hV hc
  have hlow := ot_lm_low hso
  have hpw : 2 ^ c ≤ 2 ^ 11 := Nat.pow_le_pow_right (by omega) (by omega)
  have hpw1 : 1 ≤ 2 ^ c := Nat.one_le_two_pow
  intro n hnr
  obtain ⟨m, rfl⟩ : ∃ m, n = m + 1 := ⟨n - 1, by omega⟩
  refine pk_le 200000 round (fun z => absurd z (by omega)) (fun _ => ?_)
  refine br_f (nI_pos (by omega)) ⟨pk_in d 14 (by omega), ?_⟩
  rw [nI_clamp (show d < 2 ^ 31 by omega), hL1]
  refine br_f (ot_lm_ne hso) ⟨pk_in d 14 (by omega), pk_in d 14 (by omega), nm_r hlow.1 ⟨pk_in d 14 (by omega), pk_in d 14 (by omega), ?_⟩⟩
  rw [hlow.2]
  refine nm_e ?_
  rw [show nI (2 ^ c) - 1 = nI (2 ^ c - 1) from pk_sub (b := 1) hpw1]
  refine ot_sizeOf (by omega) ?_
  rw [ot_cn_low c hc12]
  refine ot_push (ot_R_fr hR) hV hE (by omega) hc (fun ld' pl' fw' sw' st' b2 b3 b4 b5 b6 b7 b8 b9 hR1 => ?_)
  have hf1 : fw' = nI (w1 + ot_gn T s c) := hR1.2.2.2.2.1
  have hsv := ot_sv_any (k := k) T hV1
  refine ot_atOnce hR1 hV1 hk hk3 hT ?_ (fun hr0 => ?_)
  · refine br_f (fun z => ?_) ?_
    · have z2 : ot_i (ot_sv k T r (ot_psh T s c)) < ot_i 0 := by rw [ot_i0]; exact z
      have := (ot_i_lt (by omega) (by omega) (by omega) (by omega)).mp z2
      omega
    · refine ot_gained hk hk3 hf1 ⟨pk_in d 14 (by omega), ?_⟩
      rw [hL3, ot_all]
      refine nm_e ?_
      refine ot_pop hR1 hV (by omega) hc (fun ld2 pl2 fw2 sw2 st2 c2 c3 hR2 => ?_)
      refine ot_count hR2 hV hk hk3 (by omega) hL2 (fun hk2 => ⟨ha hk2, ?_⟩) (fun b11 e1 e2 => nm_r (nI_1 round) ?_)
      · have := ot_val_b hk2 T hV hc
        have h0 : 0 ≤ ot_sv k T r (ot_psh T s c) + ot_gk k T s c ∧ ot_sv k T r (ot_psh T s c) + ot_gk k T s c ≤ 5 := this
        omega
      · exact H1 _ ⟨ot_R_fr hR2, ⟨hk, hT⟩, pk_us, e1, hL3⟩ (fun e he => ⟨pk_un (by omega), e2 e (by omega), rfl⟩) m (by omega)
  · refine br_t (by decide) (nm_r (nI_1 d) ?_)
    refine ot_begin hR1 hV1 hk hk3 (by omega) (nm_r (nI_1 round) ?_)
    have hl : upd (upd a10 d (nI (ot_lm l))) (d + 1) (nI (ot_m (ot_ch k (ot_psh T s c)))) (d + 1) = nI (ot_lm (ot_li (ot_ch k (ot_psh T s c)))) := by rw [pk_us, ot_lm_li]
    have g1 : upd (upd a10 d (nI (ot_lm l))) (d + 1) (nI (ot_m (ot_ch k (ot_psh T s c)))) d = nI (ot_lm l) := by rw [pk_un (by omega), pk_us]
    have g2 : ∀ e, e ≠ d + 1 → upd a11 (d + 1) (ot_i (ot_in k (ot_up k (ot_psh T s c)))) e = a11 e := fun e he => pk_un he
    have g3 : ∀ e, e ≠ d + 1 → upd a12 (d + 1) (nI (if k = 2 then 0 else w1 + ot_gn T s c)) e = a12 e := fun e he => pk_un he
    have g4 : ∀ e, e < d → upd (upd a10 d (nI (ot_lm l))) (d + 1) (nI (ot_m (ot_ch k (ot_psh T s c)))) e = a10 e := fun e he => by rw [pk_un (by omega), pk_un (by omega)]
    exact H2 hr0 _ ⟨ot_R_fr hR1, ⟨hk, hT⟩, hl, pk_us, pk_us⟩ ⟨g1, (g2 d (by omega)).trans hL2, (g3 d (by omega)).trans hL3⟩ (fun e he => ⟨g4 e he, g2 e (by omega), g3 e (by omega)⟩) m (by omega)
theorem ot_stepB {post : Int32 → St1 → Prop} {k d round : Nat} {T : Int32} {s : ot_P} {w1 w2 r c : Nat} {tr : List ot_E} {l : List Nat} {a : Int} {u : St1} (hk3 : k < 3) (hV : ot_V (r + 1) s) (hn : tr.length + (r + 1) ≤ 12) (hd : d + (r + 1) ≤ 12)
    (hc : ot_own s c = true) (ha : k ≠ 2 → -1 ≤ a ∧ a ≤ 100) (hr : round < 200000) (hL : ot_L k T (ot_psh T s c) (w1 + ot_gn T s c) (w2 + ot_gs T s c) ((s, w1, w2, c) :: tr) (d + 1) [] (ot_sv k T r (ot_psh T s c)) u) (hLd : ot_Ld k w1 d l a u)
    (H1 : ∀ u', ot_L k T s w1 w2 tr d l (ot_cb k (ot_up k s) a (ot_val (ot_ch k) k T r s c)) u' → ot_F d u u' → ot_G post d (round + 1) u') :
    ot_G post (d + 1) round u := by
  obtain ⟨on, tp, ld, pl, fw, sw, st, kd, en, a1, a2, a3, a4, a5, a6, a7, a8, a9, a10, a11, a12, a13, a14⟩ := u
  obtain ⟨hR, ⟨hk, hT⟩, hL1, hL2, hL3⟩ := hL
  obtain ⟨hM1, hM2, hM3⟩ := hLd
  have hV1 := ot_V_psh T hV hc
  intro n hnr
  obtain ⟨m, rfl⟩ : ∃ m, n = m + 1 := ⟨n - 1, by omega⟩
  have back : ∀ (en' : Int32) (b13 : Nat → Int64) (b14 : Nat → Int32), ot_TB k T b13 b14 → wX_search_177 post (wX_search_30 post m) (nI (d + 1)) (nI round) on tp ld pl fw sw st kd en' a1 a2 a3 a4 a5 a6 a7 a8 a9 a10 a11 a12 b13 b14 := by
    intro en' b13 b14 hT'
    refine ⟨pk_in (d + 1) 14 (by omega), pk_in (d + 1) 14 (by omega), nm_e (nm_r (pk_m1 d) ?_)⟩
    rw [nI_clamp (show d + 1 < 2 ^ 31 by omega), hL2, hL3]
    refine br_f (nI_pos (by omega)) ?_
    refine ot_pop (ot_R_fr hR) hV (by omega) hc (fun ld2 pl2 fw2 sw2 st2 c2 c3 hR2 => ⟨pk_in d 14 (by omega), ?_⟩)
    rw [nI_clamp (show d < 2 ^ 31 by omega), hM3, ot_all]
    refine ot_count hR2 hV hk hk3 (by omega) hM2 (fun hk2 => ⟨ha hk2, ?_⟩) (fun b11 e1 e2 => nm_r (nI_1 round) ?_)
    · have := ot_val_b hk2 T hV hc
      have h0 : 0 ≤ ot_sv k T r (ot_psh T s c) + ot_gk k T s c ∧ ot_sv k T r (ot_psh T s c) + ot_gk k T s c ≤ 5 := this
      omega
    · exact H1 _ ⟨ot_R_fr hR2, ⟨hk, hT'⟩, hM1, e1, hM3⟩ (fun e he => ⟨rfl, e2 e (by omega), rfl⟩) m (by omega)
  refine pk_le 200000 round (fun z => absurd z (by omega)) (fun _ => ?_)
  refine br_f (nI_pos (by omega)) ⟨pk_in (d + 1) 14 (by omega), ?_⟩
  rw [nI_clamp (show d + 1 < 2 ^ 31 by omega), hL1]
  refine br_t rfl ?_
  refine br_c (fun hp0 => ?_) (fun _ => back _ _ _ hT)
  have hp : (ot_psh T s c).2.2.2 = 0 := by
    have e : nI (ot_psh T s c).2.2.2 = nI 0 := hR.2.2.2.1.symm.trans hp0
    have := hV1.2.1
    exact (nI_eq (by omega) (by omega)).mp e
  refine ot_keyNow hR hV1 ⟨pk_in (d + 1) 14 (by omega), ?_⟩
  rw [hL2]
  exact ot_remember hT hV1 hp (fun en' b13 b14 hT' => back en' b13 b14 hT')
theorem ot_stepC {post : Int32 → St1 → Prop} {k round : Nat} {T : Int32} {s : ot_P} {w1 w2 r : Nat} {tr : List ot_E} {u : St1} (hV : ot_V r s) (hr : round < 200000) (hL : ot_L k T s w1 w2 tr 0 [] (ot_sv k T r s) u)
    (H : ∀ u', ot_R T s w1 w2 tr u' → post (ot_i (ot_sv k T r s)) u') : ot_G post 0 round u := by
  obtain ⟨on, tp, ld, pl, fw, sw, st, kd, en, a1, a2, a3, a4, a5, a6, a7, a8, a9, a10, a11, a12, a13, a14⟩ := u
  obtain ⟨hR, ⟨hk, hT⟩, hL1, hL2, hL3⟩ := hL
  intro n hnr
  obtain ⟨m, rfl⟩ : ∃ m, n = m + 1 + 1 := ⟨n - 2, by omega⟩
  have back : ∀ (en' : Int32) (b13 : Nat → Int64) (b14 : Nat → Int32), wX_search_177 post (wX_search_30 post (m + 1)) (nI 0) (nI round) on tp ld pl fw sw st kd en' a1 a2 a3 a4 a5 a6 a7 a8 a9 a10 a11 a12 b13 b14 := by
    intro en' b13 b14
    have hpost : post (a11 0) (on, tp, ld, pl, fw, sw, st, kd, en', a1, a2, a3, a4, a5, a6, a7, a8, a9, a10, a11, a12, b13, b14) := by
      rw [hL2]
      exact H _ (ot_R_fr hR)
    refine ⟨pk_in 0 14 (by omega), pk_in 0 14 (by omega), nm_e (nm_r (show nI 0 + (-1) = (-1 : Int32) by decide) ?_)⟩
    refine br_t (by decide) (nm_r (nI_1 round) ?_)
    exact br_c (fun _ => hpost) (fun _ => br_t (by decide) hpost)
  refine pk_le 200000 round (fun z => absurd z (by omega)) (fun _ => ?_)
  refine br_f (nI_pos (by omega)) ⟨pk_in 0 14 (by omega), ?_⟩
  rw [nI_clamp (show 0 < 2 ^ 31 by omega), hL1]
  refine br_t rfl ?_
  refine br_c (fun hp0 => ?_) (fun _ => back _ _ _)
  have hp : s.2.2.2 = 0 := by
    have e : nI s.2.2.2 = nI 0 := hR.2.2.2.1.symm.trans hp0
    have := hV.2.1
    exact (nI_eq (by omega) (by omega)).mp e
  refine ot_keyNow hR hV ⟨pk_in 0 14 (by omega), ?_⟩
  rw [hL2]
  exact ot_remember hT hV hp (fun en' b13 b14 _ => back en' b13 b14)
/-- a level is searched to its end -/
theorem ot_claim {post : Int32 → St1 → Prop} {k : Nat} {T : Int32} (hk3 : k < 3) : ∀ (r : Nat) (s : ot_P) (w1 w2 : Nat) (tr : List ot_E) (d : Nat), ot_V (r + 1) s → (∀ e, e ∈ tr → e.1.2.2.2 < 4) → tr.length + (r + 1) ≤ 12 → d + (r + 1) ≤ 12 →
    ∀ (l : List Nat) (a : Int) (round : Nat) (u : St1), ot_so l → (∀ c, c ∈ l → ot_own s c = true) → (k ≠ 2 → -1 ≤ a ∧ a ≤ 100) → round + l.length * (1 + ot_B r) < 200000 → ot_L k T s w1 w2 tr d l a u →
    (∀ (u' : St1) (round' : Nat), round' ≤ round + l.length * (1 + ot_B r) → ot_L k T s w1 w2 tr d [] (l.foldl (fun a c => ot_cb k (ot_up k s) a (ot_val (ot_ch k) k T r s c)) a) u' → ot_F d u u' → ot_G post d round' u') → ot_G post d round u := by
  intro r
  induction r with
  | zero =>
    intro s w1 w2 tr d hV hE hn hd l
    induction l with
    | nil => intro a round u _ _ _ _ hL K; exact K u round (by omega) hL (ot_F_refl d u)
    | cons c l ih =>
      intro a round u hso hown ha hcost hL K
      have hc := hown c (by simp)
      rw [List.length_cons, Nat.succ_mul] at hcost
      have hcost' : ∀ x, x ≤ round + l.length * (1 + ot_B 0) + (1 + ot_B 0) → x ≤ round + (c :: l).length * (1 + ot_B 0) := by
        intro x hx
        rw [List.length_cons, Nat.succ_mul]
        omega
      refine ot_stepA hk3 hV hE hn hd hso hc ha (by omega) hL (fun u' hL' hF' => ?_) (fun z => absurd z (by omega))
      refine ih _ (round + 1) u' hso.2.2 (fun x hx => hown x (by simp [hx])) (fun hk2 => ot_cb_b hk2 _ (ha hk2) (by have := ot_val_b hk2 T hV hc; omega)) (by omega) hL' (fun u'' round'' hle hL'' hF'' => ?_)
      exact K u'' round'' (hcost' _ (by omega)) hL'' (ot_F_trans (Nat.le_refl d) hF' hF'')
  | succ r IH =>
    intro s w1 w2 tr d hV hE hn hd l
    induction l with
    | nil => intro a round u _ _ _ _ hL K; exact K u round (by omega) hL (ot_F_refl d u)
    | cons c l ih =>
      intro a round u hso hown ha hcost hL K
      have hc := hown c (by simp)
      have hV1 := ot_V_psh T hV hc
      rw [List.length_cons, Nat.succ_mul] at hcost
      have hcost' : ∀ x, x ≤ round + l.length * (1 + ot_B (r + 1)) + (1 + ot_B (r + 1)) → x ≤ round + (c :: l).length * (1 + ot_B (r + 1)) := by
        intro x hx
        rw [List.length_cons, Nat.succ_mul]
        omega
      have hav : k ≠ 2 → -1 ≤ ot_cb k (ot_up k s) a (ot_val (ot_ch k) k T (r + 1) s c) ∧ ot_cb k (ot_up k s) a (ot_val (ot_ch k) k T (r + 1) s c) ≤ 100 := fun hk2 => ot_cb_b hk2 _ (ha hk2) (by have := ot_val_b hk2 T hV hc; omega)
      refine ot_stepA hk3 hV hE hn hd hso hc ha (by omega) hL (fun u' hL' hF' => ?_) (fun _ u' hL' hLd' hF' => ?_)
      · refine ih _ (round + 1) u' hso.2.2 (fun x hx => hown x (by simp [hx])) hav (by omega) hL' (fun u'' round'' hle hL'' hF'' => ?_)
        exact K u'' round'' (hcost' _ (by omega)) hL'' (ot_F_trans (Nat.le_refl d) hF' hF'')
      · have hlen := ot_ch_len (k := k) hV1
        have hB : ot_B (r + 1) = 1 + (r + 4) / 4 * (1 + ot_B r) := rfl
        have hmul : (ot_li (ot_ch k (ot_psh T s c))).length * (1 + ot_B r) ≤ (r + 4) / 4 * (1 + ot_B r) := Nat.mul_le_mul_right _ hlen
        refine IH (ot_psh T s c) (w1 + ot_gn T s c) (w2 + ot_gs T s c) ((s, w1, w2, c) :: tr) (d + 1) hV1 (fun e he => ?_) (by rw [List.length_cons]; omega) (by omega) (ot_li (ot_ch k (ot_psh T s c))) (ot_in k (ot_up k (ot_psh T s c))) (round + 1) u' (ot_so_li _) (fun x hx => ot_leg_own (ot_ch_leg (ot_li_mem.mp hx).2)) (fun _ => ot_in_b _ _) (by omega) hL' (fun u4 round4 hle4 hL4 hF4 => ?_)
        · rcases List.mem_cons.mp he with z | z
          · rw [z]; exact hV.2.1
          · exact hE e z
        · refine ot_stepB hk3 hV hn hd hc ha (by omega) hL4 (ot_F_Ld (by omega) hF4 hLd') (fun u5 hL5 hF5 => ?_)
          refine ih _ (round4 + 1) u5 hso.2.2 (fun x hx => hown x (by simp [hx])) hav (by omega) hL5 (fun u6 round6 hle6 hL6 hF6 => ?_)
          exact K u6 round6 (hcost' _ (by omega)) hL6 (ot_F_trans (Nat.le_refl d) (ot_F_trans (Nat.le_succ d) hF' hF4) (ot_F_trans (Nat.le_refl d) hF5 hF6))
theorem ot_search {post : Int32 → St1 → Prop} {u : St1} {T : Int32} {s : ot_P} {w1 w2 r k : Nat} {tr : List ot_E} (hk3 : k < 3) (hR : ot_R T s w1 w2 tr u) (hV : ot_V r s) (hE : ∀ e, e ∈ tr → e.1.2.2.2 < 4) (hn : tr.length + r ≤ 12)
    (H : ∀ u', ot_R T s w1 w2 tr u' → post (ot_i (ot_sv k T r s)) u') : wpX_search post u (nI k) := by
  obtain ⟨on, tp, ld, pl, fw, sw, st, kd, en, a1, a2, a3, a4, a5, a6, a7, a8, a9, a10, a11, a12, a13, a14⟩ := u
  have hsv := ot_sv_any (k := k) T hV
  refine ot_clearTable (fun b13 hb => ?_)
  have hR1 : ot_R T s w1 w2 tr (on, tp, ld, pl, fw, sw, st, nI k, 0, a1, a2, a3, a4, a5, a6, a7, a8, a9, a10, a11, a12, b13, a14) := ot_R_fr hR
  have hT : ot_TB k T b13 a14 := ot_TB_0 hb
  refine ot_atOnce hR1 hV rfl hk3 hT ?_ (fun hr => ?_)
  · refine br_f (fun z => ?_) (H _ hR1)
    have z2 : ot_i (ot_sv k T r s) < ot_i 0 := by rw [ot_i0]; exact z
    have := (ot_i_lt (by omega) (by omega) (by omega) (by omega)).mp z2
    omega
  · refine br_t (by decide) ?_
    obtain ⟨q, rfl⟩ : ∃ q, r = q + 1 := ⟨r - 1, by omega⟩
    refine ot_begin (d := 0) hR1 hV rfl hk3 (by omega) ⟨200001, ?_⟩
    have hlen := ot_ch_len (k := k) hV
    have hB : ot_B (q + 1) = 1 + (q + 4) / 4 * (1 + ot_B q) := rfl
    have hB2 := ot_B_12 (q + 1) (by omega)
    have hmul : (ot_li (ot_ch k s)).length * (1 + ot_B q) ≤ (q + 4) / 4 * (1 + ot_B q) := Nat.mul_le_mul_right _ hlen
    have hl : upd a10 0 (nI (ot_m (ot_ch k s))) 0 = nI (ot_lm (ot_li (ot_ch k s))) := by rw [pk_us, ot_lm_li]
    exact ot_claim hk3 q s w1 w2 tr 0 hV hE hn (by omega) (ot_li (ot_ch k s)) (ot_in k (ot_up k s)) 0 (on, tp, ld, pl, fw, sw, st, nI k, 0, a1, a2, a3, a4, a5, a6, a7, a8, a9, upd a10 0 (nI (ot_m (ot_ch k s))), upd a11 0 (ot_i (ot_in k (ot_up k s))), upd a12 0 (nI (if k = 2 then 0 else w1)), b13, a14)
      (ot_so_li _) (fun x hx => ot_leg_own (ot_ch_leg (ot_li_mem.mp hx).2)) (fun _ => ot_in_b _ _) (by omega) ⟨ot_R_fr hR1, ⟨rfl, hT⟩, hl, pk_us, pk_us⟩
      (fun u' round' hle hL' hF' => ot_stepC hV (by omega) hL' H) 200001 (by omega)
end
section
/-! ===== the questions ===== -/
/-- the play so far: each step legal, from a sound beginning with E cards a hand -/
def ot_Tr (T : Int32) (E : Nat) : List ot_E → ot_P → Nat → Nat → Nat → Prop
  | [], s, w1, w2, r => ot_V r s ∧ 4 * (w1 + w2) + r + s.2.2.2 = 4 * E ∧ r = 4 * E
  | (s0, v1, v2, c) :: tl, s, w1, w2, r => s = ot_psh T s0 c ∧ w1 = v1 + ot_gn T s0 c ∧ w2 = v2 + ot_gs T s0 c ∧ ot_leg s0 c = true ∧ ot_Tr T E tl s0 v1 v2 (r + 1)
theorem ot_psh_pl (T : Int32) (s : ot_P) (c : Nat) : (ot_psh T s c).2.2.2 = if s.2.2.2 + 1 = 4 then 0 else s.2.2.2 + 1 := by
  by_cases h : s.2.2.2 + 1 = 4
  · rw [ot_psh_3 T c h, if_pos h]
  · rw [ot_psh_n T c h, if_neg h]
theorem ot_Tr_f {T : Int32} {E : Nat} : ∀ (tr : List ot_E) (s : ot_P) (w1 w2 r : Nat), ot_Tr T E tr s w1 w2 r → ot_V r s ∧ 4 * (w1 + w2) + r + s.2.2.2 = 4 * E ∧ tr.length + r = 4 * E ∧ ∀ e, e ∈ tr → e.1.2.2.2 < 4 := by
  intro tr
  induction tr with
  | nil => intro s w1 w2 r h; exact ⟨h.1, h.2.1, by rw [List.length_nil]; have := h.2.2; omega, fun e he => nomatch he⟩
  | cons e tl ih =>
    intro s w1 w2 r h
    obtain ⟨s0, v1, v2, c⟩ := e
    obtain ⟨h1, h2, h3, h4, h5⟩ := h
    obtain ⟨k1, k2, k3, k4⟩ := ih s0 v1 v2 (r + 1) h5
    refine ⟨by rw [h1]; exact ot_V_psh T k1 (ot_leg_own h4), ?_, by rw [List.length_cons]; omega, fun e he => ?_⟩
    · rw [h1, ot_psh_pl]
      by_cases z : s0.2.2.2 + 1 = 4
      · have := ot_gn3 T (s := s0) c (by omega)
        rw [if_pos z]
        omega
      · have := ot_gnz T (s := s0) c (by omega)
        rw [if_neg z]
        omega
    · rcases List.mem_cons.mp he with z | z
      · rw [z]; exact k1.2.1
      · exact k4 e z
/-- a sound state -/
def ot_S (T : Int32) (E : Nat) (s : ot_P) (w1 w2 : Nat) (tr : List ot_E) (r : Nat) (u : St1) : Prop := ot_R T s w1 w2 tr u ∧ ot_Tr T E tr s w1 w2 r ∧ E ≤ 3
theorem ot_on {T : Int32} {s : ot_P} {w1 w2 : Nat} {tr : List ot_E} {on tp ld pl fw sw st kd en : Int32} {a1 a2 a3 a4 a5 a6 a7 a8 a9 a10 a11 a12 : Nat → Int32} {a13 : Nat → Int64} {a14 : Nat → Int32} (h : ot_R T s w1 w2 tr (on, tp, ld, pl, fw, sw, st, kd, en, a1, a2, a3, a4, a5, a6, a7, a8, a9, a10, a11, a12, a13, a14)) : ¬ on = 0 := by
  rw [h.1]
  decide
theorem ot_legal {post : Int32 → Prop} {u : St1} {T : Int32} {s : ot_P} {w1 w2 r E : Nat} {tr : List ot_E} (h : ot_S T E s w1 w2 tr r u) (H : post (nI (ot_m (ot_leg s)))) : wpX_legal post u := by
  have hV := (ot_Tr_f _ _ _ _ _ h.2.1).1
  obtain ⟨on, tp, ld, pl, fw, sw, st, kd, en, a1, a2, a3, a4, a5, a6, a7, a8, a9, a10, a11, a12, a13, a14⟩ := u
  exact br_f (ot_on h.1) (ot_legalNow h.1 hV H)
theorem ot_valueNow {post : Int32 → St1 → Prop} {u : St1} {T : Int32} {s : ot_P} {w1 w2 r E : Nat} {tr : List ot_E} (h : ot_S T E s w1 w2 tr r u) (H : ∀ u', ot_S T E s w1 w2 tr r u' → post (ot_i ((w1 : Int) + ot_sv 0 T r s)) u') : wpX_valueNow post u := by
  obtain ⟨k1, k2, k3, k4⟩ := ot_Tr_f _ _ _ _ _ h.2.1
  have hE := h.2.2
  obtain ⟨on, tp, ld, pl, fw, sw, st, kd, en, a1, a2, a3, a4, a5, a6, a7, a8, a9, a10, a11, a12, a13, a14⟩ := u
  refine ot_search (k := 0) (by omega) h.1 k1 k4 (by omega) (fun u' hR' => ?_)
  obtain ⟨onz, tpz, ldz, plz, fwz, swz, stz, kdz, enz, a1z, a2z, a3z, a4z, a5z, a6z, a7z, a8z, a9z, a10z, a11z, a12z, a13z, a14z⟩ := u'
  have hf : fwz = nI w1 := hR'.2.2.2.2.1
  have e : fwz + ot_i (ot_sv 0 T r s) = ot_i ((w1 : Int) + ot_sv 0 T r s) := by rw [hf, ← ot_i_n, ot_i_add]
  show post (fwz + ot_i (ot_sv 0 T r s)) (onz, tpz, ldz, plz, fwz, swz, stz, kdz, enz, a1z, a2z, a3z, a4z, a5z, a6z, a7z, a8z, a9z, a10z, a11z, a12z, a13z, a14z)
  rw [e]
  exact H _ ⟨hR', h.2⟩
theorem ot_valueQ {post : Int32 → St1 → Prop} {u : St1} {T : Int32} {s : ot_P} {w1 w2 r E : Nat} {tr : List ot_E} (h : ot_S T E s w1 w2 tr r u) (H : ∀ u', ot_S T E s w1 w2 tr r u' → post (ot_i ((w1 : Int) + ot_sv 0 T r s)) u') : wpX_value post u := by
  obtain ⟨on, tp, ld, pl, fw, sw, st, kd, en, a1, a2, a3, a4, a5, a6, a7, a8, a9, a10, a11, a12, a13, a14⟩ := u
  refine br_f (ot_on h.1) (ot_valueNow h (fun u' h' => ?_))
  obtain ⟨onz, tpz, ldz, plz, fwz, swz, stz, kdz, enz, a1z, a2z, a3z, a4z, a5z, a6z, a7z, a8z, a9z, a10z, a11z, a12z, a13z, a14z⟩ := u'
  exact H _ h'
theorem ot_least {post : Int32 → St1 → Prop} {u : St1} {T : Int32} {s : ot_P} {w1 w2 r E : Nat} {tr : List ot_E} (h : ot_S T E s w1 w2 tr r u) (H : ∀ u', ot_S T E s w1 w2 tr r u' → post (ot_i ((w1 : Int) + ot_sv 1 T r s)) u') : wpX_least post u := by
  obtain ⟨k1, k2, k3, k4⟩ := ot_Tr_f _ _ _ _ _ h.2.1
  have hE := h.2.2
  obtain ⟨on, tp, ld, pl, fw, sw, st, kd, en, a1, a2, a3, a4, a5, a6, a7, a8, a9, a10, a11, a12, a13, a14⟩ := u
  refine br_f (ot_on h.1) (ot_search (k := 1) (by omega) h.1 k1 k4 (by omega) (fun u' hR' => ?_))
  obtain ⟨onz, tpz, ldz, plz, fwz, swz, stz, kdz, enz, a1z, a2z, a3z, a4z, a5z, a6z, a7z, a8z, a9z, a10z, a11z, a12z, a13z, a14z⟩ := u'
  have hf : fwz = nI w1 := hR'.2.2.2.2.1
  have e : fwz + ot_i (ot_sv 1 T r s) = ot_i ((w1 : Int) + ot_sv 1 T r s) := by rw [hf, ← ot_i_n, ot_i_add]
  show post (fwz + ot_i (ot_sv 1 T r s)) (onz, tpz, ldz, plz, fwz, swz, stz, kdz, enz, a1z, a2z, a3z, a4z, a5z, a6z, a7z, a8z, a9z, a10z, a11z, a12z, a13z, a14z)
  rw [e]
  exact H _ ⟨hR', h.2⟩
theorem ot_courses {post : Int32 → St1 → Prop} {u : St1} {T : Int32} {s : ot_P} {w1 w2 r E : Nat} {tr : List ot_E} (h : ot_S T E s w1 w2 tr r u) (H : ∀ u', ot_S T E s w1 w2 tr r u' → post (ot_i (ot_sv 2 T r s)) u') : wpX_courses post u := by
  obtain ⟨k1, k2, k3, k4⟩ := ot_Tr_f _ _ _ _ _ h.2.1
  have hE := h.2.2
  obtain ⟨on, tp, ld, pl, fw, sw, st, kd, en, a1, a2, a3, a4, a5, a6, a7, a8, a9, a10, a11, a12, a13, a14⟩ := u
  refine br_f (ot_on h.1) (ot_search (k := 2) (by omega) h.1 k1 k4 (by omega) (fun u' hR' => ?_))
  obtain ⟨onz, tpz, ldz, plz, fwz, swz, stz, kdz, enz, a1z, a2z, a3z, a4z, a5z, a6z, a7z, a8z, a9z, a10z, a11z, a12z, a13z, a14z⟩ := u'
  exact H _ ⟨hR', h.2⟩
theorem ot_toPlay {post : Int32 → Prop} {u : St1} {T : Int32} {s : ot_P} {w1 w2 r E : Nat} {tr : List ot_E} (h : ot_S T E s w1 w2 tr r u) (H : post (if r = 0 then (-4) else nI (ot_mv s))) : wpX_toPlay post u := by
  have hV := (ot_Tr_f _ _ _ _ _ h.2.1).1
  have hown := ot_V_own hV
  obtain ⟨on, tp, ld, pl, fw, sw, st, kd, en, a1, a2, a3, a4, a5, a6, a7, a8, a9, a10, a11, a12, a13, a14⟩ := u
  have hon := ot_on h.1
  obtain ⟨⟨h1, h2, h3, h4, h5, h6, h7, h8, h9, h10⟩, _, _⟩ := h
  have hmv := ot_mv_lt s
  refine br_f hon ?_
  refine ot_mover hV.1 hV.2.1 h3 h4 ?_
  refine ⟨pk_in (ot_mv s) 4 hmv, ?_⟩
  rw [nI_clamp (show ot_mv s < 2 ^ 31 by omega), h8 _ hmv]
  by_cases hr : r = 0
  · rw [if_pos hr] at H
    exact br_t (ot_m_z.mpr (ot_cn_z.mp (by rw [show (fun c => s.1 c == ot_mv s) = ot_own s from rfl, hown, hr]))) H
  · rw [if_neg hr] at H
    refine br_f (fun z => ?_) (ot_mover hV.1 hV.2.1 h3 h4 H)
    have z2 := ot_cn_z.mpr (ot_m_z.mp z)
    rw [show (fun c => s.1 c == ot_mv s) = ot_own s from rfl, hown] at z2
    omega
theorem ot_won0 {post : Int32 → Prop} {u : St1} {T : Int32} {s : ot_P} {w1 w2 r E : Nat} {tr : List ot_E} (h : ot_S T E s w1 w2 tr r u) (H : post (nI w1)) : wpX_won post u 0 := by
  obtain ⟨on, tp, ld, pl, fw, sw, st, kd, en, a1, a2, a3, a4, a5, a6, a7, a8, a9, a10, a11, a12, a13, a14⟩ := u
  have hf : fw = nI w1 := h.1.2.2.2.2.1
  refine br_f (by decide) (br_t (by decide) (br_f (ot_on h.1) (br_t rfl ?_)))
  rw [hf]
  exact H
theorem ot_won1 {post : Int32 → Prop} {u : St1} {T : Int32} {s : ot_P} {w1 w2 r E : Nat} {tr : List ot_E} (h : ot_S T E s w1 w2 tr r u) (H : post (nI w2)) : wpX_won post u 1 := by
  obtain ⟨on, tp, ld, pl, fw, sw, st, kd, en, a1, a2, a3, a4, a5, a6, a7, a8, a9, a10, a11, a12, a13, a14⟩ := u
  have hf : sw = nI w2 := h.1.2.2.2.2.2.1
  refine br_f (by decide) (br_t (by decide) (br_f (ot_on h.1) (br_f (by decide) ?_)))
  rw [hf]
  exact H
theorem ot_hand {post : Int32 → Prop} {u : St1} {T : Int32} {s : ot_P} {w1 w2 r E p : Nat} {tr : List ot_E} (h : ot_S T E s w1 w2 tr r u) (hp : p < 4) (H : post (nI (ot_m (fun c => s.1 c == p)))) : wpX_hand post u (nI p) := by
  obtain ⟨on, tp, ld, pl, fw, sw, st, kd, en, a1, a2, a3, a4, a5, a6, a7, a8, a9, a10, a11, a12, a13, a14⟩ := u
  have h8 : ∀ p, p < 4 → a2 p = nI (ot_m (fun c => s.1 c == p)) := h.1.2.2.2.2.2.2.2.1
  show (nI p < 0 → _) ∧ _
  refine br_f (nI_pos (by omega)) (br_t (nI_lt (b := 4) hp (by omega)) (br_t rfl ⟨pk_in p 4 hp, ?_⟩))
  rw [nI_clamp (show p < 2 ^ 31 by omega), h8 p hp]
  exact H
theorem ot_mayPlay {post : Int32 → Prop} {u : St1} {T : Int32} {s : ot_P} {w1 w2 r c : Nat} {tr : List ot_E} (hR : ot_R T s w1 w2 tr u) (hV : ot_V r s) (hc : c < 12) (H : post (if ot_leg s c = true then 1 else 0)) : wpX_mayPlay post u (nI c) := by
  obtain ⟨on, tp, ld, pl, fw, sw, st, kd, en, a1, a2, a3, a4, a5, a6, a7, a8, a9, a10, a11, a12, a13, a14⟩ := u
  refine br_f (nI_pos (by omega)) (br_f (nI_ge (b := 12) hc (by omega)) ?_)
  refine ot_legalNow hR hV (ek_if (ot_bit1 (ot_leg s) hc) (fun z => ?_) (fun z => ?_))
  · rw [if_pos z] at H
    exact H
  · rw [if_neg z] at H
    exact H
theorem ot_play0 {post : Int32 → St1 → Prop} {u : St1} {T : Int32} {s : ot_P} {w1 w2 r E c : Nat} {tr : List ot_E} (h : ot_S T E s w1 w2 tr r u) (hc : c < 12) (hl : ¬ ot_leg s c = true) (H : post (-4) u) : wpX_play post u (nI c) := by
  have hV := (ot_Tr_f _ _ _ _ _ h.2.1).1
  obtain ⟨on, tp, ld, pl, fw, sw, st, kd, en, a1, a2, a3, a4, a5, a6, a7, a8, a9, a10, a11, a12, a13, a14⟩ := u
  refine br_f (ot_on h.1) (ot_mayPlay h.1 hV hc ?_)
  rw [if_neg hl]
  exact br_t rfl H
theorem ot_leg_r {s : ot_P} {r c : Nat} (hV : ot_V r s) (hl : ot_leg s c = true) : ∃ q, r = q + 1 := by
  have h1 := ot_V_own hV
  have hc := ot_leg_own hl
  have hc12 := ot_V_card hV hc
  rcases Nat.eq_zero_or_pos r with z | z
  · rw [z] at h1
    have := ot_cn_z.mp h1 c hc12
    rw [hc] at this
    exact absurd this (by decide)
  · exact ⟨r - 1, by omega⟩
theorem ot_play1 {post : Int32 → St1 → Prop} {u : St1} {T : Int32} {s : ot_P} {w1 w2 q E c : Nat} {tr : List ot_E} (h : ot_S T E s w1 w2 tr (q + 1) u) (hl : ot_leg s c = true)
    (H : ∀ p u', 1 ≤ p → p ≤ 4 → ot_S T E (ot_psh T s c) (w1 + ot_gn T s c) (w2 + ot_gs T s c) ((s, w1, w2, c) :: tr) q u' → post (nI p) u') : wpX_play post u (nI c) := by
  obtain ⟨k1, k2, k3, k4⟩ := ot_Tr_f _ _ _ _ _ h.2.1
  have hE := h.2.2
  have hc := ot_leg_own hl
  have hc12 := ot_V_card k1 hc
  have hp' := (ot_V_psh T k1 hc).2.1
  obtain ⟨on, tp, ld, pl, fw, sw, st, kd, en, a1, a2, a3, a4, a5, a6, a7, a8, a9, a10, a11, a12, a13, a14⟩ := u
  refine br_f (ot_on h.1) (ot_mayPlay h.1 k1 hc12 ?_)
  rw [if_pos hl]
  refine br_f (by decide) ?_
  refine ot_push h.1 k1 k4 (by omega) hc (fun ld' pl' fw' sw' st' b2 b3 b4 b5 b6 b7 b8 b9 hR1 => ?_)
  have hS : ot_S T E (ot_psh T s c) (w1 + ot_gn T s c) (w2 + ot_gs T s c) ((s, w1, w2, c) :: tr) q (on, tp, ld', pl', fw', sw', st', kd, en, a1, b2, b3, b4, b5, b6, b7, b8, b9, a10, a11, a12, a13, a14) := ⟨hR1, ⟨rfl, rfl, rfl, hl, h.2.1⟩, hE⟩
  have e : pl' = nI (ot_psh T s c).2.2.2 := hR1.2.2.2.1
  show (pl' = 0 → _) ∧ (¬ pl' = 0 → _)
  refine br_c (fun _ => H 4 _ (by omega) (by omega) hS) (fun z => ?_)
  have hpos : 1 ≤ (ot_psh T s c).2.2.2 := by
    rcases Nat.eq_zero_or_pos (ot_psh T s c).2.2.2 with y | y
    · rw [y] at e
      exact absurd e z
    · exact y
  have k := H _ _ hpos (by omega) hS
  rw [← e] at k
  exact k
theorem ot_undo0 {post : Int32 → St1 → Prop} {u : St1} {T : Int32} {s : ot_P} {w1 w2 r E : Nat} (h : ot_S T E s w1 w2 [] r u) (H : post (-4) u) : wpX_undo post u := by
  obtain ⟨on, tp, ld, pl, fw, sw, st, kd, en, a1, a2, a3, a4, a5, a6, a7, a8, a9, a10, a11, a12, a13, a14⟩ := u
  have e : st = 0 := h.1.2.2.2.2.2.2.1
  exact br_f (ot_on h.1) (br_t e H)
theorem ot_undo1 {post : Int32 → St1 → Prop} {u : St1} {T : Int32} {s s0 : ot_P} {w1 w2 v1 v2 r E c : Nat} {tl : List ot_E} (h : ot_S T E s w1 w2 ((s0, v1, v2, c) :: tl) r u) (H : ∀ u', ot_S T E s0 v1 v2 tl (r + 1) u' → post (nI c) u') : wpX_undo post u := by
  obtain ⟨hR, ⟨h1, h2, h3, h4, h5⟩, hE⟩ := h
  obtain ⟨k1, k2, k3, k4⟩ := ot_Tr_f _ _ _ _ _ h5
  obtain ⟨on, tp, ld, pl, fw, sw, st, kd, en, a1, a2, a3, a4, a5, a6, a7, a8, a9, a10, a11, a12, a13, a14⟩ := u
  have e : st = nI (tl.length + 1) := hR.2.2.2.2.2.2.1
  refine br_f (ot_on hR) (br_f (by rw [e]; exact nI_ne0 (by omega) (by omega)) ?_)
  rw [h1] at hR
  refine ot_pop hR k1 (by omega) (ot_leg_own h4) (fun ld' pl' fw' sw' st' b2 b3 hR2 => ?_)
  exact H _ ⟨hR2, h5, hE⟩
theorem ot_after0 {post : Int32 → St1 → Prop} {u : St1} {T : Int32} {s : ot_P} {w1 w2 r E c : Nat} {tr : List ot_E} (h : ot_S T E s w1 w2 tr r u) (hc : c < 12) (hl : ¬ ot_leg s c = true) (H : post (-4) u) : wpX_after post u (nI c) := by
  have hV := (ot_Tr_f _ _ _ _ _ h.2.1).1
  obtain ⟨on, tp, ld, pl, fw, sw, st, kd, en, a1, a2, a3, a4, a5, a6, a7, a8, a9, a10, a11, a12, a13, a14⟩ := u
  refine br_f (ot_on h.1) (ot_mayPlay h.1 hV hc ?_)
  rw [if_neg hl]
  exact br_t rfl H
theorem ot_gk0 (T : Int32) (s : ot_P) (c : Nat) : ot_gk 0 T s c = (ot_gn T s c : Int) := ot_gk_n (by omega) T s c
theorem ot_after1 {post : Int32 → St1 → Prop} {u : St1} {T : Int32} {s : ot_P} {w1 w2 q E c : Nat} {tr : List ot_E} (h : ot_S T E s w1 w2 tr (q + 1) u) (hl : ot_leg s c = true)
    (H : ∀ u', ot_S T E s w1 w2 tr (q + 1) u' → post (ot_i ((w1 : Int) + ot_val (ot_ch 0) 0 T q s c)) u') : wpX_after post u (nI c) := by
  obtain ⟨k1, k2, k3, k4⟩ := ot_Tr_f _ _ _ _ _ h.2.1
  have hE := h.2.2
  have hc := ot_leg_own hl
  have hc12 := ot_V_card k1 hc
  obtain ⟨on, tp, ld, pl, fw, sw, st, kd, en, a1, a2, a3, a4, a5, a6, a7, a8, a9, a10, a11, a12, a13, a14⟩ := u
  refine br_f (ot_on h.1) (ot_mayPlay h.1 k1 hc12 ?_)
  rw [if_pos hl]
  refine br_f (by decide) ?_
  refine ot_push h.1 k1 k4 (by omega) hc (fun ld' pl' fw' sw' st' b2 b3 b4 b5 b6 b7 b8 b9 hR1 => ?_)
  have hS : ot_S T E (ot_psh T s c) (w1 + ot_gn T s c) (w2 + ot_gs T s c) ((s, w1, w2, c) :: tr) q (on, tp, ld', pl', fw', sw', st', kd, en, a1, b2, b3, b4, b5, b6, b7, b8, b9, a10, a11, a12, a13, a14) := ⟨hR1, ⟨rfl, rfl, rfl, hl, h.2.1⟩, hE⟩
  refine ot_valueNow hS (fun u2 h2 => ?_)
  obtain ⟨ony, tpy, ldy, ply, fwy, swy, sty, kdy, eny, a1y, a2y, a3y, a4y, a5y, a6y, a7y, a8y, a9y, a10y, a11y, a12y, a13y, a14y⟩ := u2
  refine ot_pop h2.1 k1 (by omega) hc (fun ld2 pl2 fw2 sw2 st2 c2 c3 hR2 => ?_)
  have e : ((w1 + ot_gn T s c : Nat) : Int) + ot_sv 0 T q (ot_psh T s c) = (w1 : Int) + ot_val (ot_ch 0) 0 T q s c := by
    show ((w1 + ot_gn T s c : Nat) : Int) + ot_gv (ot_ch 0) 0 T q (ot_psh T s c) = (w1 : Int) + (ot_gv (ot_ch 0) 0 T q (ot_psh T s c) + ot_gk 0 T s c)
    rw [ot_gk0]
    omega
  rw [e]
  exact H _ ⟨hR2, h.2⟩
/-- the loop of best -/
def ot_bW (post : Int32 → St1 → Prop) (x1 x2 : Int32) (n i : Nat) (u : St1) : Prop := match u with
  | (on, tp, ld, pl, fw, sw, st, kd, en, a1, a2, a3, a4, a5, a6, a7, a8, a9, a10, a11, a12, a13, a14) => wX_best_22 post x1 x2 n (nI i) on tp ld pl fw sw st kd en a1 a2 a3 a4 a5 a6 a7 a8 a9 a10 a11 a12 a13 a14
theorem ot_best1 {post : Int32 → St1 → Prop} {u : St1} {T : Int32} {s : ot_P} {w1 w2 q E cs : Nat} {tr : List ot_E} (h : ot_S T E s w1 w2 tr (q + 1) u) (hcs : cs < 12) (hl : ot_leg s cs = true) (hv : ot_val (ot_ch 0) 0 T q s cs = ot_sv 0 T (q + 1) s) (hlow : ∀ c, c < cs → ot_leg s c = true → ot_val (ot_ch 0) 0 T q s c ≠ ot_sv 0 T (q + 1) s)
    (H : ∀ u', ot_S T E s w1 w2 tr (q + 1) u' → post (nI cs) u') : wpX_best post u := by
  obtain ⟨k1, k2, k3, k4⟩ := ot_Tr_f _ _ _ _ _ h.2.1
  have hE := h.2.2
  have hb := ot_sv_b (k := 0) (by omega) T k1
  have hq := k1.2.2.2.1
  obtain ⟨on, tp, ld, pl, fw, sw, st, kd, en, a1, a2, a3, a4, a5, a6, a7, a8, a9, a10, a11, a12, a13, a14⟩ := u
  refine br_f (ot_on h.1) (ot_legalNow h.1 k1 (ot_valueNow h (fun u1 h1 => ?_)))
  obtain ⟨ony, tpy, ldy, ply, fwy, swy, sty, kdy, eny, a1y, a2y, a3y, a4y, a5y, a6y, a7y, a8y, a9y, a10y, a11y, a12y, a13y, a14y⟩ := u1
  refine pk_loop (fun n i v => ot_bW post (nI (ot_m (ot_leg s))) (ot_i ((w1 : Int) + ot_sv 0 T (q + 1) s)) n i v) (fun _ v => ot_S T E s w1 w2 tr (q + 1) v) cs 0 (ony, tpy, ldy, ply, fwy, swy, sty, kdy, eny, a1y, a2y, a3y, a4y, a5y, a6y, a7y, a8y, a9y, a10y, a11y, a12y, a13y, a14y) (by omega) h1 (fun n v hv' => ?_) (fun n i v hi hv' hw => ?_)
  · obtain ⟨onz, tpz, ldz, plz, fwz, swz, stz, kdz, enz, a1z, a2z, a3z, a4z, a5z, a6z, a7z, a8z, a9z, a10z, a11z, a12z, a13z, a14z⟩ := v
    refine pk_le 12 cs (fun z => absurd z (by omega)) (fun _ => br_t ((ot_bit1 (ot_leg s) hcs).mpr hl) ?_)
    refine ot_after1 hv' hl (fun u2 h2 => ?_)
    obtain ⟨onx, tpx, ldx, plx, fwx, swx, stx, kdx, enx, a1x, a2x, a3x, a4x, a5x, a6x, a7x, a8x, a9x, a10x, a11x, a12x, a13x, a14x⟩ := u2
    exact br_t (by rw [hv]) (H _ h2)
  · obtain ⟨onz, tpz, ldz, plz, fwz, swz, stz, kdz, enz, a1z, a2z, a3z, a4z, a5z, a6z, a7z, a8z, a9z, a10z, a11z, a12z, a13z, a14z⟩ := v
    refine pk_le 12 i (fun z => absurd z (by omega)) (fun _ => ek_if (ot_bit1 (ot_leg s) (by omega)) (fun hli => ?_) (fun hli => nm_r (nI_1 i) (hw _ hv')))
    refine ot_after1 hv' hli (fun u2 h2 => ?_)
    obtain ⟨onx, tpx, ldx, plx, fwx, swx, stx, kdx, enx, a1x, a2x, a3x, a4x, a5x, a6x, a7x, a8x, a9x, a10x, a11x, a12x, a13x, a14x⟩ := u2
    have hbi := ot_val_b (k := 0) (by omega) T k1 (ot_leg_own hli)
    refine br_f (fun z => hlow i hi hli ?_) (nm_r (nI_1 i) (hw _ h2))
    have := (ot_i_eq (by omega) (by omega) (by omega) (by omega)).mp z
    omega
theorem ot_best0 {post : Int32 → St1 → Prop} {u : St1} {T : Int32} {s : ot_P} {w1 w2 E : Nat} {tr : List ot_E} (h : ot_S T E s w1 w2 tr 0 u) (H : ∀ u', ot_S T E s w1 w2 tr 0 u' → post (-4) u') : wpX_best post u := by
  obtain ⟨k1, k2, k3, k4⟩ := ot_Tr_f _ _ _ _ _ h.2.1
  obtain ⟨on, tp, ld, pl, fw, sw, st, kd, en, a1, a2, a3, a4, a5, a6, a7, a8, a9, a10, a11, a12, a13, a14⟩ := u
  refine br_f (ot_on h.1) (ot_legalNow h.1 k1 (ot_valueNow h (fun u1 h1 => ?_)))
  obtain ⟨ony, tpy, ldy, ply, fwy, swy, sty, kdy, eny, a1y, a2y, a3y, a4y, a5y, a6y, a7y, a8y, a9y, a10y, a11y, a12y, a13y, a14y⟩ := u1
  refine pk_loop (fun n i v => ot_bW post (nI (ot_m (ot_leg s))) (ot_i ((w1 : Int) + ot_sv 0 T 0 s)) n i v) (fun _ v => ot_S T E s w1 w2 tr 0 v) 12 0 (ony, tpy, ldy, ply, fwy, swy, sty, kdy, eny, a1y, a2y, a3y, a4y, a5y, a6y, a7y, a8y, a9y, a10y, a11y, a12y, a13y, a14y) (by omega) h1 (fun n v hv' => ?_) (fun n i v hi hv' hw => ?_)
  · obtain ⟨onz, tpz, ldz, plz, fwz, swz, stz, kdz, enz, a1z, a2z, a3z, a4z, a5z, a6z, a7z, a8z, a9z, a10z, a11z, a12z, a13z, a14z⟩ := v
    exact pk_le 12 12 (fun _ => H _ hv') (fun z => absurd z (by omega))
  · obtain ⟨onz, tpz, ldz, plz, fwz, swz, stz, kdz, enz, a1z, a2z, a3z, a4z, a5z, a6z, a7z, a8z, a9z, a10z, a11z, a12z, a13z, a14z⟩ := v
    refine pk_le 12 i (fun z => absurd z (by omega)) (fun _ => ek_if (ot_bit1 (ot_leg s) (by omega)) (fun hli => ?_) (fun hli => nm_r (nI_1 i) (hw _ hv')))
    obtain ⟨q, hq⟩ := ot_leg_r k1 hli
    omega
end
section
/-! ===== clear, deal, start; the law's own deal ===== -/
theorem ot_sizeAny {post : Int32 → Prop} {u : St1} {x : Int32} (H : ∀ r, post r) : wpX_sizeOf post u x := by
  obtain ⟨on, tp, ld, pl, fw, sw, st, kd, en, a1, a2, a3, a4, a5, a6, a7, a8, a9, a10, a11, a12, a13, a14⟩ := u
  exact pk_loop (fun n i (y : Int32) => wX_sizeOf_4 post x on tp ld pl fw sw st kd en a1 a2 a3 a4 a5 a6 a7 a8 a9 a10 a11 a12 a13 a14 n y (nI i)) (fun _ _ => True) 12 0 0 (by omega) trivial
    (fun n _ _ => pk_le 12 12 (fun _ => H _) (fun z => absurd z (by omega)))
    (fun n i _ hi _ hw => pk_le 12 i (fun z => absurd z (by omega)) (fun _ => nm_e (nm_r (nI_1 i) (hw _ trivial))))
theorem ot_clear {post : St1 → Prop} {on tp ld pl fw sw st kd en : Int32} {a1 a2 a3 a4 a5 a6 a7 a8 a9 a10 a11 a12 : Nat → Int32} {a13 : Nat → Int64} {a14 : Nat → Int32} (H : ∀ b1 b2 : Nat → Int32, (∀ p, p < 4 → b1 p = 0) → post (0, tp, ld, pl, fw, sw, st, kd, en, b1, b2, a3, a4, a5, a6, a7, a8, a9, a10, a11, a12, a13, a14)) : wpX_clear post (on, tp, ld, pl, fw, sw, st, kd, en, a1, a2, a3, a4, a5, a6, a7, a8, a9, a10, a11, a12, a13, a14) :=
  pk_loop (fun n i (x : (Nat → Int32) × (Nat → Int32)) => wX_clear_2 post on tp ld pl fw sw st kd en n (nI i) x.1 x.2 a3 a4 a5 a6 a7 a8 a9 a10 a11 a12 a13 a14) (fun i x => ∀ p, p < i → x.1 p = 0) 4 0 (a1, a2) (by omega) (fun p hp => absurd hp (by omega))
    (fun n x hx => pk_le 4 4 (fun _ => H x.1 x.2 hx) (fun z => absurd z (by omega)))
    (fun n i x hi hx hw => pk_le 4 i (fun z => absurd z (by omega)) (fun _ => ⟨pk_in i 4 hi, nm_e ⟨pk_in i 4 hi, nm_e (nm_r (nI_1 i) (hw (upd x.1 (nI i).toNatClampNeg 0, upd x.2 (nI i).toNatClampNeg 0) (fun p hp => by
      show upd x.1 (nI i).toNatClampNeg 0 p = 0
      rw [nI_clamp (show i < 2 ^ 31 by omega)]
      by_cases e : p = i
      · rw [e, pk_us]
      · rw [pk_un e]
        exact hx p (by omega))))⟩⟩))
theorem ot_dealX {post : Int32 → St1 → Prop} {on tp ld pl fw sw st kd en : Int32} {a1 a2 a3 a4 a5 a6 a7 a8 a9 a10 a11 a12 : Nat → Int32} {a13 : Nat → Int64} {a14 : Nat → Int32} {o : Nat → Nat} {c p : Nat} (ha : ∀ q, q < 4 → a1 q = nI (ot_m (fun x => o x == q))) (hc : c < 12) (ho : o c = 4) (hp : p < 4) (hs : ot_cn (fun x => o x == p) 12 < 3)
    (H : ∀ (r : Int32) (b1 b2 : Nat → Int32), (∀ q, q < 4 → b1 q = nI (ot_m (fun x => ot_put o c p x == q))) → post r (0, tp, ld, pl, fw, sw, st, kd, en, b1, b2, a3, a4, a5, a6, a7, a8, a9, a10, a11, a12, a13, a14)) : wpX_deal post (on, tp, ld, pl, fw, sw, st, kd, en, a1, a2, a3, a4, a5, a6, a7, a8, a9, a10, a11, a12, a13, a14) (nI c) (nI p) := by
  refine br_f (nI_pos (by omega)) (br_f (nI_ge (b := 12) hc (by omega)) (br_f (fun z => ?_) (br_t (nI_lt (b := 4) hp (by omega)) (br_f (nI_pos (by omega)) ⟨pk_in p 4 hp, ?_⟩))))
  · have h1 := nI_pos (n := p) (by omega)
    have h2 : (-1 : Int32) < 0 := by decide
    exact h1 (Int32.lt_trans z h2)
  · rw [nI_clamp (show p < 2 ^ 31 by omega), ha p hp, ot_clr _ hc]
    refine ot_sizeM _ ?_
    have hle : ot_cn (fun x => o x == p && x != c) 12 ≤ ot_cn (fun x => o x == p) 12 := ot_cn_mono (fun x _ hx => by
      rw [Bool.and_eq_true] at hx
      exact hx.1)
    refine pk_eq (ot_cn (fun x => o x == p && x != c) 12) 3 (fun z => absurd z (by omega)) (fun _ => ?_)
    refine pk_loop (fun n i (x : Int32 × (Nat → Int32) × (Nat → Int32)) => wX_deal_54 post (nI c) (nI p) on tp ld pl fw sw st kd en n x.1 (nI i) x.2.1 x.2.2 a3 a4 a5 a6 a7 a8 a9 a10 a11 a12 a13 a14) (fun i x => (∀ q, q < 4 → i ≤ q → x.2.1 q = a1 q) ∧ ∀ q, q < i → x.2.1 q = nI (ot_m (fun x => ot_put o c p x == q))) 4 0 (0, a1, a2) (by omega) ⟨fun q _ _ => rfl, fun q hq => absurd hq (by omega)⟩ (fun n x hx => ?_) (fun n i x hi hx hw => ?_)
    · refine pk_le 4 4 (fun _ => ?_) (fun z => absurd z (by omega))
      exact ot_sizeAny (fun r => H r _ _ hx.2)
    · obtain ⟨x3, b1, b2⟩ := x
      have e1 : b1 i = nI (ot_m (fun x => o x == i)) := (hx.1 i hi (Nat.le_refl i)).trans (ha i hi)
      have tail : ∀ c1 : Nat → Int32, (∀ q, q ≠ i → c1 q = b1 q) → c1 i = nI (ot_m (fun x => ot_put o c p x == i)) → wX_deal_104 post (wX_deal_54 post (nI c) (nI p) on tp ld pl fw sw st kd en n) (nI c) (nI p) x3 (nI i) on tp ld pl fw sw st kd en c1 b2 a3 a4 a5 a6 a7 a8 a9 a10 a11 a12 a13 a14 := by
        intro c1 hc1 hci
        refine ⟨pk_in i 4 hi, pk_in i 4 hi, nm_e ⟨pk_in i 4 hi, nm_e (nm_r (nI_1 i) (hw (x3 ||| c1 (nI i).toNatClampNeg, c1, upd b2 (nI i).toNatClampNeg (c1 (nI i).toNatClampNeg)) ⟨fun q hq hiq => ?_, fun q hq => ?_⟩))⟩⟩
        · show c1 q = a1 q
          rw [hc1 q (by omega)]
          exact hx.1 q hq (by omega)
        · show c1 q = _
          by_cases e : q = i
          · rw [e]; exact hci
          · rw [hc1 q e]
            exact hx.2 q (by omega)
      refine pk_le 4 i (fun z => absurd z (by omega)) (fun _ => ⟨pk_in i 4 hi, pk_in i 4 hi, ?_⟩)
      dsimp only
      rw [nI_clamp (show i < 2 ^ 31 by omega), e1, ot_clr _ hc]
      refine nm_e ?_
      refine pk_eq i p (fun z => ⟨pk_in i 4 hi, pk_in i 4 hi, ?_⟩) (fun z => tail _ (fun q hq => pk_un hq) ?_)
      · rw [pk_us, ot_set _ hc]
        refine nm_e (tail _ (fun q hq => by rw [pk_un hq, pk_un hq]) ?_)
        rw [pk_us]
        refine congrArg nI (ot_m_congr (fun x hx => ?_))
        by_cases e : x = c
        · rw [e, ot_put_s, z]
          simp
        · have e1 : (x == c) = false := beq_eq_false_iff_ne.mpr e
          rw [ot_put_n _ _ e, bne, e1, Bool.or_false, Bool.not_false, Bool.and_true]
      · rw [pk_us]
        refine congrArg nI (ot_m_congr (fun x hx => ?_))
        by_cases e : x = c
        · rw [e, ot_put_s, beq_eq_false_iff_ne.mpr (fun y => z y.symm)]
          simp
        · rw [ot_put_n _ _ e]
          simp [e]
theorem ot_start {post : Int32 → St1 → Prop} {on tp ld pl fw sw st kd en : Int32} {a1 a2 a3 a4 a5 a6 a7 a8 a9 a10 a11 a12 : Nat → Int32} {a13 : Nat → Int64} {a14 : Nat → Int32} {o : Nat → Nat} {l E : Nat} {T : Int32} (ha : ∀ q, q < 4 → a1 q = nI (ot_m (fun x => o x == q))) (hs : ∀ q, q < 4 → ot_cn (fun x => o x == q) 12 = E) (hE : 1 ≤ E) (hE3 : E ≤ 3) (hl : l < 4) (hT1 : ¬ T < -1) (hT2 : T ≤ 2)
    (H : ∀ b2 : Nat → Int32, (∀ q, q < 4 → b2 q = a1 q) → post (nI E) (1, T, nI l, 0, 0, 0, 0, kd, en, a1, b2, a3, a4, a5, a6, a7, a8, a9, a10, a11, a12, a13, a14)) : wpX_start post (on, tp, ld, pl, fw, sw, st, kd, en, a1, a2, a3, a4, a5, a6, a7, a8, a9, a10, a11, a12, a13, a14) (nI l) T := by
  show (nI l < 0 → _) ∧ _
  refine br_f (nI_pos (by omega)) (br_t (nI_lt (b := 4) hl (by omega)) (br_t rfl (br_f hT1 (br_t hT2 ?_))))
  rw [ha 0 (by omega)]
  refine ot_sizeM _ ?_
  rw [hs 0 (by omega)]
  refine pk_loop (σ := Unit) (fun n i _ => wX_start_34 post (nI l) T (nI E) on tp ld pl fw sw st kd en a1 a2 a3 a4 a5 a6 a7 a8 a9 a10 a11 a12 a13 a14 n (nI i)) (fun _ _ => True) 4 1 () (by omega) trivial (fun n _ _ => ?_) (fun n i _ hi _ hw => ?_)
  · refine pk_le 4 4 (fun _ => br_f (nI_ne0 (by omega) (by omega)) ?_) (fun z => absurd z (by omega))
    exact pk_loop (fun n i (x : Nat → Int32) => wX_start_74 post (nI l) T (nI E) on tp ld pl fw sw st kd en n (nI i) a1 x a3 a4 a5 a6 a7 a8 a9 a10 a11 a12 a13 a14) (fun i x => ∀ q, q < i → x q = a1 q) 4 0 a2 (by omega) (fun q hq => absurd hq (by omega))
      (fun n x hx => pk_le 4 4 (fun _ => H x hx) (fun z => absurd z (by omega)))
      (fun n i x hi hx hw => pk_le 4 i (fun z => absurd z (by omega)) (fun _ => ⟨pk_in i 4 hi, pk_in i 4 hi, nm_e (nm_r (nI_1 i) (hw _ (fun q hq => by
        rw [nI_clamp (show i < 2 ^ 31 by omega)]
        by_cases e : q = i
        · rw [e, pk_us]
        · rw [pk_un e]
          exact hx q (by omega))))⟩))
  · refine pk_le 4 i (fun z => absurd z (by omega)) (fun _ => ⟨pk_in i 4 hi, ?_⟩)
    rw [nI_clamp (show i < 2 ^ 31 by omega), ha i hi]
    refine ot_sizeM _ ?_
    rw [hs i hi]
    exact br_t rfl (nm_r (nI_1 i) (hw () trivial))
/-- what the law's deal has done after i cards: cards left f, owners o -/
def ot_D (E i : Nat) (f : Nat → Bool) (o : Nat → Nat) (u : St1) : Prop := match u with
  | (on, tp, ld, pl, fw, sw, st, kd, en, a1, a2, a3, a4, a5, a6, a7, a8, a9, a10, a11, a12, a13, a14) => (∀ q, q < 4 → a1 q = nI (ot_m (fun x => o x == q))) ∧ ot_cn f 12 = 12 - i ∧ (∀ c, c < 12 → f c = true → o c = 4) ∧ (∀ c, o c ≤ 4) ∧ (∀ c, 12 ≤ c → o c = 4) ∧ ∀ q, q < 4 → ot_cn (fun x => o x == q) 12 = ((if i ≤ 4 * E then i else 4 * E) + 3 - q) / 4
def ot_dW (post : Int32 → St1 → Prop) (x1 x2 x3 : Int32) (n i : Nat) (y : Int32 × St1) : Prop := match y with
  | (x5, (on, tp, ld, pl, fw, sw, st, kd, en, a1, a2, a3, a4, a5, a6, a7, a8, a9, a10, a11, a12, a13, a14)) => wL_deal_12 post x1 x2 x3 0 n x5 (nI i) on tp ld pl fw sw st kd en a1 a2 a3 a4 a5 a6 a7 a8 a9 a10 a11 a12 a13 a14
theorem ot_cn_minus {f : Nat → Bool} {c : Nat} (hc : c < 12) (hf : f c = true) : ot_cn f 12 = ot_cn (fun x => f x && x != c) 12 + 1 := by
  have k := ot_cn_one (f := f) (g := fun x => f x && x != c) (c := c) (fun x hx => by simp [hx]) hf (by simp) 12
  rw [if_pos hc] at k
  exact k
theorem ot_cn_put {o : Nat → Nat} {c p q : Nat} (hc : c < 12) (ho : o c = 4) (hp : p < 4) (hq : q < 4) : ot_cn (fun x => ot_put o c p x == q) 12 = ot_cn (fun x => o x == q) 12 + (if q = p then 1 else 0) := by
  by_cases e : q = p
  · rw [if_pos e]
    have k := ot_cn_one (f := fun x => ot_put o c p x == q) (g := fun x => o x == q) (c := c) (fun x hx => by rw [ot_put_n _ _ hx]) (by simp [ot_put_s, e]) (by simp [ho]; omega) 12
    rw [if_pos hc] at k
    exact k
  · rw [if_neg e, Nat.add_zero]
    refine ot_cn_congr (fun x _ => ?_)
    by_cases z : x = c
    · rw [z, ot_put_s, ho, beq_eq_false_iff_ne.mpr (fun y => e y.symm), beq_eq_false_iff_ne.mpr (show (4 : Nat) ≠ q by omega)]
    · rw [ot_put_n _ _ z]
theorem ot_trump : ∀ j, j < 4 → ¬ nI j - 1 < -1 ∧ nI j - 1 ≤ 2 := by decide
theorem ot_lawDeal {post : Int32 → St1 → Prop} {u : St1} {E : Nat} {x y : Int32} (hE : 1 ≤ E) (hE3 : E ≤ 3) (H : ∀ (T : Int32) (s : ot_P) (u' : St1), ot_S T E s 0 0 [] (4 * E) u' → post (nI E) u') : wpL_deal post u (nI E) x y 0 := by
  obtain ⟨on, tp, ld, pl, fw, sw, st, kd, en, a1, a2, a3, a4, a5, a6, a7, a8, a9, a10, a11, a12, a13, a14⟩ := u
  refine ot_clear (fun b1 b2 hb => ?_)
  refine pk_loop (fun n i v => ot_dW post (nI E) x y n i v) (fun i v => ∃ f o, v.1 = nI (ot_m f) ∧ ot_D E i f o v.2) 12 0 (4095, (0, tp, ld, pl, fw, sw, st, kd, en, b1, b2, a3, a4, a5, a6, a7, a8, a9, a10, a11, a12, a13, a14)) (by omega) ⟨fun _ => true, fun _ => 4, ot_full, ?_⟩ (fun n v hv => ?_) (fun n i v hi hv hw => ?_)
  · refine ⟨fun q hq => ?_, by decide, fun c _ _ => rfl, fun c => Nat.le_refl 4, fun c _ => rfl, fun q hq => ?_⟩
    · rw [hb q hq]
      exact (ot_m_z.mpr (fun c _ => beq_eq_false_iff_ne.mpr (by omega))).symm
    · rw [ot_cn_z.mpr (fun c _ => beq_eq_false_iff_ne.mpr (by omega)), if_pos (by omega)]
      omega
  · obtain ⟨x5, ⟨onz, tpz, ldz, plz, fwz, swz, stz, kdz, enz, a1z, a2z, a3z, a4z, a5z, a6z, a7z, a8z, a9z, a10z, a11z, a12z, a13z, a14z⟩⟩ := v
    obtain ⟨f, o, e5, h1, h2, h3, h4, h5, h6⟩ := hv
    refine pk_le 12 12 (fun _ => ?_) (fun z => absurd z (by omega))
    obtain ⟨l, hl, el⟩ := pk_andE ((x >>> ((24 : Int32) &&& 31)) + 0) (m := 3) 2 (by decide)
    obtain ⟨j, hj, ej⟩ := pk_andE (y >>> ((24 : Int32) &&& 31)) (m := 3) 2 (by decide)
    rw [el, ej]
    have hc : ∀ q, q < 4 → ot_cn (fun x => o x == q) 12 = E := by
      intro q hq
      rw [h6 q hq]
      by_cases w : 12 ≤ 4 * E
      · rw [if_pos w]; omega
      · rw [if_neg w]; omega
    have ht := ot_trump j (by omega)
    refine ot_start h1 hc hE hE3 (show l < 4 by omega) ht.1 ht.2 (fun c2 hc2 => ?_)
    refine H (nI j - 1) (o, fun _ => 0, l, 0) _ ⟨⟨rfl, rfl, rfl, rfl, rfl, rfl, rfl, fun p hp => (hc2 p hp).trans (h1 p hp), fun i hi => absurd hi (Nat.not_lt_zero i), trivial⟩, ⟨⟨by show l < 4; omega, by show 0 < 4; omega, by show (4 * E + 0) % 4 = 0; omega, by omega, h4, h5, fun k hk => ?_, fun i hi => absurd hi (Nat.not_lt_zero i), fun _ => rfl⟩, by show 4 * (0 + 0) + 4 * E + 0 = 4 * E; omega, rfl⟩, hE3⟩
    rw [show ot_cn (fun c => o c == (ot_mv (o, fun _ => 0, l, 0) + k) % 4) 12 = E from hc _ (Nat.mod_lt _ (by omega))]
    omega
  · obtain ⟨x5, ⟨onz, tpz, ldz, plz, fwz, swz, stz, kdz, enz, a1z, a2z, a3z, a4z, a5z, a6z, a7z, a8z, a9z, a10z, a11z, a12z, a13z, a14z⟩⟩ := v
    obtain ⟨f, o, e5, h1, h2, h3, h4, h5, h6⟩ := hv
    have e5' : x5 = nI (ot_m f) := e5
    subst e5'
    have inner : ∀ z0 : Int32, wL_deal_31 post (wL_deal_12 post (nI E) x y 0 n) (nI E) x y 0 (nI (ot_m f)) (nI i) z0 onz tpz ldz plz fwz swz stz kdz enz a1z a2z a3z a4z a5z a6z a7z a8z a9z a10z a11z a12z a13z a14z := by
      intro z0
      refine ⟨by decide, ?_⟩
      obtain ⟨sk, hsk, esk⟩ := pk_andE (z0 >>> ((4 * (nI i - nI i / 6 * 6)) &&& 31)) (m := 15) 4 (by decide)
      refine nm_r esk ?_
      refine pk_loop (fun m k (c : Nat) => wL_deal_50 post (wL_deal_12 post (nI E) x y 0 n) (nI E) x y 0 (nI (ot_m f)) (nI i) (nI sk) onz tpz ldz plz fwz swz stz kdz enz a1z a2z a3z a4z a5z a6z a7z a8z a9z a10z a11z a12z a13z a14z m (nI c) (nI k)) (fun k c => c < 12 ∧ ∀ j, j < k → f ((sk + j) % 12) = true → f c = true) 12 0 0 (by omega) ⟨by omega, fun j hj => absurd hj (by omega)⟩ (fun m c hc => ?_) (fun m k c hk hc hw2 => ?_)
      · have hf : f c = true := by
          have hne : ot_cn f 12 ≠ 0 := by omega
          have : ∃ c0, c0 < 12 ∧ f c0 = true := Classical.byContradiction (fun z => hne (ot_cn_z.mpr (fun x hx => Bool.eq_false_iff.mpr (fun w => z ⟨x, hx, w⟩))))
          obtain ⟨c0, hc0, hf0⟩ := this
          refine hc.2 ((c0 + 24 - sk) % 12) (Nat.mod_lt _ (by omega)) ?_
          rw [show (sk + (c0 + 24 - sk) % 12) % 12 = c0 by omega]
          exact hf0
        refine pk_le 12 12 (fun _ => ?_) (fun z => absurd z (by omega))
        rw [ot_clr _ hc.1]
        refine nm_e ?_
        have hcn := ot_cn_minus hc.1 hf
        have e4 : 4 * nI E = nI (4 * E) := by rw [show (4 : Int32) = nI 4 from rfl, pk_mul]
        rw [e4]
        refine pk_le (4 * E) i (fun w => nm_r (nI_1 i) ?_) (fun w => ?_)
        · refine hw (nI (ot_m (fun x => f x && x != c)), (onz, tpz, ldz, plz, fwz, swz, stz, kdz, enz, a1z, a2z, a3z, a4z, a5z, a6z, a7z, a8z, a9z, a10z, a11z, a12z, a13z, a14z)) ⟨_, o, rfl, h1, by omega, fun c' hc' hf' => ?_, h4, h5, fun q hq => ?_⟩
          · rw [Bool.and_eq_true] at hf'
            exact h3 c' hc' hf'.1
          · rw [h6 q hq]
            by_cases y1 : i ≤ 4 * E
            · rw [if_pos y1, if_neg (by omega)]
              omega
            · rw [if_neg y1, if_neg (by omega)]
        · have hoc := h3 c hc.1 hf
          have ep : (nI i + 0) &&& 3 = nI (i % 4) := by
            rw [show (0 : Int32) = nI 0 from rfl, nI_add, pk_andN (show i + 0 < 2 ^ 32 by omega) 2 (by decide)]
            rfl
          rw [ep]
          have hp4 : i % 4 < 4 := Nat.mod_lt _ (by omega)
          refine ot_dealX h1 hc.1 hoc hp4 (by rw [h6 _ hp4, if_pos (by omega)]; omega) (fun rr c1 c2 hc1 => nm_r (nI_1 i) ?_)
          refine hw (nI (ot_m (fun x => f x && x != c)), (0, tpz, ldz, plz, fwz, swz, stz, kdz, enz, c1, c2, a3z, a4z, a5z, a6z, a7z, a8z, a9z, a10z, a11z, a12z, a13z, a14z)) ⟨_, ot_put o c (i % 4), rfl, hc1, by omega, fun c' hc' hf' => ?_, fun c' => ?_, fun c' hc' => ?_, fun q hq => ?_⟩
          · rw [Bool.and_eq_true] at hf'
            have hne : c' ≠ c := by simpa using hf'.2
            rw [ot_put_n _ _ hne]
            exact h3 c' hc' hf'.1
          · unfold ot_put
            split
            · omega
            · exact h4 c'
          · rw [ot_put_n _ _ (by omega)]
            exact h5 c' hc'
          · rw [ot_cn_put hc.1 hoc hp4 hq, h6 q hq, if_pos (show i ≤ 4 * E by omega), if_pos (show i + 1 ≤ 4 * E by omega)]
            by_cases y1 : q = i % 4
            · rw [if_pos y1]; omega
            · rw [if_neg y1]; omega
      · refine pk_le 12 k (fun z => absurd z (by omega)) (fun _ => ⟨by decide, ?_⟩)
        have er : (nI sk + nI k) - (nI sk + nI k) / 12 * 12 = nI ((sk + k) % 12) := by
          rw [nI_add]
          exact pk_rem (d := 12) (by omega) (by omega) (by omega)
        refine nm_r er ?_
        have hat : (sk + k) % 12 < 12 := Nat.mod_lt _ (by omega)
        refine ek_if (ot_bit1 f hat) (fun hfa => nm_r (nI_1 k) (hw2 _ ⟨hat, fun _ _ _ => hfa⟩)) (fun hfa => nm_r (nI_1 k) (hw2 _ ⟨hc.1, fun j hj hfj => ?_⟩))
        by_cases e : j = k
        · rw [e] at hfj
          exact absurd hfj hfa
        · exact hc.2 j (by omega) hfj
    exact pk_le 12 i (fun z => absurd z (by omega)) (fun _ => br_c (fun _ => inner _) (fun _ => inner _))
end
section
/-! ===== the law ===== -/
/-- all cards held are r -/
theorem ot_held {r : Nat} {s : ot_P} (h : ot_V r s) : ot_cn (fun c => decide (s.1 c < 4)) 12 = r := by
  have hm := ot_mv_lt s
  have k := h.2.2.2.2.2.2.1
  have k0 := k 0 (by omega)
  have k1 := k 1 (by omega)
  have k2 := k 2 (by omega)
  have k3 := k 3 (by omega)
  have a1 : ot_cn (fun c => s.1 c == 0) 12 + ot_cn (fun c => s.1 c == 1) 12 = ot_cn (fun c => decide (s.1 c < 2)) 12 := by
    refine ot_cn_add (fun x _ => ?_)
    simp only [beq_iff_eq, decide_eq_true_eq]
    split <;> split <;> split <;> omega
  have a2 : ot_cn (fun c => decide (s.1 c < 2)) 12 + ot_cn (fun c => s.1 c == 2) 12 = ot_cn (fun c => decide (s.1 c < 3)) 12 := by
    refine ot_cn_add (fun x _ => ?_)
    simp only [beq_iff_eq, decide_eq_true_eq]
    split <;> split <;> split <;> omega
  have a3 : ot_cn (fun c => decide (s.1 c < 3)) 12 + ot_cn (fun c => s.1 c == 3) 12 = ot_cn (fun c => decide (s.1 c < 4)) 12 := by
    refine ot_cn_add (fun x _ => ?_)
    simp only [beq_iff_eq, decide_eq_true_eq]
    split <;> split <;> split <;> omega
  rcases (show ot_mv s = 0 ∨ ot_mv s = 1 ∨ ot_mv s = 2 ∨ ot_mv s = 3 by omega) with e | e | e | e <;> simp only [e, Nat.reduceAdd, Nat.reduceMod] at k0 k1 k2 k3 <;> omega
theorem ot_pf_b {k : Nat} (hk : k ≠ 2) (up : Bool) {f : Nat → Bool} {val : Nat → Int} {a : Int} (ha : -1 ≤ a ∧ a ≤ 100) (hv : ∀ c, f c = true → -1 ≤ val c ∧ val c ≤ 100) (i : Nat) : -1 ≤ ot_pf f (fun a c => ot_cb k up a (val c)) a i ∧ ot_pf f (fun a c => ot_cb k up a (val c)) a i ≤ 100 := by
  induction i with
  | zero => exact ha
  | succ i ih =>
    rw [ot_pf]
    by_cases h : f i = true
    · rw [if_pos h]
      exact ot_cb_b hk up ih (hv i h)
    · rw [if_neg h]
      exact ih
/-- the second loop of the law, with its numbers as functions of the card -/
abbrev ot_x14 (T : Int32) (s : ot_P) (q i : Nat) : Int := ot_pf (ot_leg s) (fun a c => ot_cb 2 (ot_up 2 s) a (ot_val (ot_ch 2) 2 T q s c)) 0 i
abbrev ot_x15 (T : Int32) (s : ot_P) (q w1 i : Nat) : Int := ot_pf (ot_leg s) (fun a c => ot_cb 0 (ot_up 0 s) a ((w1 : Int) + ot_val (ot_ch 0) 0 T q s c)) (ot_in 0 (ot_up 0 s)) i
def ot_x16 (cs i : Nat) : Int32 := if i ≤ cs then (-4) else nI cs
def ot_lW (L : Nat) (xs : Nat → Int32) (kc ks : Nat) (T : Int32) (s : ot_P) (q w1 cs : Nat) (n i : Nat) (u : St1) : Prop := match u with
  | (on, tp, ld, pl, fw, sw, st, kd, en, a1, a2, a3, a4, a5, a6, a7, a8, a9, a10, a11, a12, a13, a14) => wL_law_341 (fun r => r = 1) L xs (nI (ot_m (ot_leg s))) (ot_i ((w1 : Int) + ot_sv 0 T (q + 1) s)) (ot_i (ot_sv 2 T (q + 1) s)) (nI (ot_mv s)) (nI w1) kc ks n (ot_i (ot_x14 T s q i)) (ot_i (ot_x15 T s q w1 i)) (ot_x16 cs i) (nI i) on tp ld pl fw sw st kd en a1 a2 a3 a4 a5 a6 a7 a8 a9 a10 a11 a12 a13 a14
theorem ot_m2 (s : ot_P) : nI (ot_mv s) - nI (ot_mv s) / 2 * 2 = nI (ot_mv s % 2) := by
  have := ot_mv_lt s
  exact pk_rem (d := 2) (by omega) (by omega) (by omega)
theorem ot_psh_val (T : Int32) (s : ot_P) (c w1 q : Nat) : ((w1 + ot_gn T s c : Nat) : Int) + ot_sv 0 T q (ot_psh T s c) = (w1 : Int) + ot_val (ot_ch 0) 0 T q s c := by
  show ((w1 + ot_gn T s c : Nat) : Int) + ot_gv (ot_ch 0) 0 T q (ot_psh T s c) = (w1 : Int) + (ot_gv (ot_ch 0) 0 T q (ot_psh T s c) + ot_gk 0 T s c)
  rw [ot_gk0]
  omega
theorem ot_x14_12 (T : Int32) (s : ot_P) (q : Nat) : ot_x14 T s q 12 = ot_sv 2 T (q + 1) s := by
  show ot_pf _ _ _ 12 = _
  rw [ot_pf_eq]
  rfl
theorem ot_x15_12 (T : Int32) {s : ot_P} {q w1 : Nat} (hV : ot_V (q + 1) s) (hw : w1 < 50) : ot_x15 T s q w1 12 = (w1 : Int) + ot_sv 0 T (q + 1) s := by
  show ot_pf _ _ _ 12 = _
  rw [ot_pf_eq, ot_value T hV]
  obtain ⟨c, hc, hl⟩ := ot_V_leg hV
  refine ot_opt_mv (by omega) _ w1 hw ⟨c, ot_li_mem.mpr ⟨hc, hl⟩⟩ (fun c hc => ?_)
  have := ot_val_b (k := 0) (by omega) T hV (ot_leg_own (ot_li_mem.mp hc).2)
  omega
theorem ot_cs (T : Int32) {s : ot_P} {q : Nat} (hV : ot_V (q + 1) s) : ∃ cs, (cs < 12 ∧ ot_leg s cs = true ∧ ot_val (ot_ch 0) 0 T q s cs = ot_sv 0 T (q + 1) s) ∧ ∀ c, c < cs → ¬ (c < 12 ∧ ot_leg s c = true ∧ ot_val (ot_ch 0) 0 T q s c = ot_sv 0 T (q + 1) s) := by
  refine pk_least (fun c => c < 12 ∧ ot_leg s c = true ∧ ot_val (ot_ch 0) 0 T q s c = ot_sv 0 T (q + 1) s) ?_
  obtain ⟨c, hc, hl⟩ := ot_V_leg hV
  obtain ⟨d, hd, e⟩ := ot_opt_in (k := 0) (by omega) (ot_up 0 s) (val := ot_val (ot_ch 0) 0 T q s) (l := ot_li (ot_leg s)) ⟨c, ot_li_mem.mpr ⟨hc, hl⟩⟩ (fun c hc => by
    have := ot_val_b (k := 0) (by omega) T hV (ot_leg_own (ot_li_mem.mp hc).2)
    omega)
  have hd' := ot_li_mem.mp hd
  exact ⟨d, hd'.1, hd'.2, by rw [ot_value T hV, e]⟩
theorem ot_last {L : Nat} {xs : Nat → Int32} {kc ks : Nat} {T : Int32} {s : ot_P} {w1 w2 q E : Nat} {tr : List ot_E} {u : St1} (h : ot_S T E s w1 w2 tr (q + 1) u) :
    ∃ cs, ∃ n, ot_lW L xs kc ks T s q w1 cs n 0 u := by
  obtain ⟨hV, k2, k3, k4⟩ := ot_Tr_f _ _ _ _ _ h.2.1
  have hE := h.2.2
  obtain ⟨cs, ⟨hcs, hcl, hcv⟩, hclow⟩ := ot_cs T hV
  have hmv := ot_mv_lt s
  have hsv := ot_sv_b (k := 0) (by omega) T hV
  have hw1 : w1 < 50 := by omega
  refine ⟨cs, pk_loop (fun n i v => ot_lW L xs kc ks T s q w1 cs n i v) (fun _ v => ot_S T E s w1 w2 tr (q + 1) v) 12 0 u (by omega) h (fun n v hv => ?_) (fun n i v hi hv hw => ?_)⟩
  · obtain ⟨on, tp, ld, pl, fw, sw, st, kd, en, a1, a2, a3, a4, a5, a6, a7, a8, a9, a10, a11, a12, a13, a14⟩ := v
    refine pk_le 12 12 (fun _ => ?_) (fun z => absurd z (by omega))
    refine ot_best1 hv hcs hcl hcv (fun c hc hl e => hclow c hc ⟨by omega, hl, e⟩) (fun u1 h1 => ?_)
    obtain ⟨onx, tpx, ldx, plx, fwx, swx, stx, kdx, enx, a1x, a2x, a3x, a4x, a5x, a6x, a7x, a8x, a9x, a10x, a11x, a12x, a13x, a14x⟩ := u1
    refine ot_play1 h1 hcl (fun p u2 _ _ h2 => ?_)
    obtain ⟨ony, tpy, ldy, ply, fwy, swy, sty, kdy, eny, a1y, a2y, a3y, a4y, a5y, a6y, a7y, a8y, a9y, a10y, a11y, a12y, a13y, a14y⟩ := u2
    refine br_t (by rw [ot_x15_12 T hV hw1]) (br_t (by rw [ot_x14_12]) (br_t (by unfold ot_x16; rw [if_neg (by omega)]) ?_))
    refine ot_valueQ h2 (fun u3 h3 => ?_)
    obtain ⟨onz, tpz, ldz, plz, fwz, swz, stz, kdz, enz, a1z, a2z, a3z, a4z, a5z, a6z, a7z, a8z, a9z, a10z, a11z, a12z, a13z, a14z⟩ := u3
    refine br_t ?_ rfl
    rw [ot_psh_val, hcv]
  · obtain ⟨on, tp, ld, pl, fw, sw, st, kd, en, a1, a2, a3, a4, a5, a6, a7, a8, a9, a10, a11, a12, a13, a14⟩ := v
    refine pk_le 12 i (fun z => absurd z (by omega)) (fun _ => ?_)
    have hb15 : -1 ≤ ot_x15 T s q w1 i ∧ ot_x15 T s q w1 i ≤ 100 := ot_pf_b (k := 0) (by omega) (ot_up 0 s) (f := ot_leg s) (val := fun c => (w1 : Int) + ot_val (ot_ch 0) 0 T q s c) (ot_in_b 0 (ot_up 0 s)) (fun c hc => by
      have := ot_val_b (k := 0) (by omega) T hV (ot_leg_own hc)
      omega) i
    by_cases hl : ot_leg s i = true
    · have hvb := ot_val_b (k := 0) (by omega) T hV (ot_leg_own hl)
      have e14 : ot_x14 T s q (i + 1) = ot_x14 T s q i + ot_sv 2 T q (ot_psh T s i) := by
        show (if ot_leg s i = true then _ else _) = _
        rw [if_pos hl]
        show ot_cb 2 (ot_up 2 s) (ot_x14 T s q i) (ot_gv (ot_ch 2) 2 T q (ot_psh T s i) + ot_gk 2 T s i) = _
        have e0 : ot_gk 2 T s i = 0 := if_pos rfl
        rw [ot_cb2, e0, Int.add_zero]
      have e15 : ot_x15 T s q w1 (i + 1) = ot_cb 0 (ot_up 0 s) (ot_x15 T s q w1 i) ((w1 : Int) + ot_val (ot_ch 0) 0 T q s i) := if_pos hl
      refine ot_after1 hv hl (fun u1 h1 => ?_)
      obtain ⟨onx, tpx, ldx, plx, fwx, swx, stx, kdx, enx, a1x, a2x, a3x, a4x, a5x, a6x, a7x, a8x, a9x, a10x, a11x, a12x, a13x, a14x⟩ := u1
      refine br_t ((ot_bit1 (ot_leg s) hi).mpr hl) ?_
      refine br_f (fun z => ?_) ?_
      · have z2 : ot_i ((w1 : Int) + ot_val (ot_ch 0) 0 T q s i) = ot_i (-4) := z
        have := (ot_i_eq (by omega) (by omega) (by omega) (by omega)).mp z2
        omega
      · have t491 : wL_law_455 (fun r => r = 1) L xs (wL_law_341 (fun r => r = 1) L xs (nI (ot_m (ot_leg s))) (ot_i ((w1 : Int) + ot_sv 0 T (q + 1) s)) (ot_i (ot_sv 2 T (q + 1) s)) (nI (ot_mv s)) (nI w1) kc ks n) (nI (ot_m (ot_leg s))) (ot_i ((w1 : Int) + ot_sv 0 T (q + 1) s)) (ot_i (ot_sv 2 T (q + 1) s)) (nI (ot_mv s)) (nI w1) (ot_i (ot_x14 T s q i)) (ot_i (ot_x15 T s q w1 (i + 1))) (nI i) (ot_i ((w1 : Int) + ot_val (ot_ch 0) 0 T q s i)) 1 (ot_x16 cs (i + 1)) kc ks onx tpx ldx plx fwx swx stx kdx enx a1x a2x a3x a4x a5x a6x a7x a8x a9x a10x a11x a12x a13x a14x := by
          refine br_f (by decide) (ot_play1 h1 hl (fun p u2 hp1 hp4 h2 => ?_))
          obtain ⟨ony, tpy, ldy, ply, fwy, swy, sty, kdy, eny, a1y, a2y, a3y, a4y, a5y, a6y, a7y, a8y, a9y, a10y, a11y, a12y, a13y, a14y⟩ := u2
          refine br_f (by decide) (ot_courses h2 (fun u3 h3 => ?_))
          obtain ⟨onz, tpz, ldz, plz, fwz, swz, stz, kdz, enz, a1z, a2z, a3z, a4z, a5z, a6z, a7z, a8z, a9z, a10z, a11z, a12z, a13z, a14z⟩ := u3
          refine br_f (by decide) (br_f (nI_nlt (b := 1) hp1 (by omega)) (ot_valueQ h3 (fun u4 h4 => ?_)))
          obtain ⟨onb, tpb, ldb, plb, fwb, swb, stb, kdb, enb, a1b, a2b, a3b, a4b, a5b, a6b, a7b, a8b, a9b, a10b, a11b, a12b, a13b, a14b⟩ := u4
          refine br_t (by rw [ot_psh_val]) (ot_undo1 h4 (fun u5 h5 => ?_))
          obtain ⟨onc, tpc, ldc, plc, fwc, swc, stc, kdc, enc, a1c, a2c, a3c, a4c, a5c, a6c, a7c, a8c, a9c, a10c, a11c, a12c, a13c, a14c⟩ := u5
          refine br_t rfl (ot_legal h5 (br_t rfl (ot_valueQ h5 (fun u6 h6 => ?_))))
          obtain ⟨ong, tpg, ldg, plg, fwg, swg, stg, kdg, eng, a1g, a2g, a3g, a4g, a5g, a6g, a7g, a8g, a9g, a10g, a11g, a12g, a13g, a14g⟩ := u6
          refine br_t rfl (ot_toPlay h6 ?_)
          rw [if_neg (show ¬ q + 1 = 0 by omega)]
          refine br_t rfl (ot_won0 h6 (br_t rfl (ot_courses h6 (fun u7 h7 => ?_))))
          obtain ⟨one, tpe, lde, ple, fwe, swe, ste, kde, ene, a1e, a2e, a3e, a4e, a5e, a6e, a7e, a8e, a9e, a10e, a11e, a12e, a13e, a14e⟩ := u7
          refine br_t rfl (nm_r (nI_1 i) ?_)
          rw [ot_i_add, ← e14]
          exact hw _ h7
        have t429 : wL_law_429 (fun r => r = 1) L xs (wL_law_341 (fun r => r = 1) L xs (nI (ot_m (ot_leg s))) (ot_i ((w1 : Int) + ot_sv 0 T (q + 1) s)) (ot_i (ot_sv 2 T (q + 1) s)) (nI (ot_mv s)) (nI w1) kc ks n) (nI (ot_m (ot_leg s))) (ot_i ((w1 : Int) + ot_sv 0 T (q + 1) s)) (ot_i (ot_sv 2 T (q + 1) s)) (nI (ot_mv s)) (nI w1) (ot_i (ot_x14 T s q i)) (ot_x16 cs i) (nI i) (ot_i ((w1 : Int) + ot_val (ot_ch 0) 0 T q s i)) 1 (ot_i (ot_x15 T s q w1 (i + 1))) kc ks onx tpx ldx plx fwx swx stx kdx enx a1x a2x a3x a4x a5x a6x a7x a8x a9x a10x a11x a12x a13x a14x := by
          refine br_f (by decide) ?_
          by_cases hvi : ot_val (ot_ch 0) 0 T q s i = ot_sv 0 T (q + 1) s
          · refine br_t (by rw [hvi]) ?_
            by_cases hic : i ≤ cs
            · have hics : i = cs := by
                rcases Nat.lt_or_ge i cs with z | z
                · exact absurd ⟨hi, hl, hvi⟩ (hclow i z)
                · omega
              have e1 : ot_x16 cs i = -4 := if_pos hic
              have e2 : ot_x16 cs (i + 1) = nI i := by unfold ot_x16; rw [if_neg (by omega), hics]
              rw [e2] at t491
              refine br_f (by rw [e1]; decide) t491
            · have e1 : ot_x16 cs i = nI cs := if_neg hic
              have e2 : ot_x16 cs (i + 1) = ot_x16 cs i := by rw [e1]; exact if_neg (by omega)
              rw [e2] at t491
              exact br_t (by rw [e1]; exact nI_pos' (by omega)) t491
          · refine br_f (fun z => hvi ?_) ?_
            · have := (ot_i_eq (by omega) (by omega) (by omega) (by omega)).mp z
              omega
            · have hne : i ≠ cs := fun z => hvi (by rw [z]; exact hcv)
              have e2 : ot_x16 cs (i + 1) = ot_x16 cs i := by
                unfold ot_x16
                by_cases hic : i ≤ cs
                · rw [if_pos hic, if_pos (by omega)]
                · rw [if_neg hic, if_neg (by omega)]
              rw [e2] at t491
              exact t491
        refine br_t rfl (br_f (by decide) ⟨by decide, ?_⟩)
        rw [ot_m2]
        have hle : ot_i ((w1 : Int) + ot_val (ot_ch 0) 0 T q s i) ≤ ot_i (ot_x15 T s q w1 i) ↔ (w1 : Int) + ot_val (ot_ch 0) 0 T q s i ≤ ot_x15 T s q w1 i := ot_i_le (by omega) (by omega) (by omega) (by omega)
        have hle2 : ot_i (ot_x15 T s q w1 i) ≤ ot_i ((w1 : Int) + ot_val (ot_ch 0) 0 T q s i) ↔ ot_x15 T s q w1 i ≤ (w1 : Int) + ot_val (ot_ch 0) 0 T q s i := ot_i_le (by omega) (by omega) (by omega) (by omega)
        refine pk_eq (ot_mv s % 2) 0 (fun y => ?_) (fun y => ?_)
        · have hup : ot_up 0 s = true := by unfold ot_up; simp [y]
          refine ek_if hle (fun z => ?_) (fun z => ?_)
          · have e : ot_x15 T s q w1 (i + 1) = ot_x15 T s q w1 i := by
              rw [e15]
              unfold ot_cb
              rw [if_neg (by omega), if_pos hup, if_pos z]
            rw [e] at t429
            exact t429
          · have e : ot_x15 T s q w1 (i + 1) = (w1 : Int) + ot_val (ot_ch 0) 0 T q s i := by
              rw [e15]
              unfold ot_cb
              rw [if_neg (by omega), if_pos hup, if_neg z]
            rw [e] at t429
            exact t429
        · have hup : ¬ ot_up 0 s = true := by unfold ot_up; simp [y]
          refine ek_if hle2 (fun z => ?_) (fun z => ?_)
          · have e : ot_x15 T s q w1 (i + 1) = ot_x15 T s q w1 i := by
              rw [e15]
              unfold ot_cb
              rw [if_neg (by omega), if_neg hup, if_pos z]
            rw [e] at t429
            exact t429
          · have e : ot_x15 T s q w1 (i + 1) = (w1 : Int) + ot_val (ot_ch 0) 0 T q s i := by
              rw [e15]
              unfold ot_cb
              rw [if_neg (by omega), if_neg hup, if_neg z]
            rw [e] at t429
            exact t429
    · have e14 : ot_x14 T s q (i + 1) = ot_x14 T s q i := if_neg hl
      have e15 : ot_x15 T s q w1 (i + 1) = ot_x15 T s q w1 i := if_neg hl
      have hne : i ≠ cs := fun z => hl (by rw [z]; exact hcl)
      have e16 : ot_x16 cs (i + 1) = ot_x16 cs i := by
        unfold ot_x16
        by_cases hic : i ≤ cs
        · rw [if_pos hic, if_pos (by omega)]
        · rw [if_neg hic, if_neg (by omega)]
      refine ot_after0 hv hi hl ?_
      have k := hw _ hv
      refine br_f (fun z => hl ((ot_bit1 (ot_leg s) hi).mp z)) (br_t rfl (br_t rfl (br_t rfl (br_t rfl (br_t rfl (br_t rfl (br_t rfl (nm_r (nI_1 i) ?_))))))))
      have k' : wL_law_341 (fun r => r = 1) L xs (nI (ot_m (ot_leg s))) (ot_i ((w1 : Int) + ot_sv 0 T (q + 1) s)) (ot_i (ot_sv 2 T (q + 1) s)) (nI (ot_mv s)) (nI w1) kc ks n (ot_i (ot_x14 T s q (i + 1))) (ot_i (ot_x15 T s q w1 (i + 1))) (ot_x16 cs (i + 1)) (nI (i + 1)) on tp ld pl fw sw st kd en a1 a2 a3 a4 a5 a6 a7 a8 a9 a10 a11 a12 a13 a14 := k
      rw [e14, e15, e16] at k'
      exact k'
end
section
/-! ===== the law from its beginning; what is owed ===== -/
theorem ot_170 {L : Nat} {xs : Nat → Int32} {kc ks : Nat} {T : Int32} {s : ot_P} {w1 w2 r E : Nat} {tr : List ot_E} {on tp ld pl fw sw st kd en : Int32} {a1 a2 a3 a4 a5 a6 a7 a8 a9 a10 a11 a12 : Nat → Int32} {a13 : Nat → Int64} {a14 : Nat → Int32} (h : ot_S T E s w1 w2 tr r (on, tp, ld, pl, fw, sw, st, kd, en, a1, a2, a3, a4, a5, a6, a7, a8, a9, a10, a11, a12, a13, a14)) :
    ∃ n, wL_law_160 (fun r => r = 1) L xs (nI E) (nI E) (nI (ot_m (ot_leg s))) (ot_i ((w1 : Int) + ot_sv 0 T r s)) (ot_i ((w1 : Int) + ot_sv 1 T r s)) (ot_i (ot_sv 2 T r s)) (if r = 0 then (-4) else nI (ot_mv s)) (nI w1) kc ks on tp ld pl fw sw st kd en a1 a2 a3 a4 a5 a6 a7 a8 a9 a10 a11 a12 a13 a14 n 0 0 := by
  obtain ⟨hV, k2, k3, k4⟩ := ot_Tr_f _ _ _ _ _ h.2.1
  have hE := h.2.2
  have hheld := ot_held hV
  have hp4 := hV.2.1
  have hb0 := ot_sv_b (k := 0) (by omega) T hV
  have hb1 := ot_sv_b (k := 1) (by omega) T hV
  have hlv := ot_lv T r s hV
  refine pk_loop (σ := Unit) (fun n i _ => wL_law_160 (fun r => r = 1) L xs (nI E) (nI E) (nI (ot_m (ot_leg s))) (ot_i ((w1 : Int) + ot_sv 0 T r s)) (ot_i ((w1 : Int) + ot_sv 1 T r s)) (ot_i (ot_sv 2 T r s)) (if r = 0 then (-4) else nI (ot_mv s)) (nI w1) kc ks on tp ld pl fw sw st kd en a1 a2 a3 a4 a5 a6 a7 a8 a9 a10 a11 a12 a13 a14 n (nI (ot_cn (fun c => decide (s.1 c < 4)) i)) (nI i)) (fun _ _ => True) 12 0 () (by omega) trivial (fun n _ _ => ?_) (fun n i _ hi _ hw => ?_)
  · refine pk_le 12 12 (fun _ => ⟨ot_c4, ?_⟩) (fun z => absurd z (by omega))
    rw [hheld]
    refine nm_r (show (4 * nI E - nI r) / 4 = nI (w1 + w2) by
      rw [show 4 * nI E = nI (4 * E) by rw [show (4 : Int32) = nI 4 from rfl, pk_mul], pk_sub (by omega)]
      rw [show nI (4 * E - r) / 4 = nI ((4 * E - r) / 4) from pk_div (d := 4) (by omega) (by omega) (by omega)]
      rw [show (4 * E - r) / 4 = w1 + w2 by omega]) ?_
    refine br_t rfl (br_f (fun z => ?_) ?_)
    · have := (ot_i_lt (by omega) (by omega) (by omega) (by omega)).mp z
      omega
    refine ot_won1 h (br_t (nI_add w1 w2) (br_f (fun z => ?_) (br_t ?_ ?_)))
    · rw [← ot_i_n] at z
      have := (ot_i_lt (by omega) (by omega) (by omega) (by omega)).mp z
      omega
    · rw [← ot_i_n]
      exact (ot_i_le (by omega) (by omega) (by omega) (by omega)).mpr (by omega)
    by_cases hr : r = 0
    · subst hr
      have e0 : ot_sv 0 T 0 s = 0 := rfl
      have e1 : ot_sv 1 T 0 s = 0 := rfl
      have e2 : ot_sv 2 T 0 s = 1 := rfl
      have hz : nI (ot_m (ot_leg s)) = 0 := ot_m_z.mpr (fun c hc => Bool.eq_false_iff.mpr (fun hl => by
        obtain ⟨q, hq⟩ := ot_leg_r hV hl
        omega))
      refine br_t hz (br_t rfl (br_t (by rw [e0, Int.add_zero, ot_i_n]) (br_t (by rw [e1, Int.add_zero, ot_i_n]) (br_t (by rw [e2, ot_i1]) (br_t (if_pos rfl) ?_)))))
      refine ot_best0 h (fun u1 h1 => ?_)
      obtain ⟨onx, tpx, ldx, plx, fwx, swx, stx, kdx, enx, a1x, a2x, a3x, a4x, a5x, a6x, a7x, a8x, a9x, a10x, a11x, a12x, a13x, a14x⟩ := u1
      exact br_t rfl rfl
    · obtain ⟨q, rfl⟩ : ∃ q, r = q + 1 := ⟨r - 1, by omega⟩
      obtain ⟨cs, n1, hn1⟩ := ot_last (L := L) (xs := xs) (kc := kc) (ks := ks) h
      refine br_f (fun z => ?_) ⟨by decide, ?_⟩
      · obtain ⟨c, hc, hl⟩ := ot_V_leg hV
        have := ot_m_z.mp z c hc
        rw [hl] at this
        exact absurd this (by decide)
      · rw [if_neg hr, ot_m2]
        have hn2 : wL_law_341 (fun r => r = 1) L xs (nI (ot_m (ot_leg s))) (ot_i ((w1 : Int) + ot_sv 0 T (q + 1) s)) (ot_i (ot_sv 2 T (q + 1) s)) (nI (ot_mv s)) (nI w1) kc ks n1 (ot_i 0) (ot_i (ot_in 0 (ot_up 0 s))) (ot_x16 cs 0) (nI 0) on tp ld pl fw sw st kd en a1 a2 a3 a4 a5 a6 a7 a8 a9 a10 a11 a12 a13 a14 := hn1
        have e16 : ot_x16 cs 0 = -4 := if_pos (Nat.zero_le cs)
        rw [ot_i0, e16] at hn2
        refine pk_eq (ot_mv s % 2) 0 (fun y => ⟨n1, ?_⟩) (fun y => ⟨n1, ?_⟩)
        · have hup : ot_in 0 (ot_up 0 s) = -1 := by unfold ot_in ot_up; simp [y]
          rw [hup, ot_im1] at hn2
          exact hn2
        · have hup : ot_in 0 (ot_up 0 s) = 100 := by unfold ot_in ot_up; simp [y]
          rw [hup, ot_i100] at hn2
          exact hn2
  · refine pk_le 12 i (fun z => absurd z (by omega)) (fun _ => ?_)
    refine ot_hand (p := 0) h (by omega) (ot_hand (p := 1) h (by omega) (ot_hand (p := 2) h (by omega) (ot_hand (p := 3) h (by omega) ?_)))
    rw [ot_orM, ot_orM, ot_orM]
    refine nm_e ?_
    rw [ot_bit _ hi, nI_add]
    refine nm_r ?_ (nm_r (nI_1 i) (hw () trivial))
    refine congrArg nI ?_
    rw [ot_cn]
    have e : (((s.1 i == 0 || s.1 i == 1) || s.1 i == 2) || s.1 i == 3) = decide (s.1 i < 4) := by
      rw [Bool.eq_iff_iff]
      simp only [Bool.or_eq_true, beq_iff_eq, decide_eq_true_eq]
      omega
    rw [e]
def ot_pW (L : Nat) (xs : Nat → Int32) (E kc ks : Nat) (n i : Nat) (u : St1) : Prop := match u with
  | (on, tp, ld, pl, fw, sw, st, kd, en, a1, a2, a3, a4, a5, a6, a7, a8, a9, a10, a11, a12, a13, a14) => wL_law_61 (fun r => r = 1) L xs (nI E) (nI E) kc ks n (nI i) on tp ld pl fw sw st kd en a1 a2 a3 a4 a5 a6 a7 a8 a9 a10 a11 a12 a13 a14
theorem ot_117 {L : Nat} {xs : Nat → Int32} {kc ks : Nat} {T : Int32} {s : ot_P} {w1 w2 r E : Nat} {tr : List ot_E} {on tp ld pl fw sw st kd en : Int32} {a1 a2 a3 a4 a5 a6 a7 a8 a9 a10 a11 a12 : Nat → Int32} {a13 : Nat → Int64} {a14 : Nat → Int32} (h : ot_S T E s w1 w2 tr r (on, tp, ld, pl, fw, sw, st, kd, en, a1, a2, a3, a4, a5, a6, a7, a8, a9, a10, a11, a12, a13, a14)) : wL_law_117 (fun r => r = 1) L xs (nI E) (nI E) kc ks on tp ld pl fw sw st kd en a1 a2 a3 a4 a5 a6 a7 a8 a9 a10 a11 a12 a13 a14 := by
  unfold wL_law_117
  refine ot_legal h (ot_valueQ h (fun u1 h1 => ?_))
  obtain ⟨onx, tpx, ldx, plx, fwx, swx, stx, kdx, enx, a1x, a2x, a3x, a4x, a5x, a6x, a7x, a8x, a9x, a10x, a11x, a12x, a13x, a14x⟩ := u1
  refine ot_least h1 (fun u2 h2 => ?_)
  obtain ⟨ony, tpy, ldy, ply, fwy, swy, sty, kdy, eny, a1y, a2y, a3y, a4y, a5y, a6y, a7y, a8y, a9y, a10y, a11y, a12y, a13y, a14y⟩ := u2
  refine ot_courses h2 (fun u3 h3 => ?_)
  obtain ⟨onz, tpz, ldz, plz, fwz, swz, stz, kdz, enz, a1z, a2z, a3z, a4z, a5z, a6z, a7z, a8z, a9z, a10z, a11z, a12z, a13z, a14z⟩ := u3
  exact ot_toPlay h3 (ot_won0 h3 (ot_170 h3))
theorem ot_61 {L : Nat} {xs : Nat → Int32} {kc ks : Nat} {T : Int32} {s : ot_P} {E : Nat} {u : St1} (hL : L ≤ 260) (h : ot_S T E s 0 0 [] (4 * E) u) : ∃ n, ot_pW L xs E kc ks n 2 u := by
  refine pk_loop (fun n i v => ot_pW L xs E kc ks n i v) (fun i v => 2 ≤ i ∧ ∃ s w1 w2 tr r, ot_S T E s w1 w2 tr r v) (if L ≤ 2 then 2 else if L ≤ 12 then L else 12) 2 u ?_ ⟨by omega, s, 0, 0, [], _, h⟩ (fun n v hv => ?_) (fun n i v hi hv hw => ?_)
  · split
    · omega
    · split <;> omega
  · obtain ⟨on, tp, ld, pl, fw, sw, st, kd, en, a1, a2, a3, a4, a5, a6, a7, a8, a9, a10, a11, a12, a13, a14⟩ := v
    obtain ⟨_, s, w1, w2, tr, r, hS⟩ := hv
    by_cases h1 : L ≤ 2
    · rw [if_pos h1]
      exact br_t (nI_le h1 (by omega)) (ot_117 hS)
    · rw [if_neg h1]
      by_cases h2 : L ≤ 12
      · rw [if_pos h2]
        exact br_t (nI_le (Nat.le_refl L) (by omega)) (ot_117 hS)
      · rw [if_neg h2]
        exact br_c (fun _ => ot_117 hS) (fun _ => br_t (nI_le (Nat.le_refl 12) (by omega)) (ot_117 hS))
  · obtain ⟨on, tp, ld, pl, fw, sw, st, kd, en, a1, a2, a3, a4, a5, a6, a7, a8, a9, a10, a11, a12, a13, a14⟩ := v
    obtain ⟨hi2, s, w1, w2, tr, r, hS⟩ := hv
    have hi2' : 2 ≤ i + 1 := by omega
    have hiL : i < L ∧ i < 12 := by
      by_cases h1 : L ≤ 2
      · rw [if_pos h1] at hi
        omega
      · rw [if_neg h1] at hi
        by_cases h2 : L ≤ 12
        · rw [if_pos h2] at hi
          omega
        · rw [if_neg h2] at hi
          omega
    refine br_f (nI_ge hiL.1 (by omega)) (br_f (nI_ge (b := 12) hiL.2 (by omega)) ⟨pk_in i L hiL.1, by decide, ?_⟩)
    obtain ⟨j, hj, ej⟩ := pk_andE (xs (nI i).toNatClampNeg) (m := 15) 4 (by decide)
    rw [ej]
    have hc : j % 12 < 12 := Nat.mod_lt _ (by omega)
    refine nm_r (show nI j - nI j / 12 * 12 = nI (j % 12) from pk_rem (d := 12) (by omega) (by omega) (by omega)) ?_
    by_cases hl : ot_leg s (j % 12) = true
    · obtain ⟨q, rfl⟩ := ot_leg_r (ot_Tr_f _ _ _ _ _ hS.2.1).1 hl
      refine ot_play1 hS hl (fun p u1 _ hp4 h1 => ?_)
      obtain ⟨onx, tpx, ldx, plx, fwx, swx, stx, kdx, enx, a1x, a2x, a3x, a4x, a5x, a6x, a7x, a8x, a9x, a10x, a11x, a12x, a13x, a14x⟩ := u1
      exact br_t (nI_pos' (by omega)) (nm_r (nI_1 i) (hw _ ⟨hi2', _, _, _, _, _, h1⟩))
    · refine ot_play0 hS hc hl (br_f (by decide) ⟨pk_in i L hiL.1, br_c (fun _ => ?_) (fun _ => nm_r (nI_1 i) (hw _ ⟨hi2', _, _, _, _, _, hS⟩))⟩)
      cases tr with
      | nil => exact ot_undo0 hS (nm_r (nI_1 i) (hw _ ⟨hi2', _, _, _, _, _, hS⟩))
      | cons e tl =>
        obtain ⟨s0, v1, v2, c⟩ := e
        refine ot_undo1 hS (fun u1 h1 => ?_)
        obtain ⟨onx, tpx, ldx, plx, fwx, swx, stx, kdx, enx, a1x, a2x, a3x, a4x, a5x, a6x, a7x, a8x, a9x, a10x, a11x, a12x, a13x, a14x⟩ := u1
        exact nm_r (nI_1 i) (hw _ ⟨hi2', _, _, _, _, _, h1⟩)
theorem ot_34 {L : Nat} {xs : Nat → Int32} {kc ks : Nat} {x y : Int32} {on tp ld pl fw sw st kd en : Int32} {a1 a2 a3 a4 a5 a6 a7 a8 a9 a10 a11 a12 : Nat → Int32} {a13 : Nat → Int64} {a14 : Nat → Int32} (hL : L ≤ 260) : wL_law_34 (fun r => r = 1) L xs x y kc ks on tp ld pl fw sw st kd en a1 a2 a3 a4 a5 a6 a7 a8 a9 a10 a11 a12 a13 a14 := by
  refine ⟨by decide, ?_⟩
  obtain ⟨j, hj, ej⟩ := pk_andE (x >>> ((28 : Int32) &&& 31)) (m := 3) 2 (by decide)
  rw [ej]
  refine nm_r (show 1 + (nI j - nI j / 3 * 3) = nI (1 + j % 3) by
    rw [show nI j - nI j / 3 * 3 = nI (j % 3) from pk_rem (d := 3) (by omega) (by omega) (by omega), show (1 : Int32) = nI 1 from rfl, nI_add]) ?_
  refine ot_lawDeal (by omega) (by omega) (fun T s u1 h1 => ?_)
  have k := ot_61 (L := L) (xs := xs) (kc := kc) (ks := ks) hL h1
  obtain ⟨onz, tpz, ldz, plz, fwz, swz, stz, kdz, enz, a1z, a2z, a3z, a4z, a5z, a6z, a7z, a8z, a9z, a10z, a11z, a12z, a13z, a14z⟩ := u1
  exact k
theorem i_vc (xs : Nat → Int32) (L : Nat) (hL : L ≤ 260) : wpL_law (fun r => r = 1) L xs := by
  refine ⟨14, 4267, by omega, by omega, ?_⟩
  refine ⟨by omega, by omega, by omega, by omega, by omega, by omega, by omega, by omega, by omega, by omega, by omega, by omega, by omega, by omega, by omega, by omega, by omega, by omega, by omega, by omega, by omega, by omega, by omega, by omega, by omega, by omega, by omega, by omega, ?_⟩
  refine br_c (fun _ => br_c (fun _ => ot_34 hL) (fun z => ⟨?_, ot_34 hL⟩)) (fun z => ⟨?_, br_c (fun _ => ot_34 hL) (fun z => ⟨?_, ot_34 hL⟩)⟩)
  · exact pk_in 1 L (by
      rcases Nat.lt_or_ge 1 L with w | w
      · exact w
      · exact absurd (nI_le w (by omega)) z)
  · exact pk_in 0 L (by
      rcases Nat.lt_or_ge 0 L with w | w
      · exact w
      · exact absurd (nI_le w (by omega)) z)
  · exact pk_in 1 L (by
      rcases Nat.lt_or_ge 1 L with w | w
      · exact w
      · exact absurd (nI_le w (by omega)) z)
end
