section
/-! ===== bits of an Int32 (the first rows began as the family bt of kit/laws/BITS.to-paste) ===== -/
def qb_t (x : Int32) (i : Nat) : Bool := x.toBitVec.getLsbD i
theorem qb_ext {x y : Int32} (h : ∀ i, i < 32 → qb_t x i = qb_t y i) : x = y := Int32.toBitVec_inj.mp (BitVec.eq_of_getLsbD_eq (fun i hi => h i hi))
theorem qb_or (x y : Int32) (i : Nat) : qb_t (x ||| y) i = (qb_t x i || qb_t y i) := by unfold qb_t; rw [Int32.toBitVec_or, BitVec.getLsbD_or]
theorem qb_and (x y : Int32) (i : Nat) : qb_t (x &&& y) i = (qb_t x i && qb_t y i) := by unfold qb_t; rw [Int32.toBitVec_and, BitVec.getLsbD_and]
theorem qb_xor (x y : Int32) (i : Nat) : qb_t (x ^^^ y) i = (qb_t x i ^^ qb_t y i) := by unfold qb_t; rw [Int32.toBitVec_xor, BitVec.getLsbD_xor]
theorem qb_big {x : Int32} {i : Nat} (h : 32 ≤ i) : qb_t x i = false := BitVec.getLsbD_of_ge _ _ h
theorem qb_m1 : ∀ i, i < 32 → qb_t (-1) i = true := by decide +kernel
theorem qb_0 (i : Nat) : qb_t 0 i = false := BitVec.getLsbD_zero
theorem qb_sl : ∀ n, n < 32 → ((nI n &&& 31).toBitVec.smod 32).toNat = n := by decide +kernel
theorem qb_sshr (n : Nat) (hn : n < 32) (x : Int32) {i : Nat} (hi : i < 32) : qb_t (x >>> (nI n &&& 31)) i = if n + i < 32 then qb_t x (n + i) else qb_t x 31 := by
  unfold qb_t
  rw [Int32.toBitVec_shiftRight]
  show (x.toBitVec.sshiftRight ((nI n &&& 31).toBitVec.smod 32).toNat).getLsbD i = _
  rw [qb_sl n hn, BitVec.getLsbD_sshiftRight, BitVec.msb_eq_getLsbD_last]
  simp [hi]
theorem qb_nt {x : Bool} (h : ¬ x = true) : x = false := by cases x <;> simp_all
theorem qb_lt {x : Int32} {i : Nat} (h : qb_t x i = true) : i < 32 := by
  rcases Nat.lt_or_ge i 32 with z | z
  · exact z
  · rw [qb_big z] at h; exact absurd h (by decide)
theorem qb_not (x : Int32) {i : Nat} (hi : i < 32) : qb_t (x ^^^ (-1)) i = !qb_t x i := by
  rw [qb_xor, qb_m1 i hi]; cases qb_t x i <;> rfl
theorem qb_andn (x y : Int32) (i : Nat) : qb_t (x &&& (y ^^^ (-1))) i = (qb_t x i && !qb_t y i) := by
  rw [qb_and]
  rcases Nat.lt_or_ge i 32 with z | z
  · rw [qb_not y z]
  · rw [qb_big (x := x) z]; rfl
theorem qb_one (i : Nat) : qb_t 1 i = decide (i = 0) := by
  rcases Nat.lt_or_ge i 32 with h | h
  · exact (by decide +kernel : ∀ i, i < 32 → qb_t 1 i = decide (i = 0)) i h
  · rw [qb_big h, decide_eq_false (by omega)]
/-- the one bit -/
def qb_1 (c : Nat) : Int32 := (1 : Int32) <<< (nI c &&& 31)
theorem qb_1t {c : Nat} (hc : c < 32) (i : Nat) : qb_t (qb_1 c) i = decide (i = c) := by
  rcases Nat.lt_or_ge i 32 with h | h
  · exact (by decide +kernel : ∀ c, c < 32 → ∀ i, i < 32 → qb_t (qb_1 c) i = decide (i = c)) c hc i h
  · rw [qb_big h, decide_eq_false (by omega)]
theorem qb_sh1 (x : Int32) {c : Nat} (hc : c < 32) : ((x >>> (nI c &&& 31)) &&& 1) = if qb_t x c then 1 else 0 := by
  have hb : ∀ i, i < 32 → qb_t ((x >>> (nI c &&& 31)) &&& 1) i = (decide (i = 0) && qb_t x c) := by
    intro i hi
    rw [qb_and, qb_sshr c hc x hi, qb_one]
    by_cases e : i = 0
    · subst e; simp [hc]
    · simp [e]
  apply qb_ext
  intro i hi
  rw [hb i hi]
  cases qb_t x c
  · simp [qb_0]
  · simp [qb_one]
theorem qb_has (x : Int32) {c : Nat} (hc : c < 32) : ((x >>> (nI c &&& 31)) &&& 1) = 1 ↔ qb_t x c = true := by
  rw [qb_sh1 x hc]
  cases qb_t x c
  · simp
  · simp
theorem qb_zero {x : Int32} : x = 0 ↔ ∀ i, qb_t x i = false := by
  constructor
  · intro h i; rw [h, qb_0]
  · intro h; apply qb_ext; intro i _; rw [h i, qb_0]
theorem qb_nz {x : Int32} (h : ¬ x = 0) : ∃ i, qb_t x i = true := by
  refine Classical.byContradiction (fun hn => h (qb_zero.mpr (fun i => ?_)))
  cases hb : qb_t x i
  · rfl
  · exact absurd ⟨i, hb⟩ hn
theorem qb_ne {x : Int32} {i : Nat} (h : qb_t x i = true) : ¬ x = 0 := by
  intro e; rw [e, qb_0] at h; exact absurd h (by decide)
/-- only bits below 20 -/
def qb_s (x : Int32) : Prop := ∀ i, 20 ≤ i → qb_t x i = false
theorem qb_s0 : qb_s 0 := fun i _ => qb_0 i
theorem qb_sand {x : Int32} (y : Int32) (h : qb_s x) : qb_s (x &&& y) := fun i hi => by rw [qb_and, h i hi]; rfl
theorem qb_sor {x y : Int32} (h : qb_s x) (h' : qb_s y) : qb_s (x ||| y) := fun i hi => by rw [qb_or, h i hi, h' i hi]; rfl
theorem qb_slt {x : Int32} (h : qb_s x) {i : Nat} (hi : qb_t x i = true) : i < 20 := by
  rcases Nat.lt_or_ge i 20 with z | z
  · exact z
  · rw [h i z] at hi; exact absurd hi (by decide)
/-- x is a part of y -/
def qb_le (x y : Int32) : Prop := ∀ i, qb_t x i = true → qb_t y i = true
theorem qb_sle {x y : Int32} (h : qb_le x y) (hy : qb_s y) : qb_s x := fun i hi => by
  cases hb : qb_t x i
  · rfl
  · exact absurd (h i hb) (by rw [hy i hi]; decide)
theorem qb_s1 {c : Nat} (hc : c < 20) : qb_s (qb_1 c) := fun i hi => by rw [qb_1t (by omega), decide_eq_false (by omega)]
theorem qb_andle {x y : Int32} (h : qb_le x y) : x &&& y = x := by
  apply qb_ext; intro i _; rw [qb_and]
  cases hb : qb_t x i
  · rfl
  · rw [h i hb]; rfl
theorem qb_and0 {x y : Int32} : x &&& y = 0 ↔ ∀ i, qb_t x i = true → qb_t y i = false := by
  rw [qb_zero]
  constructor
  · intro h i hi
    have := h i
    rw [qb_and, hi] at this
    simpa using this
  · intro h i
    rw [qb_and]
    cases hb : qb_t x i
    · rfl
    · rw [h i hb]; rfl
theorem qb_sub1 (x : Int32) : (x - 1).toBitVec.toNat = (x.toBitVec.toNat + (2 ^ 32 - 1)) % 2 ^ 32 := by
  rw [Int32.toBitVec_sub, BitVec.toNat_sub]
  show (2 ^ 32 - 1 + x.toBitVec.toNat) % 2 ^ 32 = _
  rw [Nat.add_comm]
theorem qb_neg (x : Int32) {i : Nat} (hi : i < 32) : qb_t (-x) i = !qb_t (x - 1) i := by
  unfold qb_t
  rw [Int32.toBitVec_neg, Int32.toBitVec_sub]
  show _ = !(x.toBitVec - 1#32).getLsbD i
  rw [← BitVec.not_neg, BitVec.getLsbD_not]
  simp [hi]
theorem qb_tb (x : Int32) (i : Nat) : qb_t x i = x.toBitVec.toNat.testBit i := rfl
theorem qb_low1 {x : Int32} (h : ¬ x = 0) : ∃ l, l < 32 ∧ qb_t x l = true ∧ (∀ i, i < l → qb_t x i = false) ∧ ∀ i, i < 32 → qb_t (x - 1) i = if i < l + 1 then decide (i < l) else qb_t x i := by
  obtain ⟨l, hl, hmin⟩ := pk_least (fun k => qb_t x k = true) (qb_nz h)
  have hl32 : l < 32 := qb_lt hl
  refine ⟨l, hl32, hl, fun i hi => qb_nt (hmin i hi), fun i hi => ?_⟩
  have hX := x.toBitVec.isLt
  have e1 : x.toBitVec.toNat % 2 ^ (l + 1) = 2 ^ l := by
    apply Nat.eq_of_testBit_eq
    intro j
    rw [Nat.testBit_mod_two_pow, Nat.testBit_two_pow]
    by_cases ej : j = l
    · subst ej
      have : x.toBitVec.toNat.testBit j = true := hl
      simp [this]
    · by_cases hj : j < l
      · have : x.toBitVec.toNat.testBit j = false := by
          have := hmin j hj
          rw [qb_tb] at this
          simpa using this
        rw [this]
        simp [show ¬ l = j by omega]
      · simp [show ¬ j < l + 1 by omega, show ¬ l = j by omega]
  have e2 : x.toBitVec.toNat = 2 ^ (l + 1) * (x.toBitVec.toNat / 2 ^ (l + 1)) + 2 ^ l := by
    have := Nat.div_add_mod x.toBitVec.toNat (2 ^ (l + 1))
    rw [e1] at this
    exact this.symm
  have hp : 0 < 2 ^ l := Nat.two_pow_pos l
  have e3 : (x - 1).toBitVec.toNat = 2 ^ (l + 1) * (x.toBitVec.toNat / 2 ^ (l + 1)) + (2 ^ l - 1) := by
    rw [qb_sub1]
    omega
  have hlt : 2 ^ l - 1 < 2 ^ (l + 1) := by
    rw [Nat.pow_succ]; omega
  rw [qb_tb, e3, Nat.testBit_two_pow_mul_add _ hlt, Nat.testBit_two_pow_sub_one, Nat.testBit_div_two_pow, qb_tb]
  by_cases hi' : i < l + 1
  · rw [if_pos hi', if_pos hi']
  · rw [if_neg hi', if_neg hi', show i - (l + 1) + (l + 1) = i by omega]
theorem qb_low {x : Int32} (h : ¬ x = 0) : ∃ l, l < 32 ∧ qb_t x l = true ∧ (∀ i, qb_t (x &&& (x - 1)) i = (qb_t x i && !decide (i = l))) ∧ (∀ i, qb_t (x &&& (-x)) i = decide (i = l)) := by
  obtain ⟨l, hl, hb, hlow, hs⟩ := qb_low1 h
  refine ⟨l, hl, hb, fun i => ?_, fun i => ?_⟩
  · rw [qb_and]
    rcases Nat.lt_or_ge i 32 with z | z
    · rw [hs i z]
      rcases Nat.lt_or_ge i l with y | y
      · rw [hlow i y]; rfl
      · by_cases e : i = l
        · subst e; simp
        · rw [if_neg (by omega)]; simp [e]
    · rw [qb_big (x := x) z]; rfl
  · rw [qb_and]
    rcases Nat.lt_or_ge i 32 with z | z
    · rw [qb_neg x z, hs i z]
      rcases Nat.lt_or_ge i l with y | y
      · rw [hlow i y, decide_eq_false (show ¬ i = l by omega)]; rfl
      · by_cases e : i = l
        · subst e; simp [hb]
        · rw [if_neg (by omega), decide_eq_false e]; cases qb_t x i <;> rfl
    · rw [qb_big (x := x) z, decide_eq_false (by omega)]; rfl
/-! ===== counts ===== -/
def qc_n (p : Nat → Bool) : Nat → Nat
  | 0 => 0
  | n + 1 => qc_n p n + (p n).toNat
theorem qc_congr {p q : Nat → Bool} : ∀ {n : Nat}, (∀ i, i < n → p i = q i) → qc_n p n = qc_n q n
  | 0, _ => rfl
  | n + 1, h => by
    show qc_n p n + (p n).toNat = qc_n q n + (q n).toNat
    rw [qc_congr (n := n) (fun i hi => h i (by omega)), h n (by omega)]
theorem qc_le (p : Nat → Bool) : ∀ n, qc_n p n ≤ n
  | 0 => Nat.le_refl 0
  | n + 1 => by
    show qc_n p n + (p n).toNat ≤ n + 1
    have := qc_le p n
    have := Bool.toNat_le (p n)
    omega
theorem qc_mono {p q : Nat → Bool} : ∀ {n : Nat}, (∀ i, i < n → p i = true → q i = true) → qc_n p n ≤ qc_n q n
  | 0, _ => Nat.le_refl 0
  | n + 1, h => by
    show qc_n p n + (p n).toNat ≤ qc_n q n + (q n).toNat
    have h1 := qc_mono (n := n) (fun i hi => h i (by omega))
    have h2 : (p n).toNat ≤ (q n).toNat := by
      cases hp : p n
      · exact Nat.zero_le _
      · rw [h n (by omega) hp]; exact Nat.le_refl _
    omega
theorem qc_zero {p : Nat → Bool} : ∀ {n : Nat}, qc_n p n = 0 → ∀ i, i < n → p i = false
  | 0, _, i, hi => absurd hi (by omega)
  | n + 1, h, i, hi => by
    have h' : qc_n p n + (p n).toNat = 0 := h
    by_cases e : i = n
    · subst e
      cases hp : p i
      · rfl
      · rw [hp] at h'; simp at h'
    · exact qc_zero (n := n) (by omega) i (by omega)
theorem qc_none {p : Nat → Bool} : ∀ {n : Nat}, (∀ i, i < n → p i = false) → qc_n p n = 0
  | 0, _ => rfl
  | n + 1, h => by
    show qc_n p n + (p n).toNat = 0
    rw [qc_none (n := n) (fun i hi => h i (by omega)), h n (by omega)]; rfl
theorem qc_add {p q r : Nat → Bool} : ∀ {n : Nat}, (∀ i, i < n → (r i).toNat = (p i).toNat + (q i).toNat) → qc_n r n = qc_n p n + qc_n q n
  | 0, _ => rfl
  | n + 1, h => by
    show qc_n r n + (r n).toNat = (qc_n p n + (p n).toNat) + (qc_n q n + (q n).toNat)
    rw [qc_add (n := n) (fun i hi => h i (by omega)), h n (by omega)]
    omega
theorem qc_one {c : Nat} : ∀ {n : Nat}, c < n → qc_n (fun i => decide (i = c)) n = 1
  | 0, h => absurd h (by omega)
  | n + 1, h => by
    show qc_n (fun i => decide (i = c)) n + (decide (n = c)).toNat = 1
    by_cases e : n = c
    · rw [qc_none (fun i hi => decide_eq_false (by omega)), decide_eq_true e]; rfl
    · rw [qc_one (n := n) (by omega), decide_eq_false e]; rfl
/-- how many of the 20 cells -/
def qc_p (x : Int32) : Nat := qc_n (qb_t x) 20
theorem qc_ple (x : Int32) : qc_p x ≤ 20 := qc_le _ 20
theorem qc_pmono {x y : Int32} (h : qb_le x y) : qc_p x ≤ qc_p y := qc_mono (fun i _ hi => h i hi)
theorem qc_p0 : qc_p 0 = 0 := qc_none (fun i _ => qb_0 i)
theorem qc_pz {x : Int32} (h : qb_s x) (h0 : qc_p x = 0) : x = 0 := by
  apply qb_zero.mpr
  intro i
  rcases Nat.lt_or_ge i 20 with z | z
  · exact qc_zero h0 i z
  · exact h i z
theorem qc_por {x y : Int32} (h : ∀ i, qb_t x i = true → qb_t y i = false) : qc_p (x ||| y) = qc_p x + qc_p y := by
  apply qc_add
  intro i _
  rw [qb_or]
  cases hx : qb_t x i
  · simp
  · rw [h i hx]; rfl
theorem qc_p1 {c : Nat} (hc : c < 20) : qc_p (qb_1 c) = 1 := by
  have : qc_p (qb_1 c) = qc_n (fun i => decide (i = c)) 20 := qc_congr (fun i _ => qb_1t (by omega) i)
  rw [this, qc_one hc]
theorem qc_pset {m : Int32} {c : Nat} (hc : c < 20) (h : qb_t m c = false) : qc_p (m ||| qb_1 c) = qc_p m + 1 := by
  rw [qc_por, qc_p1 hc]
  intro i hi
  rw [qb_1t (by omega)]
  exact decide_eq_false (fun e => by rw [e, h] at hi; exact absurd hi (by decide))
theorem qc_plow {x : Int32} (hs : qb_s x) (h : ¬ x = 0) : qc_p (x &&& (x - 1)) + 1 = qc_p x := by
  obtain ⟨l, hl, hb, h1, _⟩ := qb_low h
  have hl20 : l < 20 := qb_slt hs hb
  have : qc_p x = qc_p (x &&& (x - 1)) + qc_p (qb_1 l) := by
    apply qc_add
    intro i _
    rw [h1, qb_1t hl]
    by_cases e : i = l
    · subst e; rw [hb]; simp
    · simp [e]
  rw [this, qc_p1 hl20]
theorem qc_plt {x y : Int32} (h : qb_le x y) {i : Nat} (hi : i < 20) (hy : qb_t y i = true) (hx : qb_t x i = false) : qc_p x < qc_p y := by
  have h1 : qc_p (x ||| qb_1 i) = qc_p x + 1 := qc_pset hi hx
  have h2 : qc_p (x ||| qb_1 i) ≤ qc_p y := qc_pmono (fun j hj => by
    rw [qb_or] at hj
    cases hxj : qb_t x j
    · rw [hxj, qb_1t (by omega)] at hj
      have : j = i := by simpa using hj
      rw [this]; exact hy
    · exact h j hxj)
  omega
end
section
/-! ===== sums over a range ===== -/
def qr_s (f : Nat → Nat) : Nat → Nat
  | 0 => 0
  | n + 1 => qr_s f n + f n
theorem qr_congr {f g : Nat → Nat} : ∀ {n : Nat}, (∀ i, i < n → f i = g i) → qr_s f n = qr_s g n
  | 0, _ => rfl
  | n + 1, h => by
    show qr_s f n + f n = qr_s g n + g n
    rw [qr_congr (n := n) (fun i hi => h i (by omega)), h n (by omega)]
theorem qr_zero {f : Nat → Nat} : ∀ {n : Nat}, (∀ i, i < n → f i = 0) → qr_s f n = 0
  | 0, _ => rfl
  | n + 1, h => by
    show qr_s f n + f n = 0
    rw [qr_zero (n := n) (fun i hi => h i (by omega)), h n (by omega)]
theorem qr_one {f : Nat → Nat} (x : Nat) : ∀ {n : Nat}, (∀ i, i < n → i ≠ x → f i = 0) → qr_s f n = if x < n then f x else 0
  | 0, _ => rfl
  | n + 1, h => by
    show qr_s f n + f n = _
    rw [qr_one x (n := n) (fun i hi => h i (by omega))]
    by_cases e : n = x
    · subst e; rw [if_neg (Nat.lt_irrefl n), if_pos (Nat.lt_succ_self n)]; omega
    · rw [h n (by omega) e]
      by_cases z : x < n
      · rw [if_pos z, if_pos (by omega)]; rfl
      · rw [if_neg z, if_neg (by omega)]
theorem qr_add (f g : Nat → Nat) : ∀ n, qr_s (fun i => f i + g i) n = qr_s f n + qr_s g n
  | 0 => rfl
  | n + 1 => by
    show qr_s (fun i => f i + g i) n + (f n + g n) = (qr_s f n + f n) + (qr_s g n + g n)
    rw [qr_add f g n]; omega
theorem qr_mul (k : Nat) (f : Nat → Nat) : ∀ n, qr_s (fun i => k * f i) n = k * qr_s f n
  | 0 => rfl
  | n + 1 => by
    show qr_s (fun i => k * f i) n + k * f n = k * (qr_s f n + f n)
    rw [qr_mul k f n, Nat.mul_add]
theorem qr_pc (p : Nat → Bool) : ∀ n, qr_s (fun i => (p i).toNat) n = qc_n p n
  | 0 => rfl
  | n + 1 => by
    show qr_s (fun i => (p i).toNat) n + (p n).toNat = qc_n p n + (p n).toNat
    rw [qr_pc p n]
/-! ===== sums over the subsets of a list of cells ===== -/
def qs_s : List Nat → (Int32 → Nat) → Int32 → Nat
  | [], f, m => f m
  | c :: l, f, m => qs_s l f m + qs_s l f (m ||| qb_1 c)
def qs_in (l : List Nat) (m F : Int32) : Prop := (∀ i, qb_t m i = true → qb_t F i = true) ∧ (∀ i, qb_t F i = true → qb_t m i = true ∨ i ∈ l)
theorem qs_in0 {c : Nat} {l : List Nat} {m F : Int32} (h : qs_in l m F) : qs_in (c :: l) m F :=
  ⟨h.1, fun i hi => (h.2 i hi).elim Or.inl (fun z => Or.inr (List.mem_cons_of_mem c z))⟩
theorem qs_in1 {c : Nat} (hc : c < 32) {l : List Nat} {m F : Int32} (h : qs_in l (m ||| qb_1 c) F) : qs_in (c :: l) m F :=
  ⟨fun i hi => h.1 i (by rw [qb_or, hi]; rfl), fun i hi => (h.2 i hi).elim (fun z => by
    rw [qb_or, qb_1t hc] at z
    cases hm : qb_t m i
    · rw [hm] at z
      have : i = c := by simpa using z
      exact Or.inr (by rw [this]; exact List.mem_cons_self)
    · exact Or.inl rfl) (fun z => Or.inr (List.mem_cons_of_mem c z))⟩
theorem qs_congr {f g : Int32 → Nat} : ∀ {l : List Nat}, (∀ c, c ∈ l → c < 32) → ∀ m, (∀ F, qs_in l m F → f F = g F) → qs_s l f m = qs_s l g m
  | [], _, m, h => h m ⟨fun _ z => z, fun _ z => Or.inl z⟩
  | c :: l, hl, m, h => by
    show qs_s l f m + qs_s l f (m ||| qb_1 c) = qs_s l g m + qs_s l g (m ||| qb_1 c)
    rw [qs_congr (l := l) (fun d hd => hl d (List.mem_cons_of_mem c hd)) m (fun F hF => h F (qs_in0 hF)),
      qs_congr (l := l) (fun d hd => hl d (List.mem_cons_of_mem c hd)) (m ||| qb_1 c) (fun F hF => h F (qs_in1 (hl c List.mem_cons_self) hF))]
theorem qs_zero : ∀ (l : List Nat) (m : Int32), qs_s l (fun _ => 0) m = 0
  | [], _ => rfl
  | c :: l, m => by
    show qs_s l _ m + qs_s l _ (m ||| qb_1 c) = 0
    rw [qs_zero l m, qs_zero l _]
theorem qs_none {f : Int32 → Nat} {l : List Nat} (hl : ∀ c, c ∈ l → c < 32) {m : Int32} (h : ∀ F, qs_in l m F → f F = 0) : qs_s l f m = 0 :=
  (qs_congr hl m h).trans (qs_zero l m)
theorem qs_pos {f : Int32 → Nat} {l : List Nat} (hl : ∀ c, c ∈ l → c < 32) {m : Int32} (h : 0 < qs_s l f m) : ∃ F, qs_in l m F ∧ 0 < f F := by
  refine Classical.byContradiction (fun hn => ?_)
  have : qs_s l f m = 0 := qs_none hl (fun F hF => by
    rcases Nat.eq_zero_or_pos (f F) with z | z
    · exact z
    · exact absurd ⟨F, hF, z⟩ hn)
  omega
theorem qs_append (l2 : List Nat) (f : Int32 → Nat) : ∀ (l1 : List Nat) (m : Int32), qs_s (l1 ++ l2) f m = qs_s l1 (qs_s l2 f) m
  | [], _ => rfl
  | c :: l, m => by
    show qs_s (l ++ l2) f m + qs_s (l ++ l2) f (m ||| qb_1 c) = qs_s l (qs_s l2 f) m + qs_s l (qs_s l2 f) (m ||| qb_1 c)
    rw [qs_append l2 f l m, qs_append l2 f l _]
theorem qs_perm (f : Int32 → Nat) {l1 l2 : List Nat} (h : List.Perm l1 l2) : ∀ m, qs_s l1 f m = qs_s l2 f m := by
  induction h with
  | nil => intro m; rfl
  | cons c _ ih =>
    intro m
    show qs_s _ f m + qs_s _ f (m ||| qb_1 c) = qs_s _ f m + qs_s _ f (m ||| qb_1 c)
    rw [ih m, ih (m ||| qb_1 c)]
  | swap a b l =>
    intro m
    show (qs_s l f m + qs_s l f (m ||| qb_1 a)) + (qs_s l f (m ||| qb_1 b) + qs_s l f (m ||| qb_1 b ||| qb_1 a)) = (qs_s l f m + qs_s l f (m ||| qb_1 b)) + (qs_s l f (m ||| qb_1 a) + qs_s l f (m ||| qb_1 a ||| qb_1 b))
    rw [Int32.or_assoc, Int32.or_assoc, Int32.or_comm (qb_1 b)]
    omega
  | trans _ _ ih1 ih2 => intro m; rw [ih1, ih2]
theorem qs_add (f g : Int32 → Nat) : ∀ (l : List Nat) (m : Int32), qs_s l (fun F => f F + g F) m = qs_s l f m + qs_s l g m
  | [], _ => rfl
  | c :: l, m => by
    show qs_s l (fun F => f F + g F) m + qs_s l (fun F => f F + g F) (m ||| qb_1 c) = (qs_s l f m + qs_s l f (m ||| qb_1 c)) + (qs_s l g m + qs_s l g (m ||| qb_1 c))
    rw [qs_add f g l m, qs_add f g l _]; omega
theorem qs_mul (k : Nat) (f : Int32 → Nat) : ∀ (l : List Nat) (m : Int32), qs_s l (fun F => k * f F) m = k * qs_s l f m
  | [], _ => rfl
  | c :: l, m => by
    show qs_s l (fun F => k * f F) m + qs_s l (fun F => k * f F) (m ||| qb_1 c) = k * (qs_s l f m + qs_s l f (m ||| qb_1 c))
    rw [qs_mul k f l m, qs_mul k f l _, Nat.mul_add]
theorem qs_mulr (k : Nat) (f : Int32 → Nat) (l : List Nat) (m : Int32) : qs_s l (fun F => f F * k) m = qs_s l f m * k := by
  rw [show (fun F => f F * k) = (fun F => k * f F) from funext (fun F => Nat.mul_comm _ _), qs_mul, Nat.mul_comm]
theorem qs_swap (f : Nat → Int32 → Nat) (l : List Nat) (m : Int32) : ∀ n, qs_s l (fun F => qr_s (fun a => f a F) n) m = qr_s (fun a => qs_s l (f a) m) n
  | 0 => qs_zero l m
  | n + 1 => by
    show qs_s l (fun F => qr_s (fun a => f a F) n + f n F) m = qr_s (fun a => qs_s l (f a) m) n + qs_s l (f n) m
    rw [qs_add (fun F => qr_s (fun a => f a F) n) (f n), qs_swap f l m n]
theorem qs_sh : ∀ (l : List Nat) (f : Int32 → Nat) (m : Int32), qs_s l f m = qs_s l (fun F => f (m ||| F)) 0
  | [], f, m => by
    show f m = f (m ||| 0)
    rw [Int32.or_zero]
  | c :: l, f, m => by
    show qs_s l f m + qs_s l f (m ||| qb_1 c) = qs_s l (fun F => f (m ||| F)) 0 + qs_s l (fun F => f (m ||| F)) (0 ||| qb_1 c)
    rw [qs_sh l f m, qs_sh l f (m ||| qb_1 c), qs_sh l (fun F => f (m ||| F)) (0 ||| qb_1 c)]
    simp only [Int32.or_assoc, Int32.zero_or]
theorem qs_le1 {f : Int32 → Nat} (h : ∀ F, f F ≤ 1) : ∀ (l : List Nat) (m : Int32), qs_s l f m ≤ 2 ^ l.length
  | [], m => h m
  | c :: l, m => by
    show qs_s l f m + qs_s l f (m ||| qb_1 c) ≤ 2 ^ (l.length + 1)
    have h1 := qs_le1 h l m
    have h2 := qs_le1 h l (m ||| qb_1 c)
    rw [Nat.pow_succ]; omega
/-! ===== by the number of mines ===== -/
def qs_P (l : List Nat) (w : Int32 → Nat) (n : Nat) : Nat := qs_s l (fun F => if qc_p F = n then w F else 0) 0
theorem qr_pick (x y n a b : Nat) : (if x + y = n then a * b else 0) = qr_s (fun i => (if x = i then a else 0) * (if y = n - i then b else 0)) (n + 1) := by
  rw [qr_one x (f := fun i => (if x = i then a else 0) * (if y = n - i then b else 0)) (fun i _ hi => by
    show (if x = i then a else 0) * (if y = n - i then b else 0) = 0
    rw [if_neg (fun e => hi e.symm)]; exact Nat.zero_mul _)]
  show _ = if x < n + 1 then (if x = x then a else 0) * (if y = n - x then b else 0) else 0
  rw [if_pos (rfl : x = x)]
  by_cases z : x < n + 1
  · rw [if_pos z]
    by_cases e : x + y = n
    · rw [if_pos e, if_pos (show y = n - x by omega)]
    · rw [if_neg e, if_neg (show ¬ y = n - x by omega), Nat.mul_zero]
  · rw [if_neg z, if_neg (by omega)]
theorem qs_conv {l1 l2 : List Nat} {w w1 w2 : Int32 → Nat} (h1 : ∀ c, c ∈ l1 → c < 32) (h2 : ∀ c, c ∈ l2 → c < 32)
    (hd : ∀ F1 F2, qs_in l1 0 F1 → qs_in l2 0 F2 → w (F1 ||| F2) = w1 F1 * w2 F2 ∧ qc_p (F1 ||| F2) = qc_p F1 + qc_p F2) (n : Nat) :
    qs_P (l1 ++ l2) w n = qr_s (fun a => qs_P l1 w1 a * qs_P l2 w2 (n - a)) (n + 1) := by
  unfold qs_P
  rw [qs_append]
  have e1 : qs_s l1 (qs_s l2 (fun F => if qc_p F = n then w F else 0)) 0
      = qs_s l1 (fun F1 => qs_s l2 (fun F2 => qr_s (fun a => (if qc_p F1 = a then w1 F1 else 0) * (if qc_p F2 = n - a then w2 F2 else 0)) (n + 1)) 0) 0 := by
    apply qs_congr h1
    intro F1 hF1
    rw [qs_sh]
    apply qs_congr h2
    intro F2 hF2
    obtain ⟨a1, a2⟩ := hd F1 F2 hF1 hF2
    rw [a1, a2, qr_pick]
  rw [e1]
  have e2 : (fun F1 => qs_s l2 (fun F2 => qr_s (fun a => (if qc_p F1 = a then w1 F1 else 0) * (if qc_p F2 = n - a then w2 F2 else 0)) (n + 1)) 0)
      = (fun F1 => qr_s (fun a => (if qc_p F1 = a then w1 F1 else 0) * qs_s l2 (fun F2 => if qc_p F2 = n - a then w2 F2 else 0) 0) (n + 1)) := by
    funext F1
    rw [qs_swap (fun a F2 => (if qc_p F1 = a then w1 F1 else 0) * (if qc_p F2 = n - a then w2 F2 else 0))]
    apply qr_congr
    intro a _
    exact qs_mul _ _ _ _
  rw [e2, qs_swap (fun a F1 => (if qc_p F1 = a then w1 F1 else 0) * qs_s l2 (fun F2 => if qc_p F2 = n - a then w2 F2 else 0) 0)]
  apply qr_congr
  intro a _
  exact qs_mulr _ _ _ _
/-! ===== the cells of a mask ===== -/
def qs_c (X : Int32) : List Nat := (List.range 20).filter (qb_t X)
theorem qs_mem {X : Int32} {i : Nat} : i ∈ qs_c X ↔ i < 20 ∧ qb_t X i = true := by
  unfold qs_c
  rw [List.mem_filter, List.mem_range]
theorem qs_c32 (X : Int32) : ∀ c, c ∈ qs_c X → c < 32 := fun c hc => by have := (qs_mem.mp hc).1; omega
theorem qs_nd (X : Int32) : (qs_c X).Nodup := List.Pairwise.filter _ List.nodup_range
theorem qs_cin {X F : Int32} (h : qs_in (qs_c X) 0 F) : qb_le F X ∧ qb_s F := by
  have : ∀ i, qb_t F i = true → i < 20 ∧ qb_t X i = true := fun i hi => (h.2 i hi).elim (fun z => absurd z (by rw [qb_0]; decide)) (fun z => qs_mem.mp z)
  exact ⟨fun i hi => (this i hi).2, fun i hi => qb_nt (fun z => by have := (this i z).1; omega)⟩
theorem qs_len : ∀ (p : Nat → Bool) (n : Nat), ((List.range n).filter p).length = qc_n p n
  | p, 0 => rfl
  | p, n + 1 => by
    rw [List.range_succ, List.filter_append, List.length_append, qs_len p n]
    show qc_n p n + _ = qc_n p n + (p n).toNat
    cases hp : p n
    · simp [hp]
    · simp [hp]
theorem qs_clen (X : Int32) : (qs_c X).length = qc_p X := qs_len _ 20
theorem qs_cperm {U G : Int32} (h : ∀ i, qb_t U i = true → qb_t G i = false) : List.Perm (qs_c U ++ qs_c G) (qs_c (U ||| G)) := by
  apply (List.perm_ext_iff_of_nodup _ (qs_nd _)).mpr
  · intro i
    rw [List.mem_append, qs_mem, qs_mem, qs_mem, qb_or]
    cases qb_t U i <;> cases qb_t G i <;> simp
  · apply List.nodup_append.mpr
    refine ⟨qs_nd _, qs_nd _, ?_⟩
    intro a ha b hb e
    subst e
    have h1 := h a (qs_mem.mp ha).2
    rw [(qs_mem.mp hb).2] at h1
    exact absurd h1 (by decide)
theorem qs_cpull {X Y : Int32} {c : Nat} (hc : c < 20) (hX : qb_t X c = true) (hY : ∀ i, i < 20 → qb_t Y i = (qb_t X i && !decide (i = c))) : List.Perm (qs_c X) (c :: qs_c Y) := by
  apply (List.perm_ext_iff_of_nodup (qs_nd _) _).mpr
  · intro i
    rw [List.mem_cons, qs_mem, qs_mem]
    constructor
    · intro ⟨h1, h2⟩
      by_cases e : i = c
      · exact Or.inl e
      · exact Or.inr ⟨h1, by rw [hY i h1, h2]; simp [e]⟩
    · intro h
      rcases h with e | ⟨h1, h2⟩
      · subst e; exact ⟨hc, hX⟩
      · rw [hY i h1] at h2
        refine ⟨h1, ?_⟩
        cases hx : qb_t X i
        · rw [hx] at h2; simp at h2
        · rfl
  · apply List.nodup_cons.mpr
    refine ⟨fun h => ?_, qs_nd _⟩
    have h2 := (qs_mem.mp h).2
    rw [hY c hc] at h2
    simp at h2
/-! ===== binomials ===== -/
def qs_b : Nat → Nat → Nat
  | _, 0 => 1
  | 0, _ + 1 => 0
  | n + 1, k + 1 => qs_b n k + qs_b n (k + 1)
theorem qs_b0 (n : Nat) : qs_b n 0 = 1 := by cases n <;> rfl
theorem qs_bz : ∀ {n k : Nat}, n < k → qs_b n k = 0
  | _, 0, h => absurd h (by omega)
  | 0, k + 1, _ => rfl
  | n + 1, k + 1, h => by
    show qs_b n k + qs_b n (k + 1) = 0
    rw [qs_bz (n := n) (k := k) (by omega), qs_bz (n := n) (k := k + 1) (by omega)]
theorem qs_bin : ∀ (l : List Nat) (m : Int32), l.Nodup → (∀ c, c ∈ l → c < 20 ∧ qb_t m c = false) → ∀ n, qs_s l (fun F => if qc_p F = n + qc_p m then 1 else 0) m = qs_b l.length n
  | [], m, _, _, n => by
    show (if qc_p m = n + qc_p m then 1 else 0) = qs_b 0 n
    cases n with
    | zero => rw [if_pos (by omega)]; rfl
    | succ n => rw [if_neg (by omega)]; rfl
  | c :: l, m, hn, hc, n => by
    have hn' := List.nodup_cons.mp hn
    have hc0 := hc c List.mem_cons_self
    have hcl : ∀ d, d ∈ l → d < 20 ∧ qb_t m d = false := fun d hd => hc d (List.mem_cons_of_mem c hd)
    have hcl' : ∀ d, d ∈ l → d < 20 ∧ qb_t (m ||| qb_1 c) d = false := fun d hd => ⟨(hcl d hd).1, by
      rw [qb_or, (hcl d hd).2, qb_1t (by omega), decide_eq_false (show ¬ d = c from fun e => hn'.1 (by rw [← e]; exact hd))]; rfl⟩
    have hp : qc_p (m ||| qb_1 c) = qc_p m + 1 := qc_pset hc0.1 hc0.2
    show qs_s l _ m + qs_s l _ (m ||| qb_1 c) = qs_b (l.length + 1) n
    rw [qs_bin l m hn'.2 hcl n]
    cases n with
    | zero =>
      rw [qs_none (m := m ||| qb_1 c) (fun d hd => by have := (hcl d hd).1; omega) (fun F hF => by
        have := qc_pmono (x := m ||| qb_1 c) (y := F) hF.1
        exact if_neg (by omega)), qs_b0, qs_b0]
    | succ n =>
      have h2 := qs_bin l (m ||| qb_1 c) hn'.2 hcl' n
      rw [hp, show n + (qc_p m + 1) = n + 1 + qc_p m by omega] at h2
      rw [h2]
      show qs_b l.length (n + 1) + qs_b l.length n = qs_b l.length n + qs_b l.length (n + 1)
      omega
theorem qs_Prest (R : Int32) (n : Nat) : qs_P (qs_c R) (fun _ => 1) n = qs_b (qc_p R) n := by
  have h := qs_bin (qs_c R) 0 (qs_nd R) (fun c hc => ⟨(qs_mem.mp hc).1, qb_0 c⟩) n
  rw [qs_clen, qc_p0] at h
  exact h
theorem qs_Prestq {R : Int32} {q : Nat} (hq : q < 20) (hR : qb_t R q = true) (n : Nat) :
    qs_P (qs_c R) (fun F => (qb_t F q).toNat) n = if 1 ≤ n then qs_b (qc_p R - 1) (n - 1) else 0 := by
  have hY : ∀ i, i < 20 → qb_t (R &&& (qb_1 q ^^^ (-1))) i = (qb_t R i && !decide (i = q)) := fun i _ => by rw [qb_andn, qb_1t (by omega)]
  have hp := qs_cpull hq hR hY
  have hq0 : qb_t (R &&& (qb_1 q ^^^ (-1))) q = false := by rw [hY q hq]; simp
  have hlen : (qs_c (R &&& (qb_1 q ^^^ (-1)))).length = qc_p R - 1 := by
    have := hp.length_eq
    rw [List.length_cons, qs_clen R] at this
    omega
  have h32 := qs_c32 (R &&& (qb_1 q ^^^ (-1)))
  unfold qs_P
  rw [qs_perm _ hp]
  show qs_s _ _ 0 + qs_s _ _ (0 ||| qb_1 q) = _
  rw [qs_none (m := 0) h32 (fun F hF => by
    have h1 := (qs_cin hF).1
    have : qb_t F q = false := qb_nt (fun z => by have := h1 q z; rw [hq0] at this; exact absurd this (by decide))
    show (if qc_p F = n then (qb_t F q).toNat else 0) = 0
    rw [this]; simp), Int32.zero_or, Nat.zero_add]
  have e : qs_s (qs_c (R &&& (qb_1 q ^^^ (-1)))) (fun F => if qc_p F = n then (qb_t F q).toNat else 0) (qb_1 q)
      = qs_s (qs_c (R &&& (qb_1 q ^^^ (-1)))) (fun F => if qc_p F = n then 1 else 0) (qb_1 q) := by
    apply qs_congr h32
    intro F hF
    have : qb_t F q = true := hF.1 q (by rw [qb_1t (by omega)]; simp)
    rw [this]; rfl
  rw [e]
  cases n with
  | zero =>
    rw [if_neg (by omega)]
    apply qs_none h32
    intro F hF
    have := qc_pmono (x := qb_1 q) (y := F) hF.1
    rw [qc_p1 hq] at this
    exact if_neg (by omega)
  | succ n =>
    rw [if_pos (by omega)]
    have h := qs_bin (qs_c (R &&& (qb_1 q ^^^ (-1)))) (qb_1 q) (qs_nd _) (fun c hc => ⟨(qs_mem.mp hc).1, by
      rw [qb_1t (by omega)]
      exact decide_eq_false (fun e => by
        have h2 := (qs_mem.mp hc).2
        rw [e, hq0] at h2
        exact absurd h2 (by decide))⟩) n
    rw [qc_p1 hq, hlen] at h
    exact h
end
section
/-! ===== what a layout must meet ===== -/
noncomputable def qw_d (p : Prop) : Bool := @decide p (Classical.propDecidable p)
theorem qw_dt {p : Prop} : qw_d p = true ↔ p := @decide_eq_true_iff p (Classical.propDecidable p)
/-- the clues that touch U are met by F -/
noncomputable def qw_g (cl nr : Nat → Int32) (cv U F : Int32) : Bool := qw_d (∀ c, c < 20 → ¬ cl c = -1 → ¬ (nr c &&& cv &&& U) = 0 → cl c = nI (qc_p (nr c &&& F)))
/-- all clues are met by F -/
noncomputable def qw_a (cl nr : Nat → Int32) (F : Int32) : Bool := qw_d (∀ c, c < 20 → ¬ cl c = -1 → cl c = nI (qc_p (nr c &&& F)))
/-- clues without covered neighbours are 0 -/
noncomputable def qw_e (cl nr : Nat → Int32) (cv : Int32) : Bool := qw_d (∀ c, c < 20 → ¬ cl c = -1 → (nr c &&& cv) = 0 → cl c = 0)
def qw_q (U : Int32) (q : Nat) (F : Int32) : Bool := !qb_t U q || qb_t F q
def qw_cl (cl nr : Nat → Int32) (cv G : Int32) : Prop := ∀ c, c < 20 → ¬ cl c = -1 → ¬ (nr c &&& cv &&& G) = 0 → qb_le (nr c &&& cv) G
def qw_v (cl : Nat → Int32) : Prop := ∀ c, c < 20 → cl c = -1 ∨ ∃ k, k ≤ 8 ∧ cl c = nI k
theorem qw_cut {N F1 F2 : Int32} (h : ∀ i, qb_t N i = true → qb_t F2 i = false) : N &&& (F1 ||| F2) = N &&& F1 := by
  apply qb_ext
  intro i _
  rw [qb_and, qb_and, qb_or]
  cases hN : qb_t N i
  · rfl
  · rw [h i hN]; simp
theorem qw_dis {cl nr : Nat → Int32} {cv U G F2 : Int32} {c : Nat} (hc : c < 20) (hs : ¬ cl c = -1) (hU : qw_cl cl nr cv U) (hGc : qb_le G cv) (hd : ∀ i, qb_t U i = true → qb_t G i = false) (h2 : qb_le F2 G)
    (hne : ¬ (nr c &&& cv &&& U) = 0) : ∀ i, qb_t (nr c) i = true → qb_t F2 i = false := by
  intro i hi
  refine qb_nt (fun z => ?_)
  have h3 : qb_t G i = true := h2 i z
  have h4 : qb_t U i = true := hU c hc hs hne i (by rw [qb_and, hi, hGc i h3]; rfl)
  rw [hd i h4] at h3
  exact absurd h3 (by decide)
theorem qw_ornz {x u g : Int32} (h : ¬ (x &&& u) = 0) : ¬ (x &&& (u ||| g)) = 0 := by
  obtain ⟨i, hi⟩ := qb_nz h
  rw [qb_and] at hi
  apply qb_ne (i := i)
  rw [qb_and, qb_or]
  cases hx : qb_t x i
  · rw [hx] at hi; exact absurd hi (by simp)
  · rw [hx] at hi
    have : qb_t u i = true := by simpa using hi
    rw [this]; rfl
theorem qw_orz {x u g : Int32} (h : (x &&& u) = 0) (h' : (x &&& g) = 0) : (x &&& (u ||| g)) = 0 := by
  apply qb_and0.mpr
  intro i hi
  rw [qb_or, qb_and0.mp h i hi, qb_and0.mp h' i hi]; rfl
theorem qw_prod {cl nr : Nat → Int32} {cv U G F1 F2 : Int32} (hU : qw_cl cl nr cv U) (hG : qw_cl cl nr cv G) (hUc : qb_le U cv) (hGc : qb_le G cv) (hd : ∀ i, qb_t U i = true → qb_t G i = false)
    (h1 : qb_le F1 U) (h2 : qb_le F2 G) : qw_g cl nr cv (U ||| G) (F1 ||| F2) = (qw_g cl nr cv U F1 && qw_g cl nr cv G F2) := by
  have hd' : ∀ i, qb_t G i = true → qb_t U i = false := fun i hi => qb_nt (fun z => by rw [hd i z] at hi; exact absurd hi (by decide))
  rw [Bool.eq_iff_iff, Bool.and_eq_true]
  unfold qw_g
  rw [qw_dt, qw_dt, qw_dt]
  constructor
  · intro h
    constructor
    · intro c hc hs hne
      have := h c hc hs (qw_ornz hne)
      rw [qw_cut (qw_dis hc hs hU hGc hd h2 hne)] at this
      exact this
    · intro c hc hs hne
      have := h c hc hs (by rw [Int32.or_comm U G]; exact qw_ornz hne)
      rw [Int32.or_comm F1 F2, qw_cut (qw_dis hc hs hG hUc hd' h1 hne)] at this
      exact this
  · intro ⟨ha, hb⟩ c hc hs hne
    by_cases z : (nr c &&& cv &&& U) = 0
    · have z' : ¬ (nr c &&& cv &&& G) = 0 := fun e => hne (qw_orz z e)
      rw [Int32.or_comm F1 F2, qw_cut (qw_dis hc hs hG hUc hd' h1 z')]
      exact hb c hc hs z'
    · rw [qw_cut (qw_dis hc hs hU hGc hd h2 z)]
      exact ha c hc hs z
theorem qw_qprod {U G F1 F2 : Int32} (q : Nat) (hd : ∀ i, qb_t U i = true → qb_t G i = false) (h1 : qb_le F1 U) (h2 : qb_le F2 G) :
    qw_q (U ||| G) q (F1 ||| F2) = (qw_q U q F1 && qw_q G q F2) := by
  unfold qw_q
  rw [qb_or, qb_or]
  have a := hd q
  have b := h1 q
  have c := h2 q
  revert a b c
  cases qb_t U q <;> cases qb_t G q <;> cases qb_t F1 q <;> cases qb_t F2 q <;> simp
theorem qw_final {cl nr : Nat → Int32} {cv E F1 F2 : Int32} (hE : ∀ c, c < 20 → ¬ cl c = -1 → qb_le (nr c &&& cv) E) (hEc : qb_le E cv) (h1 : qb_le F1 E) (h2 : qb_le F2 cv) (h2' : ∀ i, qb_t F2 i = true → qb_t E i = false) :
    qw_a cl nr (F1 ||| F2) = (qw_e cl nr cv && qw_g cl nr cv E F1) := by
  have hcut : ∀ c, c < 20 → ¬ cl c = -1 → nr c &&& (F1 ||| F2) = nr c &&& F1 := by
    intro c hc hs
    apply qw_cut
    intro i hi
    refine qb_nt (fun z => ?_)
    have := hE c hc hs i (by rw [qb_and, hi, h2 i z]; rfl)
    rw [h2' i z] at this
    exact absurd this (by decide)
  have hz : ∀ c, c < 20 → (nr c &&& cv) = 0 → nr c &&& F1 = 0 := by
    intro c hc hn
    apply qb_and0.mpr
    intro i hi
    refine qb_nt (fun z => ?_)
    have := qb_and0.mp hn i hi
    rw [hEc i (h1 i z)] at this
    exact absurd this (by decide)
  rw [Bool.eq_iff_iff, Bool.and_eq_true]
  unfold qw_a qw_e qw_g
  rw [qw_dt, qw_dt, qw_dt]
  constructor
  · intro h
    constructor
    · intro c hc hs hn
      have := h c hc hs
      rw [hcut c hc hs, hz c hc hn, qc_p0, nI_0] at this
      exact this
    · intro c hc hs _
      have := h c hc hs
      rw [hcut c hc hs] at this
      exact this
  · intro ⟨ha, hb⟩ c hc hs
    rw [hcut c hc hs]
    by_cases z : (nr c &&& cv) = 0
    · rw [hz c hc z, qc_p0, nI_0]
      exact ha c hc hs z
    · apply hb c hc hs
      rw [qb_andle (hE c hc hs)]
      exact z
/-! ===== the search, cell after cell ===== -/
noncomputable def qw_st (cl nr : Nat → Int32) (c : Nat) (M O : Int32) : Bool := qw_d (∀ d, d < 20 → ¬ cl d = -1 → qb_t (nr d) c = true → ¬ cl d < nI (qc_p (nr d &&& M)) ∧ ¬ nI (qc_p (nr d &&& M)) + nI (qc_p (nr d &&& O)) < cl d)
def qw_m : List Nat → Int32
  | [] => 0
  | c :: l => qb_1 c ||| qw_m l
theorem qw_mt : ∀ {l : List Nat}, (∀ c, c ∈ l → c < 32) → ∀ i, qb_t (qw_m l) i = true ↔ i ∈ l
  | [], _, i => by
    show qb_t 0 i = true ↔ _
    rw [qb_0]; simp
  | c :: l, h, i => by
    show qb_t (qb_1 c ||| qw_m l) i = true ↔ _
    rw [qb_or, Bool.or_eq_true, qw_mt (fun d hd => h d (List.mem_cons_of_mem c hd)) i, qb_1t (h c List.mem_cons_self), decide_eq_true_iff, List.mem_cons]
noncomputable def qw_V (cl nr : Nat → Int32) : List Nat → (Int32 → Nat) → Int32 → Nat
  | [], f, M => f M
  | c :: l, f, M => (if qw_st cl nr c M (qw_m l) then qw_V cl nr l f M else 0) + (if qw_st cl nr c (M ||| qb_1 c) (qw_m l) then qw_V cl nr l f (M ||| qb_1 c) else 0)
theorem qc_porle (x y : Int32) : qc_p (x ||| y) ≤ qc_p x + qc_p y := by
  have h : qc_p (x ||| y) = qc_p x + qc_p (y &&& (x ^^^ (-1))) := by
    apply qc_add
    intro i _
    rw [qb_or, qb_andn]
    cases qb_t x i <;> cases qb_t y i <;> rfl
  have h2 : qc_p (y &&& (x ^^^ (-1))) ≤ qc_p y := qc_pmono (fun i hi => by
    rw [qb_and] at hi
    cases hy : qb_t y i
    · rw [hy] at hi; exact absurd hi (by simp)
    · rfl)
  omega
def qw_Q (cl nr : Nat → Int32) (cv G : Int32) (l : List Nat) (M : Int32) : Prop := ∀ d, d < 20 → ¬ cl d = -1 → ¬ (nr d &&& cv &&& G) = 0 → nr d &&& qw_m l = 0 → cl d = nI (qc_p (nr d &&& M))
theorem qw_step {cl nr : Nat → Int32} {cv G : Int32} (hv : qw_v cl) (hG : qb_le G cv) {f : Int32 → Nat} {c : Nat} {l : List Nat} (hc : c < 20) (hcG : qb_t G c = true) (hl : ∀ d, d ∈ l → d < 32)
    {M M' : Int32} (hQ : qw_Q cl nr cv G (c :: l) M) (hM : ∀ d, d < 20 → qb_t (nr d) c = false → nr d &&& M' = nr d &&& M)
    (ih : qw_Q cl nr cv G l M' → qw_V cl nr l f M' = qs_s l (fun F => if qw_g cl nr cv G F then f F else 0) M') :
    (if qw_st cl nr c M' (qw_m l) then qw_V cl nr l f M' else 0) = qs_s l (fun F => if qw_g cl nr cv G F then f F else 0) M' := by
  by_cases hst : qw_st cl nr c M' (qw_m l) = true
  · rw [if_pos hst]
    apply ih
    intro d hd hs hne hz
    unfold qw_st at hst
    rw [qw_dt] at hst
    cases hb : qb_t (nr d) c
    · rw [hM d hd hb]
      apply hQ d hd hs hne
      show nr d &&& (qb_1 c ||| qw_m l) = 0
      apply qw_orz _ hz
      apply qb_and0.mpr
      intro i hi
      rw [qb_1t (by omega)]
      exact decide_eq_false (fun e => by rw [e, hb] at hi; exact absurd hi (by decide))
    · obtain ⟨h1, h2⟩ := hst d hd hs hb
      rw [hz, qc_p0] at h2
      rcases hv d hd with e | ⟨k, hk, e⟩
      · exact absurd e hs
      · have hp := qc_ple (nr d &&& M')
        rw [e] at h1 h2 ⊢
        rw [nI_add] at h2
        rw [nI_ltI (by omega) (by omega)] at h1 h2
        rw [nI_eq (by omega) (by omega)]
        omega
  · rw [if_neg hst]
    symm
    apply qs_none hl
    intro F hF
    have : ¬ qw_g cl nr cv G F = true := by
      intro hg
      apply hst
      unfold qw_st
      rw [qw_dt]
      unfold qw_g at hg
      rw [qw_dt] at hg
      intro d hd hs hb
      have hcv : qb_t cv c = true := hG c hcG
      have e := hg d hd hs (qb_ne (i := c) (by rw [qb_and, qb_and, hb, hcv, hcG]; rfl))
      have hle1 : qc_p (nr d &&& M') ≤ qc_p (nr d &&& F) := qc_pmono (fun i hi => by
        rw [qb_and, Bool.and_eq_true] at hi
        rw [qb_and, hi.1, hF.1 i hi.2]; rfl)
      have hle2 : qc_p (nr d &&& F) ≤ qc_p (nr d &&& M') + qc_p (nr d &&& qw_m l) := by
        refine Nat.le_trans (qc_pmono (y := (nr d &&& M') ||| (nr d &&& qw_m l)) (fun i hi => ?_)) (qc_porle _ _)
        rw [qb_and, Bool.and_eq_true] at hi
        rw [qb_or, qb_and, qb_and, hi.1]
        rcases hF.2 i hi.2 with z | z
        · rw [z]; rfl
        · rw [(qw_mt hl i).mpr z]; simp
      have hp := qc_ple (nr d &&& M')
      have hp2 := qc_ple (nr d &&& F)
      have hp3 := qc_ple (nr d &&& qw_m l)
      rw [e, nI_add, nI_ltI (by omega) (by omega), nI_ltI (by omega) (by omega)]
      omega
    rw [if_neg this]
theorem qw_Veq {cl nr : Nat → Int32} {cv G : Int32} (hv : qw_v cl) (hG : qb_le G cv) (f : Int32 → Nat) : ∀ (l : List Nat) (M : Int32), (∀ c, c ∈ l → c < 20 ∧ qb_t G c = true) → qw_Q cl nr cv G l M →
    qw_V cl nr l f M = qs_s l (fun F => if qw_g cl nr cv G F then f F else 0) M
  | [], M, _, hQ => by
    show f M = if qw_g cl nr cv G M then f M else 0
    rw [if_pos]
    unfold qw_g
    rw [qw_dt]
    intro c hc hs hne
    exact hQ c hc hs hne (by show nr c &&& 0 = 0; rw [Int32.and_zero])
  | c :: l, M, hl, hQ => by
    have hc := hl c List.mem_cons_self
    have hl' : ∀ d, d ∈ l → d < 20 ∧ qb_t G d = true := fun d hd => hl d (List.mem_cons_of_mem c hd)
    have hl32 : ∀ d, d ∈ l → d < 32 := fun d hd => by have := (hl' d hd).1; omega
    show _ + _ = _ + _
    rw [qw_step hv hG hc.1 hc.2 hl32 hQ (fun d _ _ => rfl) (fun h => qw_Veq hv hG f l M hl' h),
      qw_step hv hG hc.1 hc.2 hl32 hQ (fun d _ hb => qw_cut (fun i hi => by
        rw [qb_1t (by omega)]
        exact decide_eq_false (fun e => by rw [e, hb] at hi; exact absurd hi (by decide)))) (fun h => qw_Veq hv hG f l (M ||| qb_1 c) hl' h)]
theorem qw_Vall {cl nr : Nat → Int32} {cv G : Int32} (hv : qw_v cl) (hG : qb_le G cv) (hs : qb_s G) (f : Int32 → Nat) :
    qw_V cl nr (qs_c G) f 0 = qs_s (qs_c G) (fun F => if qw_g cl nr cv G F then f F else 0) 0 := by
  apply qw_Veq hv hG f _ _ (fun c hc => qs_mem.mp hc)
  intro d hd hsh hne hz
  exfalso
  apply hne
  apply qb_and0.mpr
  intro i hi
  refine qb_nt (fun z => ?_)
  rw [qb_and, Bool.and_eq_true] at hi
  have := qb_and0.mp hz i hi.1
  rw [(qw_mt (qs_c32 G) i).mpr (qs_mem.mpr ⟨qb_slt hs z, z⟩)] at this
  exact absurd this (by decide)
theorem qw_VP {cl nr : Nat → Int32} {cv G : Int32} (hv : qw_v cl) (hG : qb_le G cv) (hs : qb_s G) (n : Nat) (h : Int32 → Bool) :
    qw_V cl nr (qs_c G) (fun F => if qc_p F = n then (h F).toNat else 0) 0 = qs_P (qs_c G) (fun F => (qw_g cl nr cv G F && h F).toNat) n := by
  rw [qw_Vall hv hG hs]
  unfold qs_P
  apply congrArg (fun f => qs_s (qs_c G) f 0)
  funext F
  dsimp only
  cases qw_g cl nr cv G F <;> simp
/-! ===== the groups together ===== -/
def qw_U (G : Nat → Int32) : Nat → Int32
  | 0 => 0
  | g + 1 => qw_U G g ||| G g
def qw_E (cl nr : Nat → Int32) (cv : Int32) : Nat → Int32
  | 0 => 0
  | c + 1 => if cl c = -1 then qw_E cl nr cv c else qw_E cl nr cv c ||| (nr c &&& cv)
def qw_ok (cl nr : Nat → Int32) (cv : Int32) (G : Nat → Int32) (m : Nat) : Prop :=
  m ≤ 20 ∧ (∀ g, g < m → ¬ G g = 0 ∧ qb_le (G g) cv ∧ qw_cl cl nr cv (G g) ∧ (∀ i, qb_t (qw_U G g) i = true → qb_t (G g) i = false)) ∧ qw_U G m = qw_E cl nr cv 20
theorem qw_Ele (cl nr : Nat → Int32) (cv : Int32) : ∀ n, qb_le (qw_E cl nr cv n) cv
  | 0, i, hi => by
    have hi' : qb_t 0 i = true := hi
    rw [qb_0] at hi'; exact absurd hi' (by decide)
  | n + 1, i, hi => by
    have hi' : qb_t (if cl n = -1 then qw_E cl nr cv n else qw_E cl nr cv n ||| (nr n &&& cv)) i = true := hi
    by_cases e : cl n = -1
    · rw [if_pos e] at hi'; exact qw_Ele cl nr cv n i hi'
    · rw [if_neg e, qb_or, Bool.or_eq_true, qb_and, Bool.and_eq_true] at hi'
      rcases hi' with z | z
      · exact qw_Ele cl nr cv n i z
      · exact z.2
theorem qw_Ein (cl nr : Nat → Int32) (cv : Int32) : ∀ n c, c < n → ¬ cl c = -1 → qb_le (nr c &&& cv) (qw_E cl nr cv n)
  | 0, c, hc, _ => absurd hc (by omega)
  | n + 1, c, hc, hs => by
    intro i hi
    show qb_t (if cl n = -1 then qw_E cl nr cv n else qw_E cl nr cv n ||| (nr n &&& cv)) i = true
    by_cases e : c = n
    · subst e
      rw [if_neg hs, qb_or, hi]; simp
    · have h := qw_Ein cl nr cv n c (by omega) hs i hi
      by_cases e2 : cl n = -1
      · rw [if_pos e2]; exact h
      · rw [if_neg e2, qb_or, h]; rfl
theorem qw_Ule {cl nr : Nat → Int32} {cv : Int32} {G : Nat → Int32} {m : Nat} (h : qw_ok cl nr cv G m) : ∀ g, g ≤ m → qb_le (qw_U G g) cv ∧ qw_cl cl nr cv (qw_U G g)
  | 0, _ => ⟨fun i hi => by
      have hi' : qb_t 0 i = true := hi
      rw [qb_0] at hi'; exact absurd hi' (by decide), fun c _ _ hne => absurd (show nr c &&& cv &&& 0 = 0 by rw [Int32.and_zero]) hne⟩
  | g + 1, hg => by
    obtain ⟨a, b⟩ := qw_Ule h g (by omega)
    obtain ⟨_, c, d, _⟩ := h.2.1 g (by omega)
    constructor
    · intro i hi
      have hi' : qb_t (qw_U G g ||| G g) i = true := hi
      rw [qb_or, Bool.or_eq_true] at hi'
      exact hi'.elim (a i) (c i)
    · intro k hk hs hne i hi
      show qb_t (qw_U G g ||| G g) i = true
      rw [qb_or, Bool.or_eq_true]
      by_cases z : nr k &&& cv &&& qw_U G g = 0
      · exact Or.inr (d k hk hs (fun e => hne (qw_orz z e)) i hi)
      · exact Or.inl (b k hk hs z i hi)
/-- the ways of the first groups -/
noncomputable def qw_w (cl nr : Nat → Int32) (cv : Int32) (q : Nat) (U F : Int32) : Nat := (qw_g cl nr cv U F && qw_q U q F).toNat
noncomputable def qw_A (cl nr : Nat → Int32) (cv : Int32) (q : Nat) (U : Int32) (n : Nat) : Nat := (qw_e cl nr cv).toNat * qs_P (qs_c U) (qw_w cl nr cv q U) n
/-- the numbers of all layouts by their mines -/
noncomputable def qw_T (cl nr : Nat → Int32) (cv : Int32) (q n : Nat) : Nat := qs_P (qs_c cv) (fun F => (qw_a cl nr F && qw_q cv q F).toNat) n
def qw_cv (A B : Nat → Nat) (n : Nat) : Nat := qr_s (fun a => A a * B (n - a)) (n + 1)
theorem qs_c0 : qs_c 0 = [] := by
  apply List.eq_nil_iff_forall_not_mem.mpr
  intro i hi
  have := (qs_mem.mp hi).2
  rw [qb_0] at this
  exact absurd this (by decide)
theorem qw_A0 (cl nr : Nat → Int32) (cv : Int32) (q n : Nat) : qw_A cl nr cv q 0 n = if n = 0 then (qw_e cl nr cv).toNat else 0 := by
  unfold qw_A
  rw [qs_c0]
  have e : qs_P [] (qw_w cl nr cv q 0) n = if n = 0 then 1 else 0 := by
    show (if qc_p 0 = n then qw_w cl nr cv q 0 0 else 0) = _
    have : qw_w cl nr cv q 0 0 = 1 := by
      have hg : qw_g cl nr cv 0 0 = true := by
        unfold qw_g
        rw [qw_dt]
        exact fun c _ _ hne => absurd (show nr c &&& cv &&& 0 = 0 by rw [Int32.and_zero]) hne
      unfold qw_w qw_q
      rw [hg, qb_0]; rfl
    rw [this, qc_p0]
    by_cases z : n = 0
    · rw [if_pos z, if_pos z.symm]
    · rw [if_neg z, if_neg (fun e => z e.symm)]
  rw [e]
  by_cases z : n = 0
  · rw [if_pos z, if_pos z, Nat.mul_one]
  · rw [if_neg z, if_neg z, Nat.mul_zero]
theorem qb_band (a b : Bool) : (a && b).toNat = a.toNat * b.toNat := by cases a <;> cases b <;> rfl
theorem qw_cvmul (k : Nat) (A B : Nat → Nat) (n : Nat) : k * qw_cv A B n = qw_cv (fun a => k * A a) B n := by
  unfold qw_cv
  rw [← qr_mul]
  apply qr_congr
  intro i _
  exact (Nat.mul_assoc _ _ _).symm
theorem qw_A1 {cl nr : Nat → Int32} {cv : Int32} (q : Nat) {G : Nat → Int32} {m : Nat} (h : qw_ok cl nr cv G m) {g : Nat} (hg : g < m) (n : Nat) :
    qw_A cl nr cv q (qw_U G (g + 1)) n = qw_cv (qw_A cl nr cv q (qw_U G g)) (qs_P (qs_c (G g)) (qw_w cl nr cv q (G g))) n := by
  obtain ⟨a, b⟩ := qw_Ule h g (by omega)
  obtain ⟨_, c, d, e⟩ := h.2.1 g hg
  have key : qs_P (qs_c (qw_U G g ||| G g)) (qw_w cl nr cv q (qw_U G g ||| G g)) n = qw_cv (qs_P (qs_c (qw_U G g)) (qw_w cl nr cv q (qw_U G g))) (qs_P (qs_c (G g)) (qw_w cl nr cv q (G g))) n := by
    unfold qs_P
    rw [← qs_perm _ (qs_cperm e)]
    apply qs_conv (qs_c32 _) (qs_c32 _)
    intro F1 F2 h1 h2
    obtain ⟨k1, _⟩ := qs_cin h1
    obtain ⟨k2, _⟩ := qs_cin h2
    constructor
    · unfold qw_w
      rw [qw_prod b d a c e k1 k2, qw_qprod q e k1 k2, qb_band, qb_band, qb_band, qb_band, qb_band]
      simp only [Nat.mul_assoc, Nat.mul_comm, Nat.mul_left_comm]
    · apply qc_por
      intro i hi
      exact qb_nt (fun z => by have := e i (k1 i hi); rw [k2 i z] at this; exact absurd this (by decide))
  show (qw_e cl nr cv).toNat * qs_P (qs_c (qw_U G g ||| G g)) (qw_w cl nr cv q (qw_U G g ||| G g)) n = _
  rw [key, qw_cvmul]
  rfl
theorem qw_T1 {cl nr : Nat → Int32} {cv : Int32} (q : Nat) {G : Nat → Int32} {m : Nat} (h : qw_ok cl nr cv G m) (n : Nat) :
    qw_T cl nr cv q n = qw_cv (qw_A cl nr cv q (qw_U G m)) (qs_P (qs_c (cv &&& (qw_E cl nr cv 20 ^^^ (-1)))) (fun F => (qw_q (cv &&& (qw_E cl nr cv 20 ^^^ (-1))) q F).toNat)) n := by
  have hE := qw_Ele cl nr cv 20
  have hR : ∀ i, qb_t (cv &&& (qw_E cl nr cv 20 ^^^ (-1))) i = (qb_t cv i && !qb_t (qw_E cl nr cv 20) i) := fun i => qb_andn _ _ i
  have hcv : cv = qw_E cl nr cv 20 ||| (cv &&& (qw_E cl nr cv 20 ^^^ (-1))) := by
    apply qb_ext
    intro i _
    rw [qb_or, hR]
    have := hE i
    revert this
    cases qb_t cv i <;> cases qb_t (qw_E cl nr cv 20) i <;> simp
  have hd : ∀ i, qb_t (qw_E cl nr cv 20) i = true → qb_t (cv &&& (qw_E cl nr cv 20 ^^^ (-1))) i = false := fun i hi => by rw [hR, hi]; simp
  rw [h.2.2]
  generalize hRR : cv &&& (qw_E cl nr cv 20 ^^^ (-1)) = R at *
  have key : qs_P (qs_c cv) (fun F => (qw_a cl nr F && qw_q cv q F).toNat) n
      = qw_cv (qs_P (qs_c (qw_E cl nr cv 20)) (fun F => (qw_e cl nr cv).toNat * qw_w cl nr cv q (qw_E cl nr cv 20) F)) (qs_P (qs_c R) (fun F => (qw_q R q F).toNat)) n := by
    have hperm : List.Perm (qs_c (qw_E cl nr cv 20) ++ qs_c R) (qs_c cv) := by
      have := qs_cperm hd
      rw [← hcv] at this
      exact this
    have : qs_P (qs_c cv) (fun F => (qw_a cl nr F && qw_q cv q F).toNat) n = qs_P (qs_c (qw_E cl nr cv 20) ++ qs_c R) (fun F => (qw_a cl nr F && qw_q cv q F).toNat) n := by
      unfold qs_P
      rw [qs_perm _ hperm]
    rw [this]
    apply qs_conv (qs_c32 _) (qs_c32 _)
    intro F1 F2 h1 h2
    obtain ⟨k1, _⟩ := qs_cin h1
    obtain ⟨k2, _⟩ := qs_cin h2
    have k2' : ∀ i, qb_t F2 i = true → qb_t (qw_E cl nr cv 20) i = false := fun i hi => qb_nt (fun z => by have := hd i z; rw [k2 i hi] at this; exact absurd this (by decide))
    constructor
    · have e1 := qw_final (cl := cl) (nr := nr) (cv := cv) (F1 := F1) (F2 := F2) (fun c hc hs => qw_Ein cl nr cv 20 c hc hs) hE k1 (fun i hi => by have := k2 i hi; rw [hR, Bool.and_eq_true] at this; exact this.1) k2'
      have e2 : qw_q cv q (F1 ||| F2) = (qw_q (qw_E cl nr cv 20) q F1 && qw_q R q F2) := by
        have := qw_qprod q hd k1 k2
        rw [← hcv] at this
        exact this
      rw [e1, e2]
      unfold qw_w
      rw [qb_band, qb_band, qb_band, qb_band]
      simp only [Nat.mul_assoc, Nat.mul_comm, Nat.mul_left_comm]
    · apply qc_por
      intro i hi
      exact qb_nt (fun z => by have := k2' i z; rw [k1 i hi] at this; exact absurd this (by decide))
  unfold qw_T
  rw [key]
  have e3 : qs_P (qs_c (qw_E cl nr cv 20)) (fun F => (qw_e cl nr cv).toNat * qw_w cl nr cv q (qw_E cl nr cv 20) F) = qw_A cl nr cv q (qw_E cl nr cv 20) := by
    funext k
    unfold qw_A qs_P
    rw [← qs_mul]
    apply congrArg (fun f => qs_s _ f 0)
    funext F
    by_cases z : qc_p F = k
    · rw [if_pos z, if_pos z]
    · rw [if_neg z, if_neg z, Nat.mul_zero]
  rw [e3]
end
section
/-! ===== the small methods ===== -/
theorem qx_bits {post : Int32 → Prop} {wn cv gc rs ce mi dm df cs : Int32} {a1 a2 a3 a4 a5 a6 a7 a8 a9 a10 : Nat → Int32} {x : Int32} (hx : qb_s x) (H : post (nI (qc_p x))) : wpX_bitsOf post (wn, cv, gc, rs, ce, mi, dm, df, cs, a1, a2, a3, a4, a5, a6, a7, a8, a9, a10) x := by
  refine pk_loop (σ := Int32) (fun n i s => wX_bitsOf_7 post wn cv gc rs ce mi dm df cs a1 a2 a3 a4 a5 a6 a7 a8 a9 a10 n (nI i) s (nI i)) (fun i s => qb_s s ∧ qc_p s + i = qc_p x) 20 0 x (by omega) ⟨hx, rfl⟩ ?_ ?_
  · intro n s ⟨h1, h2⟩
    have := qc_ple x
    have e : qc_p x = 20 := by omega
    rw [e] at H
    exact pk_le 20 20 (fun _ => H) (fun z => absurd z (by omega))
  · intro n i s hi ⟨h1, h2⟩ hw
    refine pk_le 20 i (fun z => absurd z (by omega)) (fun _ => br_c (fun e => ?_) (fun e => nm_e (nm_r (nI_1 i) (nm_r (nI_1 i) (hw _ ⟨qb_sand _ h1, ?_⟩)))))
    · rw [e, qc_p0] at h2
      rw [show qc_p x = i by omega] at H
      exact H
    · have := qc_plow h1 e
      omega
theorem qx_has {post : Int32 → Prop} {wn cv gc rs ce mi dm df cs : Int32} {a1 a2 a3 a4 a5 a6 a7 a8 a9 a10 : Nat → Int32} {x : Int32} {c : Nat} (hc : c < 32) (H1 : qb_t x c = true → post 1) (H0 : qb_t x c = false → post 0) : wpX_has post (wn, cv, gc, rs, ce, mi, dm, df, cs, a1, a2, a3, a4, a5, a6, a7, a8, a9, a10) x (nI c) :=
  br_c (fun h => H1 ((qb_has x hc).mp h)) (fun h => H0 (qb_nt (fun z => h ((qb_has x hc).mpr z))))
theorem qx_bad {post : Int32 → Prop} {wn cv gc rs ce mi dm df cs : Int32} {a1 a2 a3 a4 a5 a6 a7 a8 a9 a10 : Nat → Int32} {c : Nat} (hc : c < 20) (H : post 0) : wpX_badCell post (wn, cv, gc, rs, ce, mi, dm, df, cs, a1, a2, a3, a4, a5, a6, a7, a8, a9, a10) (nI c) :=
  br_f (nI_pos (by omega)) (br_t (nI_lt (b := 20) hc (by decide)) H)
/-! ===== neighbours ===== -/
def qx_nb (c d : Nat) : Bool := decide (¬ (nI c / 5) - (nI d / 5) < (-1) ∧ ¬ 1 < (nI c / 5) - (nI d / 5) ∧ ¬ (nI c - nI c / 5 * 5) - (nI d - nI d / 5 * 5) < (-1) ∧ ¬ 1 < (nI c - nI c / 5 * 5) - (nI d - nI d / 5 * 5) ∧ ¬ nI c = nI d)
theorem qx_nb8 : ∀ c, c < 20 → qc_n (qx_nb c) 20 ≤ 8 := by decide +kernel
theorem qx_setbit {x : Int32} {d : Nat} (hd : d < 32) (j : Nat) : qb_t (x ||| qb_1 d) j = (qb_t x j || decide (j = d)) := by rw [qb_or, qb_1t hd]
theorem qx_neigh {post : Int32 → Prop} {wn cv gc rs ce mi dm df cs : Int32} {a1 a2 a3 a4 a5 a6 a7 a8 a9 a10 : Nat → Int32} {c : Nat} (hc : c < 20) (H : ∀ r, qb_s r → qc_p r ≤ 8 → post r) : wpX_neighboursOf post (wn, cv, gc, rs, ce, mi, dm, df, cs, a1, a2, a3, a4, a5, a6, a7, a8, a9, a10) (nI c) := by
  refine pk_loop (σ := Int32) (fun n i s => wX_neighboursOf_4 post (nI c) wn cv gc rs ce mi dm df cs a1 a2 a3 a4 a5 a6 a7 a8 a9 a10 n s (nI i)) (fun i s => ∀ j, qb_t s j = (decide (j < i) && qx_nb c j)) 20 0 0 (by omega) (fun j => by rw [qb_0]; simp) ?_ ?_
  · intro n s h
    refine pk_le 20 20 (fun _ => H s (fun i hi => ?_) ?_) (fun z => absurd z (by omega))
    · rw [h i, decide_eq_false (by omega)]; rfl
    · have : qc_p s = qc_n (qx_nb c) 20 := qc_congr (fun i hi => by rw [h i, decide_eq_true hi]; rfl)
      rw [this]; exact qx_nb8 c hc
  · intro n i s hi h hw
    have h5 : ¬ (5 : Int32) = 0 := by decide
    have hf : qx_nb c i = false → wX_neighboursOf_4 post (nI c) wn cv gc rs ce mi dm df cs a1 a2 a3 a4 a5 a6 a7 a8 a9 a10 n s (nI (i + 1)) := fun e => hw s (fun j => by
      rw [h j]
      by_cases z : j = i
      · subst z; rw [e]; simp
      · rw [show decide (j < i + 1) = decide (j < i) from decide_eq_decide.mpr (by omega)])
    have ht : qx_nb c i = true → wX_neighboursOf_4 post (nI c) wn cv gc rs ce mi dm df cs a1 a2 a3 a4 a5 a6 a7 a8 a9 a10 n (s ||| qb_1 i) (nI (i + 1)) := fun e => hw _ (fun j => by
      rw [qx_setbit (by omega), h j]
      by_cases z : j = i
      · subst z; rw [e]; simp
      · rw [show decide (j < i + 1) = decide (j < i) from decide_eq_decide.mpr (by omega)]; simp [z])
    have hf' : qx_nb c i = false → wX_neighboursOf_61 post (wX_neighboursOf_4 post (nI c) wn cv gc rs ce mi dm df cs a1 a2 a3 a4 a5 a6 a7 a8 a9 a10 n) (nI c) s (nI i) wn cv gc rs ce mi dm df cs a1 a2 a3 a4 a5 a6 a7 a8 a9 a10 := fun e => br_t rfl (nm_r (nI_1 i) (hf e))
    refine pk_le 20 i (fun z => absurd z (by omega)) (fun _ => ⟨h5, h5, nm_e ⟨h5, h5, nm_e ?_⟩⟩)
    refine br_c (fun e => hf' (decide_eq_false (fun z => z.1 e))) (fun e1 => ?_)
    refine br_c (fun e => hf' (decide_eq_false (fun z => z.2.1 e))) (fun e2 => ?_)
    refine br_c (fun e => hf' (decide_eq_false (fun z => z.2.2.1 e))) (fun e3 => ?_)
    refine br_c (fun e => hf' (decide_eq_false (fun z => z.2.2.2.1 e))) (fun e4 => ?_)
    refine br_c (fun e => hf' (decide_eq_false (fun z => z.2.2.2.2 e))) (fun e5 => ?_)
    exact br_f (show ¬ (1 : Int32) = 0 by decide) (nm_e (nm_r (nI_1 i) (ht (decide_eq_true ⟨e1, e2, e3, e4, e5⟩))))
/-! ===== the object made ===== -/
def qx_cov (cl : Nat → Int32) (cv : Int32) : Prop := qb_s cv ∧ ∀ i, i < 20 → (qb_t cv i = true ↔ cl i = -1)
def qx_nr (nr : Nat → Int32) : Prop := ∀ c, c < 20 → qb_s (nr c) ∧ qc_p (nr c) ≤ 8
def qx_ch (ch : Nat → Int32) : Prop := ∀ n k, n ≤ 20 → k ≤ 20 → ch (21 * n + k) = nI (qs_b n k)
theorem qx_covU {cl : Nat → Int32} {cv cv' : Int32} (h : qx_cov cl cv) (h' : qx_cov cl cv') : cv = cv' := by
  apply qb_ext
  intro i _
  rcases Nat.lt_or_ge i 20 with z | z
  · rw [Bool.eq_iff_iff, h.2 i z, h'.2 i z]
  · rw [h.1 i z, h'.1 i z]
theorem qx_init150 {post : St1 → Prop} {mc ms : Nat} {J : Int32 → (Nat → Int32) → (Nat → Int32) → (Nat → Int32) → (Nat → Int32) → (Nat → Int32) → (Nat → Int32) → (Nat → Int32) → (Nat → Int32) → (Nat → Int32) → (Nat → Int32) → Prop} {kc ks : Nat} {wn cv gc rs ce mi dm df cs : Int32} {a1 a2 a3 a4 a5 a6 a7 a8 a9 a10 : Nat → Int32} {x : Nat} (hx : x ≤ 20)
    (h0 : ∀ n k, n < x → k ≤ 20 → a8 (21 * n + k) = nI (qs_b n k)) (h1 : a8 (21 * x) = 1) (hz : ∀ j, 21 * x < j → a8 j = 0)
    (H : ∀ a8', (∀ n k, n < x + 1 → k ≤ 20 → a8' (21 * n + k) = nI (qs_b n k)) → (∀ j, 21 * (x + 1) ≤ j → a8' j = 0) → J (nI (x + 1)) a1 a2 a3 a4 a5 a6 a7 a8' a9 a10) :
    ∃ fu, wX_init_150 post mc ms J (nI x) kc ks wn cv gc rs ce mi dm df cs fu 1 a1 a2 a3 a4 a5 a6 a7 a8 a9 a10 := by
  refine pk_loop (σ := Nat → Int32) (fun n i s => wX_init_150 post mc ms J (nI x) kc ks wn cv gc rs ce mi dm df cs n (nI i) a1 a2 a3 a4 a5 a6 a7 s a9 a10)
    (fun i s => 1 ≤ i ∧ (∀ n k, n < x → k ≤ 20 → s (21 * n + k) = nI (qs_b n k)) ∧ (∀ k, k < i → s (21 * x + k) = nI (qs_b x k)) ∧ (∀ j, 21 * x + i ≤ j → s j = 0)) (x + 1) 1 a8 (by omega)
    ⟨Nat.le_refl 1, h0, fun k hk => by rw [show k = 0 by omega, qs_b0]; exact h1, fun j hj => hz j (by omega)⟩ ?_ ?_
  · intro n s ⟨_, g0, g1, g2⟩
    refine pk_lt x (x + 1) (fun _ => nm_r (nI_1 x) (H s (fun n k hn hk => ?_) (fun j hj => ?_))) (fun z => absurd z (by omega))
    · by_cases e : n = x
      · subst e
        by_cases e2 : k < n + 1
        · exact g1 k e2
        · rw [qs_bz (by omega)]
          exact g2 _ (by omega)
      · exact g0 n k (by omega) hk
    · exact g2 j (by omega)
  · intro n i s hi ⟨gi, g0, g1, g2⟩ hw
    obtain ⟨y, rfl⟩ : ∃ y, x = y + 1 := ⟨x - 1, by omega⟩
    have ex : nI (y + 1) - 1 = nI y := nI_pred y
    have e2 : (21 * (nI (y + 1) - 1)) + nI i = nI (21 * y + i) := by rw [ex, show (21 : Int32) = nI 21 from rfl, pk_mul, nI_add]
    have e1 : ((21 * (nI (y + 1) - 1)) + nI i) - 1 = nI (21 * y + (i - 1)) := by rw [e2, show 21 * y + i = (21 * y + (i - 1)) + 1 by omega, nI_pred]
    have e3 : (21 * nI (y + 1)) + nI i = nI (21 * (y + 1) + i) := by rw [show (21 : Int32) = nI 21 from rfl, pk_mul, nI_add]
    refine pk_lt (y + 1) i (fun z => absurd z (by omega)) (fun _ => ⟨pk_in _ 441 (by omega) e1, pk_in _ 441 (by omega) e2, pk_in _ 441 (by omega) e3, nm_r (e' := upd s (21 * (y + 1) + i) (nI (qs_b (y + 1) i))) ?_ (nm_r (nI_1 i) (hw _ ⟨by omega, ?_, ?_, ?_⟩))⟩)
    · rw [pk_cl _ e1, pk_cl _ e2, pk_cl _ e3, g0 y (i - 1) (by omega) (by omega), g0 y i (by omega) (by omega), nI_add]
      obtain ⟨k, rfl⟩ : ∃ k, i = k + 1 := ⟨i - 1, by omega⟩
      rfl
    · intro n k hn hk
      rw [pk_un (by omega)]; exact g0 n k hn hk
    · intro k hk
      by_cases e : k = i
      · subst e; exact pk_us
      · rw [pk_un (by omega)]; exact g1 k (by omega)
    · intro j hj
      rw [pk_un (by omega)]; exact g2 j (by omega)
theorem qx_init132 {post : St1 → Prop} {mc ms : Nat} {kc ks : Nat} {wn cv gc rs ce mi dm df cs : Int32} {a1 a2 a3 a4 a5 a6 a7 a8 a9 a10 : Nat → Int32} (hz : ∀ j, a8 j = 0) (H : ∀ a8', qx_ch a8' → post (wn, cv, gc, rs, ce, mi, dm, df, cs, a1, a2, a3, a4, a5, a6, a7, a8', a9, a10)) : ∃ fu, wX_init_132 post mc ms kc ks wn cv gc rs ce mi dm df cs fu 0 a1 a2 a3 a4 a5 a6 a7 a8 a9 a10 := by
  refine pk_loop (σ := Nat → Int32) (fun n i s => wX_init_132 post mc ms kc ks wn cv gc rs ce mi dm df cs n (nI i) a1 a2 a3 a4 a5 a6 a7 s a9 a10)
    (fun i s => (∀ n k, n < i → k ≤ 20 → s (21 * n + k) = nI (qs_b n k)) ∧ (∀ j, 21 * i ≤ j → s j = 0)) 21 0 a8 (by omega) ⟨fun n k hn => absurd hn (by omega), fun j _ => hz j⟩ ?_ ?_
  · intro n s ⟨g0, _⟩
    exact pk_le 21 21 (fun _ => H s (fun n k hn hk => g0 n k (by omega) hk)) (fun z => absurd z (by omega))
  · intro n i s hi ⟨g0, g1⟩ hw
    have e : 21 * nI i = nI (21 * i) := by rw [show (21 : Int32) = nI 21 from rfl, pk_mul]
    refine pk_le 21 i (fun z => absurd z (by omega)) (fun _ => ⟨pk_in _ 441 (by omega) e, nm_r (e' := upd s (21 * i) 1) (by rw [pk_cl _ e]) (qx_init150 (by omega) (fun n k hn hk => ?_) pk_us (fun j hj => ?_) (fun a8' h1 h2 => hw a8' ⟨h1, h2⟩))⟩)
    · rw [pk_un (by omega)]; exact g0 n k hn hk
    · rw [pk_un (by omega)]; exact g1 j (by omega)
theorem qx_init100 {post : St1 → Prop} {mc ms : Nat} {kc ks : Nat} {wn cv gc rs ce mi dm df cs : Int32} {a1 a2 a3 a4 a5 a6 a7 a8 a9 a10 : Nat → Int32} (hz : ∀ j, a8 j = 0)
    (H : ∀ a1' a2' a8', (∀ i, i < 20 → a1' i = -1) → qx_nr a2' → qx_ch a8' → post (wn, cv, gc, rs, ce, mi, dm, df, cs, a1', a2', a3, a4, a5, a6, a7, a8', a9, a10)) : ∃ fu, wX_init_100 post mc ms kc ks wn cv gc rs ce mi dm df cs fu 0 a1 a2 a3 a4 a5 a6 a7 a8 a9 a10 := by
  refine pk_loop (σ := (Nat → Int32) × (Nat → Int32)) (fun n i s => wX_init_100 post mc ms kc ks wn cv gc rs ce mi dm df cs n (nI i) s.1 s.2 a3 a4 a5 a6 a7 a8 a9 a10)
    (fun i s => (∀ j, j < i → s.1 j = -1) ∧ (∀ j, j < i → qb_s (s.2 j) ∧ qc_p (s.2 j) ≤ 8)) 20 0 (a1, a2) (by omega) ⟨fun j hj => absurd hj (by omega), fun j hj => absurd hj (by omega)⟩ ?_ ?_
  · intro n s ⟨g0, g1⟩
    exact pk_le 20 20 (fun _ => qx_init132 hz (fun a8' h8 => H s.1 s.2 a8' g0 g1 h8)) (fun z => absurd z (by omega))
  · intro n i s hi ⟨g0, g1⟩ hw
    refine pk_le 20 i (fun z => absurd z (by omega)) (fun _ => ⟨pk_in i 20 hi, nm_r (e' := upd s.1 i (-1)) (by rw [nI_clamp (by omega)]) (qx_neigh hi (fun r h1 h2 => ⟨pk_in i 20 hi, nm_r (e' := upd s.2 i r) (by rw [nI_clamp (by omega)]) (nm_r (nI_1 i) (hw (upd s.1 i (-1), upd s.2 i r) ⟨?_, ?_⟩))⟩))⟩)
    · intro j hj
      show upd s.1 i (-1) j = -1
      by_cases e : j = i
      · subst e; exact pk_us
      · rw [pk_un e]; exact g0 j (by omega)
    · intro j hj
      show qb_s (upd s.2 i r j) ∧ qc_p (upd s.2 i r j) ≤ 8
      by_cases e : j = i
      · subst e; rw [pk_us]; exact ⟨h1, h2⟩
      · rw [pk_un e]; exact g1 j (by omega)
theorem qx_init {post : St1 → Prop} {u : St0}
    (H : ∀ (gc rs ce mi dm df cs : Int32) (a1 a2 a3 a4 a5 a6 a7 a8 a9 a10 : Nat → Int32), (∀ i, i < 20 → a1 i = -1) → qx_nr a2 → qx_ch a8 → post ((-1), 1048575, gc, rs, ce, mi, dm, df, cs, a1, a2, a3, a4, a5, a6, a7, a8, a9, a10)) : wpX_init post 10 1424 u := by
  obtain ⟨w, c, gc, rs, ce, mi, dm, df, cs⟩ := u
  exact ⟨by omega, by omega, by omega, by omega, by omega, by omega, by omega, by omega, by omega, by omega, by omega, by omega, by omega, by omega, by omega, by omega, by omega, by omega, by omega, by omega,
    qx_init100 (fun _ => rfl) (fun a1' a2' a8' h1 h2 h8 => H _ _ _ _ _ _ _ _ _ _ _ _ _ _ _ _ _ h1 h2 h8)⟩
/-! ===== the field ===== -/
theorem qx_cov0 {a : Nat → Int32} (h : ∀ i, i < 20 → a i = -1) : qx_cov a 1048575 := by
  have h1 : ∀ i, i < 32 → qb_t 1048575 i = decide (i < 20) := by decide +kernel
  constructor
  · intro i hi
    rcases Nat.lt_or_ge i 32 with z | z
    · rw [h1 i z, decide_eq_false (by omega)]
    · exact qb_big z
  · intro i hi
    rw [h1 i (by omega), decide_eq_true hi, h i hi]; simp
theorem qx_refresh {post : St1 → Prop} {wn cv gc rs ce mi dm df cs : Int32} {a1 a2 a3 a4 a5 a6 a7 a8 a9 a10 : Nat → Int32} (H : ∀ cv', qx_cov a1 cv' → post (wn, cv', gc, rs, ce, mi, dm, df, cs, a1, a2, a3, a4, a5, a6, a7, a8, a9, a10)) : wpX_refresh post (wn, cv, gc, rs, ce, mi, dm, df, cs, a1, a2, a3, a4, a5, a6, a7, a8, a9, a10) := by
  refine pk_loop (σ := Int32) (fun n i s => wX_refresh_7 post wn gc rs ce mi dm df cs a1 a2 a3 a4 a5 a6 a7 a8 a9 a10 n (nI i) s) (fun i s => ∀ j, qb_t s j = true ↔ j < i ∧ a1 j = -1) 20 0 0 (by omega) (fun j => by rw [qb_0]; simp) ?_ ?_
  · intro n s h
    refine pk_le 20 20 (fun _ => H s ⟨fun i hi => qb_nt (fun z => by have := ((h i).mp z).1; omega), fun i hi => ?_⟩) (fun z => absurd z (by omega))
    rw [h i]; simp [hi]
  · intro n i s hi h hw
    refine pk_le 20 i (fun z => absurd z (by omega)) (fun _ => ⟨pk_in i 20 hi, ?_⟩)
    rw [nI_clamp (show i < 2 ^ 31 by omega)]
    refine br_c (fun e => nm_e (nm_r (nI_1 i) (hw (s ||| qb_1 i) (fun j => ?_)))) (fun e => nm_r (nI_1 i) (hw s (fun j => ?_)))
    · rw [qx_setbit (by omega), Bool.or_eq_true, h j, decide_eq_true_iff]
      constructor
      · intro z
        rcases z with z | z
        · exact ⟨by omega, z.2⟩
        · subst z; exact ⟨by omega, e⟩
      · intro z
        by_cases e2 : j = i
        · exact Or.inr e2
        · exact Or.inl ⟨by omega, z.2⟩
    · rw [h j]
      constructor
      · intro z; exact ⟨by omega, z.2⟩
      · intro z
        refine ⟨?_, z.2⟩
        by_cases e2 : j = i
        · subst e2; exact absurd z.2 e
        · omega
theorem qx_clue {post : Int32 → Prop} {wn cv gc rs ce mi dm df cs : Int32} {a1 a2 a3 a4 a5 a6 a7 a8 a9 a10 : Nat → Int32} {c : Nat} (hc : c < 20) (H1 : a1 c = -1 → post (-2)) (H2 : ¬ a1 c = -1 → post (a1 c)) : wpX_clue post (wn, cv, gc, rs, ce, mi, dm, df, cs, a1, a2, a3, a4, a5, a6, a7, a8, a9, a10) (nI c) := by
  unfold wpX_clue; dsimp only
  refine qx_bad hc ?_
  refine br_t rfl ⟨pk_in c 20 hc, ?_⟩
  rw [nI_clamp (show c < 2 ^ 31 by omega)]
  exact br_c H1 (fun e => ⟨pk_in c 20 hc, H2 e⟩)
theorem qx_vupd {cl : Nat → Int32} (h : qw_v cl) (c : Nat) {x : Int32} (hx : x = -1 ∨ ∃ k, k ≤ 8 ∧ x = nI k) : qw_v (upd cl c x) := by
  intro i hi
  by_cases e : i = c
  · subst e; rw [pk_us]; exact hx
  · rw [pk_un e]; exact h i hi
theorem qx_show {post : Int32 → St1 → Prop} {wn cv gc rs ce mi dm df cs : Int32} {a1 a2 a3 a4 a5 a6 a7 a8 a9 a10 : Nat → Int32} {c k : Nat} (hc : c < 20) (hk : k ≤ 8) (H : ∀ r cv', qx_cov (upd a1 c (nI k)) cv' → post r (wn, cv', gc, rs, ce, mi, dm, df, cs, (upd a1 c (nI k)), a2, a3, a4, a5, a6, a7, a8, a9, a10)) : wpX_show post (wn, cv, gc, rs, ce, mi, dm, df, cs, a1, a2, a3, a4, a5, a6, a7, a8, a9, a10) (nI c) (nI k) := by
  unfold wpX_show; dsimp only
  refine qx_bad hc ?_
  refine br_t rfl (br_f (nI_pos (show k < 2 ^ 31 by omega)) (pk_le k 8 (fun _ => ⟨pk_in c 20 hc, nm_e ⟨pk_in c 20 hc, nm_r (e' := upd a1 c (nI k)) (by rw [nI_clamp (show c < 2 ^ 31 by omega)]) (qx_refresh (fun cv' h => ?_))⟩⟩) (fun z => absurd z (by omega))))
  exact br_c (fun _ => H _ cv' h) (fun _ => H _ cv' h)
theorem qx_showAny {post : Int32 → St1 → Prop} {wn cv gc rs ce mi dm df cs : Int32} {a1 a2 a3 a4 a5 a6 a7 a8 a9 a10 : Nat → Int32} {c : Nat} (hc : c < 20) {x : Int32} (hv : qw_v a1) (hcv : qx_cov a1 cv) (H : ∀ r cv' a1', qw_v a1' → qx_cov a1' cv' → post r (wn, cv', gc, rs, ce, mi, dm, df, cs, a1', a2, a3, a4, a5, a6, a7, a8, a9, a10)) : wpX_show post (wn, cv, gc, rs, ce, mi, dm, df, cs, a1, a2, a3, a4, a5, a6, a7, a8, a9, a10) (nI c) x := by
  rcases pk_ix x (n := 9) (by omega) with h | h | ⟨k, hk, rfl⟩
  · unfold wpX_show; dsimp only
    refine qx_bad hc ?_
    exact br_t rfl (br_t h (H _ _ _ hv hcv))
  · unfold wpX_show; dsimp only
    refine qx_bad hc ?_
    refine br_t rfl (br_c (fun _ => H _ _ _ hv hcv) (fun _ => br_f ?_ (H _ _ _ hv hcv)))
    intro z
    have h1 : (nI 9).toInt ≤ x.toInt := Int32.le_iff_toInt_le.mp h
    have h2 : x.toInt ≤ (nI 8).toInt := Int32.le_iff_toInt_le.mp z
    have h3 : (nI 9).toInt = 9 := by decide
    have h4 : (nI 8).toInt = 8 := by decide
    omega
  · exact qx_show hc (by omega) (fun r cv' h => H r cv' _ (qx_vupd hv c (Or.inr ⟨k, by omega, rfl⟩)) h)
theorem qx_cover {post : Int32 → St1 → Prop} {wn cv gc rs ce mi dm df cs : Int32} {a1 a2 a3 a4 a5 a6 a7 a8 a9 a10 : Nat → Int32} {c : Nat} (hc : c < 20) (H1 : a1 c = -1 → post (-2) (wn, cv, gc, rs, ce, mi, dm, df, cs, a1, a2, a3, a4, a5, a6, a7, a8, a9, a10)) (H2 : ¬ a1 c = -1 → ∀ cv', qx_cov (upd a1 c (-1)) cv' → post (a1 c) (wn, cv', gc, rs, ce, mi, dm, df, cs, (upd a1 c (-1)), a2, a3, a4, a5, a6, a7, a8, a9, a10)) : wpX_cover post (wn, cv, gc, rs, ce, mi, dm, df, cs, a1, a2, a3, a4, a5, a6, a7, a8, a9, a10) (nI c) := by
  unfold wpX_cover; dsimp only
  refine qx_bad hc ?_
  refine br_t rfl ⟨pk_in c 20 hc, ?_⟩
  rw [nI_clamp (show c < 2 ^ 31 by omega)]
  exact br_c H1 (fun e => ⟨pk_in c 20 hc, nm_e ⟨pk_in c 20 hc, nm_e (qx_refresh (fun cv' h => H2 e cv' h))⟩⟩)
end
section
/-! ===== groups ===== -/
def qg_l (cl nr : Nat → Int32) (cv X : Int32) : Nat → Int32
  | 0 => X
  | c + 1 => if cl c = -1 then qg_l cl nr cv X c else if (nr c &&& cv &&& X) = 0 then qg_l cl nr cv X c else qg_l cl nr cv X c ||| (nr c &&& cv)
theorem qg_l1 {cl nr : Nat → Int32} {cv X : Int32} {c : Nat} (P : Int32 → Prop) (h0 : P (qg_l cl nr cv X c)) (h1 : ¬ cl c = -1 → ¬ (nr c &&& cv &&& X) = 0 → P (qg_l cl nr cv X c ||| (nr c &&& cv))) : P (qg_l cl nr cv X (c + 1)) := by
  show P (if cl c = -1 then qg_l cl nr cv X c else if (nr c &&& cv &&& X) = 0 then qg_l cl nr cv X c else qg_l cl nr cv X c ||| (nr c &&& cv))
  by_cases e : cl c = -1
  · rw [if_pos e]; exact h0
  · by_cases z : (nr c &&& cv &&& X) = 0
    · rw [if_neg e, if_pos z]; exact h0
    · rw [if_neg e, if_neg z]; exact h1 e z
theorem qg_le (cl nr : Nat → Int32) (cv X : Int32) : ∀ n, qb_le X (qg_l cl nr cv X n)
  | 0, i, hi => hi
  | n + 1, i, hi => qg_l1 (fun Y => qb_t Y i = true) (qg_le cl nr cv X n i hi) (fun _ _ => by rw [qb_or, qg_le cl nr cv X n i hi]; rfl)
theorem qg_sub {cl nr : Nat → Int32} {cv X Y : Int32} (hX : qb_le X Y) (hY : ∀ c, c < 20 → ¬ cl c = -1 → ¬ (nr c &&& cv &&& X) = 0 → qb_le (nr c &&& cv) Y) : ∀ n, n ≤ 20 → qb_le (qg_l cl nr cv X n) Y
  | 0, _ => hX
  | n + 1, hn => qg_l1 (fun Z => qb_le Z Y) (qg_sub hX hY n (by omega)) (fun e z i hi => by
      rw [qb_or, Bool.or_eq_true] at hi
      rcases hi with h | h
      · exact qg_sub hX hY n (by omega) i h
      · exact hY n (by omega) e z i h)
theorem qg_in {cl nr : Nat → Int32} {cv X : Int32} : ∀ n c, c < n → ¬ cl c = -1 → ¬ (nr c &&& cv &&& X) = 0 → qb_le (nr c &&& cv) (qg_l cl nr cv X n)
  | 0, c, hc, _, _ => absurd hc (by omega)
  | n + 1, c, hc, hs, hz => by
    intro i hi
    by_cases e : c = n
    · subst e
      show qb_t (if cl c = -1 then qg_l cl nr cv X c else if (nr c &&& cv &&& X) = 0 then qg_l cl nr cv X c else qg_l cl nr cv X c ||| (nr c &&& cv)) i = true
      rw [if_neg hs, if_neg hz, qb_or, hi]; simp
    · have h := qg_in n c (by omega) hs hz i hi
      exact qg_l1 (fun Y => qb_t Y i = true) h (fun _ _ => by rw [qb_or, h]; rfl)
def qg_i (cl nr : Nat → Int32) (cv X : Int32) : Nat → Int32
  | 0 => X
  | r + 1 => qg_l cl nr cv (qg_i cl nr cv X r) 20
/-- after 20 rounds the set is closed -/
theorem qg_closed {cl nr : Nat → Int32} {cv X : Int32} (hcv : qb_s cv) (hX : qb_le X cv) (h1 : 1 ≤ qc_p X) : ∀ r, qb_le (qg_i cl nr cv X r) cv ∧ (qw_cl cl nr cv (qg_i cl nr cv X r) ∨ r + 1 ≤ qc_p (qg_i cl nr cv X r))
  | 0 => ⟨hX, Or.inr h1⟩
  | r + 1 => by
    obtain ⟨ha, hb⟩ := qg_closed hcv hX h1 r
    have hle : qb_le (qg_l cl nr cv (qg_i cl nr cv X r) 20) cv := qg_sub ha (fun c _ _ _ i hi => by rw [qb_and, Bool.and_eq_true] at hi; exact hi.2) 20 (by omega)
    refine ⟨hle, ?_⟩
    by_cases hc : qw_cl cl nr cv (qg_i cl nr cv X r)
    · left
      have e : qg_l cl nr cv (qg_i cl nr cv X r) 20 = qg_i cl nr cv X r := by
        apply qb_ext
        intro i _
        rw [Bool.eq_iff_iff]
        exact ⟨qg_sub (fun _ h => h) hc 20 (by omega) i, qg_le cl nr cv _ 20 i⟩
      show qw_cl cl nr cv (qg_l cl nr cv (qg_i cl nr cv X r) 20)
      rw [e]; exact hc
    · right
      have h2 : r + 1 ≤ qc_p (qg_i cl nr cv X r) := hb.elim (fun z => absurd z hc) id
      have h3 : ∃ i, qb_t (qg_l cl nr cv (qg_i cl nr cv X r) 20) i = true ∧ qb_t (qg_i cl nr cv X r) i = false := by
        refine Classical.byContradiction (fun hn => hc (fun c hc' hs hz i hi => ?_))
        have h4 := qg_in 20 c hc' hs hz i hi
        cases hb : qb_t (qg_i cl nr cv X r) i
        · exact absurd ⟨i, h4, hb⟩ hn
        · rfl
      obtain ⟨i, hi1, hi2⟩ := h3
      have := qc_plt (qg_le cl nr cv (qg_i cl nr cv X r) 20) (qb_slt hcv (hle i hi1)) hi1 hi2
      show r + 1 + 1 ≤ qc_p (qg_l cl nr cv (qg_i cl nr cv X r) 20)
      omega
theorem qg_icl {cl nr : Nat → Int32} {cv X : Int32} (hcv : qb_s cv) (hX : qb_le X cv) (h1 : 1 ≤ qc_p X) : qw_cl cl nr cv (qg_i cl nr cv X 20) := by
  rcases (qg_closed (cl := cl) (nr := nr) hcv hX h1 20).2 with h | h
  · exact h
  · have := qc_ple (qg_i cl nr cv X 20)
    omega
theorem qg_ile (cl nr : Nat → Int32) (cv X : Int32) : ∀ r, qb_le X (qg_i cl nr cv X r)
  | 0 => fun _ h => h
  | r + 1 => fun i hi => qg_le cl nr cv _ 20 i (qg_ile cl nr cv X r i hi)
theorem qg_iE {cl nr : Nat → Int32} {cv X : Int32} (h : qb_le X (qw_E cl nr cv 20)) : ∀ r, qb_le (qg_i cl nr cv X r) (qw_E cl nr cv 20)
  | 0 => h
  | r + 1 => qg_sub (qg_iE h r) (fun c hc hs _ => qw_Ein cl nr cv 20 c hc hs) 20 (by omega)
theorem qg_idis {cl nr : Nat → Int32} {cv X U : Int32} (hU : qw_cl cl nr cv U) (h : ∀ i, qb_t U i = true → qb_t X i = false) : ∀ r i, qb_t U i = true → qb_t (qg_i cl nr cv X r) i = false
  | 0 => h
  | r + 1 => by
    intro i hi
    refine qb_nt (fun z => ?_)
    have ih := qg_idis hU h r
    have key : qb_le (qg_l cl nr cv (qg_i cl nr cv X r) 20) (U ^^^ (-1)) := by
      apply qg_sub _ _ 20 (by omega)
      · intro j hj
        rw [qb_not U (qb_lt hj)]
        cases hb : qb_t U j
        · rfl
        · rw [ih j hb] at hj; exact absurd hj (by decide)
      · intro c hc hs hz j hj
        rw [qb_not U (qb_lt hj)]
        cases hb : qb_t U j
        · rfl
        · exfalso
          have h5 := hU c hc hs (qb_ne (i := j) (by rw [qb_and, hj, hb]; rfl))
          apply hz
          apply qb_and0.mpr
          intro k hk
          exact ih k (h5 k hk)
    have h6 := key i z
    rw [qb_not U (qb_lt z), hi] at h6
    exact absurd h6 (by decide)
/-! ===== the walk ===== -/
theorem qx_linked {post : Int32 → Prop} {wn cv gc rs ce mi dm df cs : Int32} {a1 a2 a3 a4 a5 a6 a7 a8 a9 a10 : Nat → Int32} {X : Int32} (H : post (qg_l a1 a2 cv X 20)) : wpX_linkedTo post (wn, cv, gc, rs, ce, mi, dm, df, cs, a1, a2, a3, a4, a5, a6, a7, a8, a9, a10) X := by
  refine pk_loop (σ := Int32) (fun n i s => wX_linkedTo_4 post X wn cv gc rs ce mi dm df cs a1 a2 a3 a4 a5 a6 a7 a8 a9 a10 n s (nI i)) (fun i s => s = qg_l a1 a2 cv X i) 20 0 X (by omega) rfl ?_ ?_
  · intro n s h
    rw [h]
    exact pk_le 20 20 (fun _ => H) (fun z => absurd z (by omega))
  · intro n i s hi h hw
    refine pk_le 20 i (fun z => absurd z (by omega)) (fun _ => ⟨pk_in i 20 hi, ?_⟩)
    rw [nI_clamp (show i < 2 ^ 31 by omega)]
    refine br_c (fun e => nm_r (nI_1 i) (hw s ?_)) (fun e => ⟨pk_in i 20 hi, br_c (fun z => nm_r (nI_1 i) (hw s ?_)) (fun z => ⟨pk_in i 20 hi, nm_e (nm_r (nI_1 i) (hw _ ?_))⟩)⟩)
    · rw [h]; exact (if_pos e).symm
    · rw [h]; exact ((if_neg e).trans (if_pos z)).symm
    · rw [h]; exact ((if_neg e).trans (if_neg z)).symm
theorem qx_fg84 {post : St1 → Prop} {J : Int32 → Int32 → Int32 → (Nat → Int32) → (Nat → Int32) → (Nat → Int32) → (Nat → Int32) → (Nat → Int32) → (Nat → Int32) → (Nat → Int32) → (Nat → Int32) → (Nat → Int32) → (Nat → Int32) → Prop} {wn cv gc rs ce mi dm df cs : Int32} {a1 a2 a3 a4 a5 a6 a7 a8 a9 a10 : Nat → Int32} {x2 X : Int32} {g : Nat} (hg : g < 20)
    (H : J (x2 &&& (qg_i a1 a2 cv X 20 ^^^ (-1))) (nI (g + 1)) (nI (g + 1)) a1 a2 (upd a3 g (qg_i a1 a2 cv X 20)) a4 a5 a6 a7 a8 a9 a10) : ∃ fu, wX_findGroups_84 post J x2 (nI g) wn cv (nI g) rs ce mi dm df cs a1 a2 a3 a4 a5 a6 a7 a8 a9 a10 fu X 0 := by
  refine pk_loop (σ := Int32) (fun n i s => wX_findGroups_84 post J x2 (nI g) wn cv (nI g) rs ce mi dm df cs a1 a2 a3 a4 a5 a6 a7 a8 a9 a10 n s (nI i)) (fun i s => s = qg_i a1 a2 cv X i) 20 0 X (by omega) rfl ?_ ?_
  · intro n s h
    rw [h]
    exact pk_le 20 20 (fun _ => ⟨pk_in g 20 hg, nm_r (e' := upd a3 g (qg_i a1 a2 cv X 20)) (by rw [nI_clamp (show g < 2 ^ 31 by omega)]) (nm_r (nI_1 g) (nm_e (nm_r (nI_1 g) H)))⟩) (fun z => absurd z (by omega))
  · intro n i s hi h hw
    exact pk_le 20 i (fun z => absurd z (by omega)) (fun _ => qx_linked (nm_r (nI_1 i) (hw _ (by rw [h]; rfl))))
theorem qw_Uc {G G' : Nat → Int32} : ∀ {k : Nat}, (∀ j, j < k → G j = G' j) → qw_U G k = qw_U G' k
  | 0, _ => rfl
  | k + 1, h => by
    show qw_U G k ||| G k = qw_U G' k ||| G' k
    rw [qw_Uc (k := k) (fun j hj => h j (by omega)), h k (by omega)]
def qg_I (cl nr : Nat → Int32) (cv : Int32) (g : Nat) (x : Int32) (G : Nat → Int32) : Prop :=
  (∀ i, qb_t x i = (qb_t (qw_E cl nr cv 20) i && !qb_t (qw_U G g) i)) ∧ qc_p x + g ≤ 20 ∧ qb_le (qw_U G g) (qw_E cl nr cv 20) ∧
  (∀ k, k < g → ¬ G k = 0 ∧ qb_le (G k) cv ∧ qw_cl cl nr cv (G k) ∧ (∀ i, qb_t (qw_U G k) i = true → qb_t (G k) i = false))
theorem qg_Iend {cl nr : Nat → Int32} {cv : Int32} {g : Nat} {G : Nat → Int32} (h : qg_I cl nr cv g 0 G) : qw_ok cl nr cv G g := by
  obtain ⟨h1, h2, h3, h4⟩ := h
  refine ⟨by omega, h4, ?_⟩
  apply qb_ext
  intro i _
  have a := h1 i
  have b := h3 i
  rw [qb_0] at a
  revert a b
  cases qb_t (qw_E cl nr cv 20) i <;> cases qb_t (qw_U G g) i <;> simp
theorem qg_Ucl {cl nr : Nat → Int32} {cv : Int32} {G : Nat → Int32} : ∀ {g : Nat}, (∀ k, k < g → qw_cl cl nr cv (G k)) → qw_cl cl nr cv (qw_U G g)
  | 0, _ => fun c _ _ hne => absurd (show nr c &&& cv &&& 0 = 0 by rw [Int32.and_zero]) hne
  | g + 1, h => by
    intro k hk hs hne i hi
    show qb_t (qw_U G g ||| G g) i = true
    rw [qb_or, Bool.or_eq_true]
    by_cases z : nr k &&& cv &&& qw_U G g = 0
    · exact Or.inr (h g (by omega) k hk hs (fun e => hne (qw_orz z e)) i hi)
    · exact Or.inl (qg_Ucl (g := g) (fun k hk => h k (by omega)) k hk hs z i hi)
theorem qg_Istep {cl nr : Nat → Int32} {cv : Int32} (hcv : qb_s cv) {g : Nat} {x : Int32} {G : Nat → Int32} (h : qg_I cl nr cv g x G) (hx : ¬ x = 0) :
    qg_I cl nr cv (g + 1) (x &&& (qg_i cl nr cv (x &&& (-x)) 20 ^^^ (-1))) (upd G g (qg_i cl nr cv (x &&& (-x)) 20)) := by
  obtain ⟨h1, h2, h3, h4⟩ := h
  obtain ⟨l, hl, hb, _, hlow⟩ := qb_low hx
  have hE := qw_Ele cl nr cv 20
  have hxE : qb_le x (qw_E cl nr cv 20) := fun i hi => by rw [h1, Bool.and_eq_true] at hi; exact hi.1
  have hX : qb_le (x &&& (-x)) x := fun i hi => by rw [hlow, decide_eq_true_iff] at hi; rw [hi]; exact hb
  have hXE : qb_le (x &&& (-x)) (qw_E cl nr cv 20) := fun i hi => hxE i (hX i hi)
  have hXc : qb_le (x &&& (-x)) cv := fun i hi => hE i (hXE i hi)
  have hXl : qb_t (x &&& (-x)) l = true := by rw [hlow]; simp
  have hl20 : l < 20 := qb_slt hcv (hXc l hXl)
  have hp1 : 1 ≤ qc_p (x &&& (-x)) := by
    have : qc_p (qb_1 l) ≤ qc_p (x &&& (-x)) := qc_pmono (fun i hi => by rw [qb_1t hl, decide_eq_true_iff] at hi; rw [hi]; exact hXl)
    rw [qc_p1 hl20] at this; exact this
  generalize hSS : qg_i cl nr cv (x &&& (-x)) 20 = S
  have hScl : qw_cl cl nr cv S := hSS ▸ qg_icl hcv hXc hp1
  have hSl : qb_t S l = true := hSS ▸ qg_ile cl nr cv _ 20 l hXl
  have hSE : qb_le S (qw_E cl nr cv 20) := hSS ▸ qg_iE hXE 20
  have hSd : ∀ i, qb_t (qw_U G g) i = true → qb_t S i = false := by
    rw [← hSS]
    apply qg_idis (qg_Ucl (fun k hk => (h4 k hk).2.2.1))
    intro i hi
    refine qb_nt (fun z => ?_)
    have := hX i z
    rw [h1, hi] at this
    simp at this
  have hU : ∀ k, k ≤ g → qw_U (upd G g S) k = qw_U G k := fun k hk => qw_Uc (fun j hj => pk_un (by omega))
  have hU1 : qw_U (upd G g S) (g + 1) = qw_U G g ||| S := by
    show qw_U (upd G g S) g ||| upd G g S g = _
    rw [hU g (by omega), pk_us]
  refine ⟨fun i => ?_, ?_, ?_, ?_⟩
  · rw [qb_andn, h1, hU1, qb_or]
    cases qb_t (qw_E cl nr cv 20) i <;> cases qb_t (qw_U G g) i <;> cases qb_t S i <;> rfl
  · have : qc_p (x &&& (S ^^^ (-1))) < qc_p x := qc_plt (i := l) (fun i hi => by rw [qb_andn, Bool.and_eq_true] at hi; exact hi.1) hl20 hb (by rw [qb_andn, hSl]; simp)
    omega
  · rw [hU1]
    intro i hi
    rw [qb_or, Bool.or_eq_true] at hi
    exact hi.elim (h3 i) (hSE i)
  · intro k hk
    by_cases e : k = g
    · subst e
      rw [pk_us, hU k (by omega)]
      exact ⟨qb_ne hSl, fun i hi => hE i (hSE i hi), hScl, hSd⟩
    · rw [pk_un e, hU k (by omega)]
      exact h4 k (by omega)
theorem qx_fg65 {post : St1 → Prop} {wn cv gc rs ce mi dm df cs : Int32} {a1 a2 a3 a4 a5 a6 a7 a8 a9 a10 : Nat → Int32} (hcv : qb_s cv) (H : ∀ m a3', qw_ok a1 a2 cv a3' m → post (wn, cv, (nI m), rs, ce, mi, dm, df, cs, a1, a2, a3', a4, a5, a6, a7, a8, a9, a10)) : ∃ fu, wX_findGroups_65 post wn cv rs ce mi dm df cs fu (qw_E a1 a2 cv 20) 0 0 a1 a2 a3 a4 a5 a6 a7 a8 a9 a10 := by
  refine pk_loop (σ := Int32 × (Nat → Int32)) (fun n g s => wX_findGroups_65 post wn cv rs ce mi dm df cs n s.1 (nI g) (nI g) a1 a2 s.2 a4 a5 a6 a7 a8 a9 a10) (fun g s => qg_I a1 a2 cv g s.1 s.2) 20 0 (qw_E a1 a2 cv 20, a3) (by omega)
    ⟨fun i => by show _ = (_ && !qb_t 0 i); rw [qb_0]; simp, by have := qc_ple (qw_E a1 a2 cv 20); exact this, fun i hi => absurd (show qb_t 0 i = true from hi) (by rw [qb_0]; decide), fun k hk => absurd hk (by omega)⟩ ?_ ?_
  · intro n s h
    have hs : s.1 = 0 := by
      apply qc_pz
      · intro i hi
        rw [h.1 i]
        have : qb_t (qw_E a1 a2 cv 20) i = false := qb_nt (fun z => by have := hcv i hi; rw [qw_Ele a1 a2 cv 20 i z] at this; exact absurd this (by decide))
        rw [this]; rfl
      · have := h.2.1; omega
    rw [hs] at h
    exact pk_le 20 20 (fun _ => H 20 s.2 (qg_Iend h)) (fun z => absurd z (by omega))
  · intro n g s hg h hw
    refine pk_le 20 g (fun z => absurd z (by omega)) (fun _ => br_c (fun e => ?_) (fun e => nm_e (qx_fg84 (gc := 0) hg (hw (_, _) (qg_Istep hcv h e)))))
    rw [e] at h
    exact H g s.2 (qg_Iend h)
theorem qx_findGroups {post : St1 → Prop} {wn cv gc rs ce mi dm df cs : Int32} {a1 a2 a3 a4 a5 a6 a7 a8 a9 a10 : Nat → Int32} (hcv : qb_s cv) (H : ∀ m a3', qw_ok a1 a2 cv a3' m → post (wn, cv, (nI m), (cv &&& (qw_E a1 a2 cv 20 ^^^ (-1))), ce, mi, dm, df, cs, a1, a2, a3', a4, a5, a6, a7, a8, a9, a10)) : wpX_findGroups post (wn, cv, gc, rs, ce, mi, dm, df, cs, a1, a2, a3, a4, a5, a6, a7, a8, a9, a10) := by
  refine pk_loop (σ := Int32) (fun n i s => wX_findGroups_9 post wn cv 0 rs ce mi dm df cs a1 a2 a3 a4 a5 a6 a7 a8 a9 a10 n s (nI i)) (fun i s => s = qw_E a1 a2 cv i) 20 0 0 (by omega) rfl ?_ ?_
  · intro n s h
    rw [h]
    exact pk_le 20 20 (fun _ => nm_e (qx_fg65 (gc := 0) hcv H)) (fun z => absurd z (by omega))
  · intro n i s hi h hw
    refine pk_le 20 i (fun z => absurd z (by omega)) (fun _ => ⟨pk_in i 20 hi, ?_⟩)
    rw [nI_clamp (show i < 2 ^ 31 by omega)]
    refine br_c (fun e => nm_r (nI_1 i) (hw s ?_)) (fun e => ⟨pk_in i 20 hi, nm_e (nm_r (nI_1 i) (hw _ ?_))⟩)
    · rw [h]; exact (if_pos e).symm
    · rw [h]; exact (if_neg e).symm
end
section
/-! ===== the cells of a group, in order ===== -/
def qf_ar (a : Nat → Int32) (l : List Nat) : Prop := ∀ i c, l[i]? = some c → a i = nI c
theorem qf_ar1 {a : Nat → Int32} {l : List Nat} (h : qf_ar a l) (c : Nat) : qf_ar (upd a l.length (nI c)) (l ++ [c]) := by
  intro i d hd
  rcases Nat.lt_trichotomy i l.length with z | z | z
  · rw [List.getElem?_append_left z] at hd
    rw [pk_un (by omega)]; exact h i d hd
  · subst z
    rw [List.getElem?_append_right (Nat.le_refl _), Nat.sub_self] at hd
    have : c = d := by simpa using hd
    rw [pk_us, this]
  · have : (l ++ [c])[i]? = none := List.getElem?_eq_none (by rw [List.length_append, List.length_singleton]; omega)
    rw [this] at hd; exact absurd hd (by simp)
theorem qx_list {post : St1 → Prop} {wn cv gc rs ce mi dm df cs : Int32} {a1 a2 a3 a4 a5 a6 a7 a8 a9 a10 : Nat → Int32} {X : Int32} (H : ∀ a9', qf_ar a9' (qs_c X) → post (wn, cv, gc, rs, (nI (qs_c X).length), mi, dm, df, cs, a1, a2, a3, a4, a5, a6, a7, a8, a9', a10)) : wpX_listCells post (wn, cv, gc, rs, ce, mi, dm, df, cs, a1, a2, a3, a4, a5, a6, a7, a8, a9, a10) X := by
  refine pk_loop (σ := Int32 × (Nat → Int32)) (fun n i s => wX_listCells_7 post X wn cv gc rs mi dm df cs n (nI i) s.1 a1 a2 a3 a4 a5 a6 a7 a8 s.2 a10)
    (fun i s => s.1 = nI ((List.range i).filter (qb_t X)).length ∧ qf_ar s.2 ((List.range i).filter (qb_t X))) 20 0 (0, a9) (by omega) ⟨rfl, fun i c h => by simp at h⟩ ?_ ?_
  · intro n s ⟨h1, h2⟩
    rw [h1]
    exact pk_le 20 20 (fun _ => H s.2 h2) (fun z => absurd z (by omega))
  · intro n i s hi ⟨h1, h2⟩ hw
    have hlen : ((List.range i).filter (qb_t X)).length ≤ i := by
      have := List.length_filter_le (qb_t X) (List.range i)
      rw [List.length_range] at this; exact this
    rw [h1]
    refine pk_le 20 i (fun z => absurd z (by omega)) (fun _ => qx_has (show i < 32 by omega) (fun hb => ?_) (fun hb => ?_))
    · refine br_f (by decide) ⟨pk_in _ 20 (show ((List.range i).filter (qb_t X)).length < 20 by omega), nm_r (e' := upd s.2 ((List.range i).filter (qb_t X)).length (nI i)) (by rw [nI_clamp (by omega)]) (nm_r (nI_1 _) (nm_r (nI_1 i) (hw (_, _) ⟨?_, ?_⟩)))⟩
      · show nI _ = nI _
        rw [List.range_succ, List.filter_append, List.length_append]
        simp [hb]
      · show qf_ar (upd s.2 _ (nI i)) _
        have e : (List.range (i + 1)).filter (qb_t X) = (List.range i).filter (qb_t X) ++ [i] := by
          rw [List.range_succ, List.filter_append]
          simp [hb]
        rw [e]
        exact qf_ar1 h2 i
    · have e : (List.range (i + 1)).filter (qb_t X) = (List.range i).filter (qb_t X) := by
        rw [List.range_succ, List.filter_append]
        simp [hb]
      refine br_t rfl (nm_r (nI_1 i) (hw (_, _) ⟨?_, ?_⟩))
      · show nI _ = nI _
        rw [e]
      · show qf_ar s.2 _
        rw [e]; exact h2
theorem qf_dr {l s : List Nat} {k c : Nat} (h : l.drop k = c :: s) : l[k]? = some c ∧ l.drop (k + 1) = s ∧ k < l.length := by
  have h1 : (l.drop k)[0]? = some c := by rw [h]; rfl
  rw [List.getElem?_drop] at h1
  refine ⟨h1, ?_, ?_⟩
  · have : l.drop (k + 1) = (l.drop k).drop 1 := by rw [List.drop_drop]
    rw [this, h]; rfl
  · rcases Nat.lt_or_ge k l.length with z | z
    · exact z
    · rw [List.drop_eq_nil_of_le z] at h; exact absurd h (by simp)
theorem qx_open {post : Int32 → Prop} {wn cv gc rs mi dm df cs : Int32} {a1 a2 a3 a4 a5 a6 a7 a8 a9 a10 : Nat → Int32} {l : List Nat} (hl : l.length ≤ 20) (har : qf_ar a9 l) {k : Nat} (hk : k ≤ l.length) (H : post (qw_m (l.drop k))) : wpX_openFrom post (wn, cv, gc, rs, (nI l.length), mi, dm, df, cs, a1, a2, a3, a4, a5, a6, a7, a8, a9, a10) (nI k) := by
  refine pk_loop (σ := Int32) (fun n i s => wX_openFrom_4 post wn cv gc rs (nI l.length) mi dm df cs a1 a2 a3 a4 a5 a6 a7 a8 a9 a10 n s (nI i)) (fun i s => s ||| qw_m (l.drop i) = qw_m (l.drop k)) l.length k 0 hk (Int32.zero_or) ?_ ?_
  · intro n s h
    rw [List.drop_length] at h
    have h' : s ||| 0 = qw_m (l.drop k) := h
    rw [Int32.or_zero] at h'
    rw [h']
    exact pk_le l.length l.length (fun _ => H) (fun z => absurd z (by omega))
  · intro n i s hi h hw
    obtain ⟨c, t, e⟩ : ∃ c t, l.drop i = c :: t := by
      cases hd : l.drop i with
      | nil => have := List.length_drop (i := i) (l := l); rw [hd, List.length_nil] at this; omega
      | cons c t => exact ⟨c, t, rfl⟩
    obtain ⟨e1, e2, _⟩ := qf_dr e
    refine pk_le l.length i (fun z => absurd z (by omega)) (fun _ => ⟨pk_in i 20 (by omega), nm_r (e' := s ||| qb_1 c) ?_ (nm_r (nI_1 i) (hw _ ?_))⟩)
    · rw [nI_clamp (show i < 2 ^ 31 by omega), har i c e1]; rfl
    · rw [e2, ← h, e]
      show s ||| qb_1 c ||| qw_m t = s ||| (qb_1 c ||| qw_m t)
      rw [Int32.or_assoc]
/-! ===== the checks ===== -/
theorem qx_canMeet {post : Int32 → Prop} {wn cv gc rs ce mi dm df cs : Int32} {a1 a2 a3 a4 a5 a6 a7 a8 a9 a10 : Nat → Int32} (hnr : qx_nr a2) {c : Nat} (hc : c < 20) {O : Int32}
    (H1 : (¬ a1 c < nI (qc_p (a2 c &&& mi)) ∧ ¬ nI (qc_p (a2 c &&& mi)) + nI (qc_p (a2 c &&& O)) < a1 c) → post 1)
    (H0 : ¬ (¬ a1 c < nI (qc_p (a2 c &&& mi)) ∧ ¬ nI (qc_p (a2 c &&& mi)) + nI (qc_p (a2 c &&& O)) < a1 c) → post 0) : wpX_canMeet post (wn, cv, gc, rs, ce, mi, dm, df, cs, a1, a2, a3, a4, a5, a6, a7, a8, a9, a10) (nI c) O := by
  unfold wpX_canMeet; dsimp only
  rw [nI_clamp (show c < 2 ^ 31 by omega)]
  refine ⟨pk_in c 20 hc, qx_bits (qb_sand _ (hnr c hc).1) ?_⟩
  refine ⟨pk_in c 20 hc, qx_bits (qb_sand _ (hnr c hc).1) ?_⟩
  exact ⟨pk_in c 20 hc, br_c (fun e => H0 (fun z => z.1 e)) (fun e1 => ⟨pk_in c 20 hc, br_c (fun e => H0 (fun z => z.2 e)) (fun e2 => H1 ⟨e1, e2⟩)⟩)⟩
def qf_ok (cl nr : Nat → Int32) (c : Nat) (M O : Int32) (d : Nat) : Prop := ¬ cl d = -1 → qb_t (nr d) c = true → ¬ cl d < nI (qc_p (nr d &&& M)) ∧ ¬ nI (qc_p (nr d &&& M)) + nI (qc_p (nr d &&& O)) < cl d
theorem qf_nb0 : narrow .boolean (.int (0 : Int32)) = .int 0 := by rfl
theorem qf_nb1 : narrow .boolean (.int (1 : Int32)) = .int 1 := by rfl
theorem qx_canStand {post : Int32 → Prop} {wn cv gc rs ce mi dm df cs : Int32} {a1 a2 a3 a4 a5 a6 a7 a8 a9 a10 : Nat → Int32} (hnr : qx_nr a2) {c : Nat} (hc : c < 20) {O : Int32} (H1 : qw_st a1 a2 c mi O = true → post 1) (H0 : qw_st a1 a2 c mi O = false → post 0) : wpX_canStand post (wn, cv, gc, rs, ce, mi, dm, df, cs, a1, a2, a3, a4, a5, a6, a7, a8, a9, a10) (nI c) O := by
  have K1 : (∀ d, d < 20 → qf_ok a1 a2 c mi O d) → post 1 := fun h => H1 (qw_dt.mpr h)
  have K0 : (¬ ∀ d, d < 20 → qf_ok a1 a2 c mi O d) → post 0 := fun h => H0 (qb_nt (fun z => h (qw_dt.mp z)))
  refine pk_loop (σ := Int32) (fun n i s => wX_canStand_5 post (nI c) O wn cv gc rs ce mi dm df cs a1 a2 a3 a4 a5 a6 a7 a8 a9 a10 n s (nI i)) (fun i s => (s = 1 ∧ ∀ d, d < i → qf_ok a1 a2 c mi O d) ∨ (s = 0 ∧ ¬ ∀ d, d < 20 → qf_ok a1 a2 c mi O d)) 20 0 1 (by omega) (Or.inl ⟨rfl, fun d hd => absurd hd (by omega)⟩) ?_ ?_
  · intro n s h
    refine pk_le 20 20 (fun _ => ?_) (fun z => absurd z (by omega))
    rcases h with ⟨rfl, h⟩ | ⟨rfl, h⟩
    · exact ⟨qf_nb1, K1 h⟩
    · exact ⟨qf_nb0, K0 h⟩
  · intro n i s hi h hw
    refine pk_le 20 i (fun z => absurd z (by omega)) (fun _ => ?_)
    rcases h with ⟨rfl, h⟩ | ⟨rfl, h⟩
    · refine br_f (by decide) ⟨pk_in i 20 hi, ?_⟩
      rw [nI_clamp (show i < 2 ^ 31 by omega)]
      have good : qf_ok a1 a2 c mi O i → wX_canStand_5 post (nI c) O wn cv gc rs ce mi dm df cs a1 a2 a3 a4 a5 a6 a7 a8 a9 a10 n 1 (nI (i + 1)) := fun g => hw 1 (Or.inl ⟨rfl, lt_s h g⟩)
      refine br_c (fun e => nm_r (nI_1 i) (good (fun z => absurd e z))) (fun e => ⟨pk_in i 20 hi, qx_has (show c < 32 by omega) (fun hb => ?_) (fun hb => ?_)⟩)
      · refine br_f (by decide) (qx_canMeet hnr hi (fun hm => ?_) (fun hm => ?_))
        · exact br_f (by decide) (nm_r (nI_1 i) (good (fun _ _ => hm)))
        · exact br_t rfl (nm_r (nI_1 i) (hw 0 (Or.inr ⟨rfl, fun z => hm (z i hi e hb)⟩)))
      · exact br_t rfl (nm_r (nI_1 i) (good (fun _ z => by rw [hb] at z; exact absurd z (by decide))))
    · exact br_t rfl ⟨qf_nb0, K0 h⟩
/-! ===== one cell tried ===== -/
theorem qx_try38 {post : Int32 → St1 → Prop} {wn cv gc rs mi dm df cs : Int32} {a1 a2 a3 a4 a5 a6 a7 a8 a9 a10 : Nat → Int32} (hnr : qx_nr a2) {l : List Nat} (hl : l.length ≤ 20) (hl20 : ∀ c, c ∈ l → c < 20) (har : qf_ar a9 l) {k c : Nat} {s : List Nat} (hs : l.drop k = c :: s) {M v : Int32} (hv : a10 k + 1 = v)
    (H1 : qw_st a1 a2 c M (qw_m s) = true → post (nI (k + 1)) (wn, cv, gc, rs, (nI l.length), M, dm, df, cs, a1, a2, a3, a4, a5, a6, a7, a8, a9, (upd (upd a10 k v) (k + 1) 0)))
    (H0 : qw_st a1 a2 c M (qw_m s) = false → post (nI k) (wn, cv, gc, rs, (nI l.length), M, dm, df, cs, a1, a2, a3, a4, a5, a6, a7, a8, a9, (upd a10 k v))) : wX_tryCell_38 post (nI k) (nI c) M wn cv gc rs (nI l.length) mi dm df cs a1 a2 a3 a4 a5 a6 a7 a8 a9 a10 := by
  obtain ⟨e1, e2, e3⟩ := qf_dr hs
  have hc : c < 20 := hl20 c (List.mem_of_getElem? e1)
  unfold wX_tryCell_38
  rw [nI_clamp (show k < 2 ^ 31 by omega), nI_1, hv, nI_clamp (show k + 1 < 2 ^ 31 by omega)]
  refine ⟨pk_in k 21 (by omega), pk_in k 21 (by omega), nm_e (qx_open hl har (show k + 1 ≤ l.length by omega) ?_)⟩
  rw [e2]
  refine qx_canStand hnr hc (fun h => ?_) (fun h => ?_)
  · refine br_f (by decide) ⟨pk_in (k + 1) 21 (by omega), nm_e (br_f (by decide) ?_)⟩
    rw [nI_1]
    exact H1 h
  · exact br_t rfl (br_t rfl (H0 h))
theorem qx_try0 {post : Int32 → St1 → Prop} {wn cv gc rs mi dm df cs : Int32} {a1 a2 a3 a4 a5 a6 a7 a8 a9 a10 : Nat → Int32} (hnr : qx_nr a2) {l : List Nat} (hl : l.length ≤ 20) (hl20 : ∀ c, c ∈ l → c < 20) (har : qf_ar a9 l) {k c : Nat} {s : List Nat} (hs : l.drop k = c :: s) (h0 : a10 k = 0) (hm : qb_t mi c = false)
    (H1 : qw_st a1 a2 c mi (qw_m s) = true → post (nI (k + 1)) (wn, cv, gc, rs, (nI l.length), mi, dm, df, cs, a1, a2, a3, a4, a5, a6, a7, a8, a9, (upd (upd a10 k 1) (k + 1) 0)))
    (H0 : qw_st a1 a2 c mi (qw_m s) = false → post (nI k) (wn, cv, gc, rs, (nI l.length), mi, dm, df, cs, a1, a2, a3, a4, a5, a6, a7, a8, a9, (upd a10 k 1))) : wpX_tryCell post (wn, cv, gc, rs, (nI l.length), mi, dm, df, cs, a1, a2, a3, a4, a5, a6, a7, a8, a9, a10) (nI k) := by
  obtain ⟨e1, e2, e3⟩ := qf_dr hs
  have hc : c < 20 := hl20 c (List.mem_of_getElem? e1)
  have em : mi &&& (qb_1 c ^^^ (-1)) = mi := by
    apply qb_ext
    intro i _
    rw [qb_andn, qb_1t (by omega)]
    by_cases e : i = c
    · subst e; rw [hm]; rfl
    · simp [e]
  refine ⟨pk_in k 20 (by omega), nm_r (e' := nI c) (by rw [nI_clamp (show k < 2 ^ 31 by omega)]; exact har k c e1) ⟨pk_in k 21 (by omega), ?_⟩⟩
  rw [nI_clamp (show k < 2 ^ 31 by omega)]
  refine br_t h0 ?_
  have h := qx_try38 (post := post) (wn := wn) (cv := cv) (gc := gc) (rs := rs) (mi := mi) (dm := dm) (df := df) (cs := cs) (a1 := a1) (a2 := a2) (a3 := a3) (a4 := a4) (a5 := a5) (a6 := a6) (a7 := a7) (a8 := a8) (a9 := a9) (a10 := a10) hnr hl hl20 har hs (M := mi) (v := 1) (by rw [h0]; rfl) H1 H0
  have em' : mi &&& (((1 : Int32) <<< (nI c &&& 31)) ^^^ (-1)) = mi := em
  rw [em']
  exact h
theorem qx_try1 {post : Int32 → St1 → Prop} {wn cv gc rs mi dm df cs : Int32} {a1 a2 a3 a4 a5 a6 a7 a8 a9 a10 : Nat → Int32} (hnr : qx_nr a2) {l : List Nat} (hl : l.length ≤ 20) (hl20 : ∀ c, c ∈ l → c < 20) (har : qf_ar a9 l) {k c : Nat} {s : List Nat} (hs : l.drop k = c :: s) (h1 : a10 k = 1)
    (H1 : qw_st a1 a2 c (mi ||| qb_1 c) (qw_m s) = true → post (nI (k + 1)) (wn, cv, gc, rs, (nI l.length), (mi ||| qb_1 c), dm, df, cs, a1, a2, a3, a4, a5, a6, a7, a8, a9, (upd (upd a10 k 2) (k + 1) 0)))
    (H0 : qw_st a1 a2 c (mi ||| qb_1 c) (qw_m s) = false → post (nI k) (wn, cv, gc, rs, (nI l.length), (mi ||| qb_1 c), dm, df, cs, a1, a2, a3, a4, a5, a6, a7, a8, a9, (upd a10 k 2))) : wpX_tryCell post (wn, cv, gc, rs, (nI l.length), mi, dm, df, cs, a1, a2, a3, a4, a5, a6, a7, a8, a9, a10) (nI k) := by
  obtain ⟨e1, e2, e3⟩ := qf_dr hs
  refine ⟨pk_in k 20 (by omega), nm_r (e' := nI c) (by rw [nI_clamp (show k < 2 ^ 31 by omega)]; exact har k c e1) ⟨pk_in k 21 (by omega), ?_⟩⟩
  rw [nI_clamp (show k < 2 ^ 31 by omega)]
  refine br_f (by rw [h1]; decide) ?_
  exact qx_try38 hnr hl hl20 har hs (by rw [h1]; rfl) H1 H0
/-! ===== a way noted ===== -/
def qf_q (p : Int32) (q : Nat) : Prop := (p = -1 ∧ q = 32) ∨ (p = nI q ∧ q < 20)
def qf_row (a a' : Nat → Int32) (g : Nat) (f : Nat → Nat) : Prop := ∀ n, n ≤ 20 → a' (21 * g + n) = a (21 * g + n) + nI (f n)
theorem qf_row0 (a : Nat → Int32) (g : Nat) (f : Nat → Nat) (h : ∀ n, f n = 0) : qf_row a a g f := fun n _ => by rw [h n, nI_0, Int32.add_zero]
theorem qf_row1 (a : Nat → Int32) (g k : Nat) : qf_row a (upd a (21 * g + k) (a (21 * g + k) + 1)) g (fun n => if k = n then 1 else 0) := by
  intro n _
  by_cases e : k = n
  · subst e
    show _ = _ + nI (if k = k then 1 else 0)
    rw [pk_us, if_pos rfl]; rfl
  · show _ = _ + nI (if k = n then 1 else 0)
    rw [pk_un (by omega), if_neg e, nI_0, Int32.add_zero]
theorem qx_note {post : St1 → Prop} {wn cv gc rs ce mi dm df cs : Int32} {a1 a2 a3 a4 a5 a6 a7 a8 a9 a10 : Nat → Int32} {g q : Nat} (hg : g < 20) {p : Int32} (hq : qf_q p q) (hm : qb_s mi)
    (H : ∀ a4' a5', qf_row a4 a4' g (fun n => if qc_p mi = n then 1 else 0) → qf_row a5 a5' g (fun n => if qc_p mi = n then (qb_t mi q).toNat else 0) → post (wn, cv, gc, rs, ce, mi, dm, df, cs, a1, a2, a3, a4', a5', a6, a7, a8, a9, a10)) : wpX_noteWay post (wn, cv, gc, rs, ce, mi, dm, df, cs, a1, a2, a3, a4, a5, a6, a7, a8, a9, a10) (nI g) p := by
  unfold wpX_noteWay; dsimp only
  refine qx_bits hm ?_
  have hp := qc_ple mi
  have e : (21 * nI g) + nI (qc_p mi) = nI (21 * g + qc_p mi) := by rw [show (21 : Int32) = nI 21 from rfl, pk_mul, nI_add]
  rw [e, nI_clamp (show 21 * g + qc_p mi < 2 ^ 31 by omega)]
  refine ⟨pk_in (21 * g + qc_p mi) 420 (by omega), pk_in (21 * g + qc_p mi) 420 (by omega), nm_e ?_⟩
  rcases hq with ⟨rfl, rfl⟩ | ⟨rfl, hq⟩
  · exact br_t rfl (H _ _ (qf_row1 a4 g _) (qf_row0 a5 g _ (fun n => by rw [qb_big (Nat.le_refl 32)]; simp)))
  · refine br_f (fun z => ?_) (qx_has (show q < 32 by omega) (fun hb => ?_) (fun hb => ?_))
    · have h1 := nI_pos (n := q) (by omega)
      rw [z] at h1
      exact h1 (by decide)
    · refine br_f (by decide) ⟨pk_in (21 * g + qc_p mi) 420 (by omega), pk_in (21 * g + qc_p mi) 420 (by omega), nm_e (H _ _ (qf_row1 a4 g _) ?_)⟩
      rw [hb]; exact qf_row1 a5 g _
    · exact br_t rfl (H _ _ (qf_row1 a4 g _) (qf_row0 a5 g _ (fun n => by rw [hb]; simp)))
end
section
/-! ===== the filling of a group ===== -/
def qf_t : Nat → Nat
  | 0 => 1
  | j + 1 => 3 + 2 * qf_t j
theorem qf_tp : ∀ j, qf_t j + 3 = 4 * 2 ^ j
  | 0 => rfl
  | j + 1 => by
    have := qf_tp j
    show 3 + 2 * qf_t j + 3 = 4 * 2 ^ (j + 1)
    rw [Nat.pow_succ]; omega
theorem qf_t20 {j : Nat} (h : j ≤ 20) : qf_t j ≤ 4194304 := by
  have h1 := qf_tp j
  have h2 : 2 ^ j ≤ 2 ^ 20 := Nat.pow_le_pow_right (by omega) h
  omega
theorem qf_rowC {a b : Nat → Int32} {g : Nat} {f f' : Nat → Nat} (h : qf_row a b g f) (e : ∀ n, f n = f' n) : qf_row a b g f' := fun n hn => by rw [← e n]; exact h n hn
theorem qf_rowT {a b c : Nat → Int32} {g : Nat} {f f' : Nat → Nat} (h : qf_row a b g f) (h' : qf_row b c g f') : qf_row a c g (fun n => f n + f' n) := fun n hn => by
  rw [h' n hn, h n hn, Int32.add_assoc, nI_add]
theorem qf_p3 {post : St1 → Prop} {wn cv gc rs dm df cs : Int32} {a1 a2 a3 a4 a5 a6 a7 a8 a9 a10 : Nat → Int32} (hnr : qx_nr a2) {l : List Nat} (hl : l.length ≤ 20) (hl20 : ∀ c, c ∈ l → c < 20) (har : qf_ar a9 l) {g q : Nat} (hg : g < 20) {p : Int32} (hq : qf_q p q) {k c : Nat} {s : List Nat} (hs : l.drop k = c :: s) {M : Int32} (hM : qb_t M c = false) {n r : Nat} (hr : r < 5000000) (h2 : a10 k = 2)
    (H : wX_fillGroup_65 post (nI g) p n (nI k + (-1)) (nI (r + 1)) wn cv gc rs (nI l.length) M dm df cs a1 a2 a3 a4 a5 a6 a7 a8 a9 a10) : wX_fillGroup_65 post (nI g) p (n + 1) (nI k) (nI r) wn cv gc rs (nI l.length) (M ||| qb_1 c) dm df cs a1 a2 a3 a4 a5 a6 a7 a8 a9 a10 := by
  obtain ⟨e1, e2, e3⟩ := qf_dr hs
  have hc : c < 20 := hl20 c (List.mem_of_getElem? e1)
  refine pk_le 5000000 r (fun z => absurd z (by omega)) (fun _ => br_f (nI_pos (show k < 2 ^ 31 by omega)) (pk_eq k l.length (fun z => absurd z (by omega)) (fun _ => ⟨pk_in k 21 (by omega), ?_⟩)))
  rw [nI_clamp (show k < 2 ^ 31 by omega)]
  refine br_t h2 ⟨pk_in k 20 (by omega), nm_r (e' := M) ?_ (nm_e (nm_r (nI_1 r) H))⟩
  rw [har k c e1]
  show (M ||| qb_1 c) &&& (qb_1 c ^^^ (-1)) = M
  apply qb_ext
  intro i _
  rw [qb_andn, qb_or, qb_1t (by omega)]
  by_cases e : i = c
  · subst e; rw [hM]; simp
  · simp [e]
theorem qf_p1 {post : St1 → Prop} {wn cv gc rs mi dm df cs : Int32} {a1 a2 a3 a4 a5 a6 a7 a8 a9 a10 : Nat → Int32} (hnr : qx_nr a2) {l : List Nat} (hl : l.length ≤ 20) (hl20 : ∀ c, c ∈ l → c < 20) (har : qf_ar a9 l) {g q : Nat} (hg : g < 20) {p : Int32} (hq : qf_q p q) {k c : Nat} {s : List Nat} (hs : l.drop k = c :: s) (hM : qb_t mi c = false) {n r : Nat} (hr : r < 5000000) (h0 : a10 k = 0)
    (H1 : qw_st a1 a2 c mi (qw_m s) = true → wX_fillGroup_65 post (nI g) p n (nI (k + 1)) (nI (r + 1)) wn cv gc rs (nI l.length) mi dm df cs a1 a2 a3 a4 a5 a6 a7 a8 a9 (upd (upd a10 k 1) (k + 1) 0))
    (H0 : qw_st a1 a2 c mi (qw_m s) = false → wX_fillGroup_65 post (nI g) p n (nI k) (nI (r + 1)) wn cv gc rs (nI l.length) mi dm df cs a1 a2 a3 a4 a5 a6 a7 a8 a9 (upd a10 k 1)) : wX_fillGroup_65 post (nI g) p (n + 1) (nI k) (nI r) wn cv gc rs (nI l.length) mi dm df cs a1 a2 a3 a4 a5 a6 a7 a8 a9 a10 := by
  obtain ⟨e1, e2, e3⟩ := qf_dr hs
  refine pk_le 5000000 r (fun z => absurd z (by omega)) (fun _ => br_f (nI_pos (show k < 2 ^ 31 by omega)) (pk_eq k l.length (fun z => absurd z (by omega)) (fun _ => ⟨pk_in k 21 (by omega), ?_⟩)))
  refine br_f (by rw [nI_clamp (show k < 2 ^ 31 by omega), h0]; decide) (qx_try0 hnr hl hl20 har hs h0 hM (fun h => nm_r (nI_1 r) (H1 h)) (fun h => nm_r (nI_1 r) (H0 h)))
theorem qf_p2 {post : St1 → Prop} {wn cv gc rs mi dm df cs : Int32} {a1 a2 a3 a4 a5 a6 a7 a8 a9 a10 : Nat → Int32} (hnr : qx_nr a2) {l : List Nat} (hl : l.length ≤ 20) (hl20 : ∀ c, c ∈ l → c < 20) (har : qf_ar a9 l) {g q : Nat} (hg : g < 20) {p : Int32} (hq : qf_q p q) {k c : Nat} {s : List Nat} (hs : l.drop k = c :: s) {n r : Nat} (hr : r < 5000000) (h1 : a10 k = 1)
    (H1 : qw_st a1 a2 c (mi ||| qb_1 c) (qw_m s) = true → wX_fillGroup_65 post (nI g) p n (nI (k + 1)) (nI (r + 1)) wn cv gc rs (nI l.length) (mi ||| qb_1 c) dm df cs a1 a2 a3 a4 a5 a6 a7 a8 a9 (upd (upd a10 k 2) (k + 1) 0))
    (H0 : qw_st a1 a2 c (mi ||| qb_1 c) (qw_m s) = false → wX_fillGroup_65 post (nI g) p n (nI k) (nI (r + 1)) wn cv gc rs (nI l.length) (mi ||| qb_1 c) dm df cs a1 a2 a3 a4 a5 a6 a7 a8 a9 (upd a10 k 2)) : wX_fillGroup_65 post (nI g) p (n + 1) (nI k) (nI r) wn cv gc rs (nI l.length) mi dm df cs a1 a2 a3 a4 a5 a6 a7 a8 a9 a10 := by
  obtain ⟨e1, e2, e3⟩ := qf_dr hs
  refine pk_le 5000000 r (fun z => absurd z (by omega)) (fun _ => br_f (nI_pos (show k < 2 ^ 31 by omega)) (pk_eq k l.length (fun z => absurd z (by omega)) (fun _ => ⟨pk_in k 21 (by omega), ?_⟩)))
  refine br_f (by rw [nI_clamp (show k < 2 ^ 31 by omega), h1]; decide) (qx_try1 hnr hl hl20 har hs h1 (fun h => nm_r (nI_1 r) (H1 h)) (fun h => nm_r (nI_1 r) (H0 h)))
theorem qf_sub {post : St1 → Prop} {wn cv gc rs dm df cs : Int32} {a1 a2 a3 a6 a7 a8 a9 : Nat → Int32} (hnr : qx_nr a2) {l : List Nat} (hl : l.length ≤ 20) (hl20 : ∀ c, c ∈ l → c < 20) (har : qf_ar a9 l) {g q : Nat} (hg : g < 20) {p : Int32} (hq : qf_q p q) : ∀ (s : List Nat) (k : Nat), l.drop k = s → k ≤ l.length → s.Nodup → ∀ (M : Int32) (a4 a5 a10 : Nat → Int32) (n r : Nat), qb_s M → (∀ c, c ∈ s → qb_t M c = false) →
    (¬ s = [] → a10 k = 0) → r + qf_t s.length ≤ 5000000 → 5000001 ≤ n + r →
    (∀ n' r' a4' a5' a10', 5000001 ≤ n' + r' → r' ≤ r + qf_t s.length → qf_row a4 a4' g (fun m => qw_V a1 a2 s (fun F => if qc_p F = m then 1 else 0) M) → qf_row a5 a5' g (fun m => qw_V a1 a2 s (fun F => if qc_p F = m then (qb_t F q).toNat else 0) M) →
      (∀ j, j < k → a10' j = a10 j) → wX_fillGroup_65 post (nI g) p n' (nI k + (-1)) (nI r') wn cv gc rs (nI l.length) M dm df cs a1 a2 a3 a4' a5' a6 a7 a8 a9 a10') →
    wX_fillGroup_65 post (nI g) p n (nI k) (nI r) wn cv gc rs (nI l.length) M dm df cs a1 a2 a3 a4 a5 a6 a7 a8 a9 a10 := by
  intro s
  induction s with
  | nil =>
    intro k hk hkl _ M a4 a5 a10 n r hM _ _ hr hn H
    have hlen : k = l.length := by
      have := List.length_drop (i := k) (l := l)
      rw [hk, List.length_nil] at this; omega
    have hr' : r + 1 ≤ 5000000 := hr
    obtain ⟨n1, rfl⟩ : ∃ n1, n = n1 + 1 := ⟨n - 1, by omega⟩
    refine pk_le 5000000 r (fun z => absurd z (by omega)) (fun _ => br_f (nI_pos (show k < 2 ^ 31 by omega)) (pk_eq k l.length (fun _ => ?_) (fun z => absurd hlen z)))
    exact qx_note hg hq hM (fun a4' a5' h4 h5 => nm_e (nm_r (nI_1 r) (H n1 (r + 1) a4' a5' a10 (by omega) (Nat.le_refl _) h4 h5 (fun _ _ => rfl))))
  | cons c s ih =>
    intro k hk hkl hnd M a4 a5 a10 n r hM hMc h0 hr hn H
    obtain ⟨e1, e2, e3⟩ := qf_dr hk
    have hc : c < 20 := hl20 c (List.mem_of_getElem? e1)
    have hnd' := List.nodup_cons.mp hnd
    have hMc0 : qb_t M c = false := hMc c List.mem_cons_self
    have hMs : ∀ d, d ∈ s → qb_t M d = false := fun d hd => hMc d (List.mem_cons_of_mem c hd)
    have hM' : qb_s (M ||| qb_1 c) := qb_sor hM (qb_s1 hc)
    have hMs' : ∀ d, d ∈ s → qb_t (M ||| qb_1 c) d = false := fun d hd => by
      rw [qb_or, hMs d hd, qb_1t (by omega), decide_eq_false (show ¬ d = c from fun e => hnd'.1 (by rw [← e]; exact hd))]; rfl
    have ht : r + (3 + 2 * qf_t s.length) ≤ 5000000 := hr
    -- the third visit
    have step3 : ∀ (n2 r2 : Nat) (b4 b5 b10 : Nat → Int32), 5000001 ≤ n2 + r2 → r2 ≤ r + 2 + 2 * qf_t s.length → b10 k = 2 → (∀ j, j < k → b10 j = a10 j) →
        qf_row a4 b4 g (fun m => qw_V a1 a2 (c :: s) (fun F => if qc_p F = m then 1 else 0) M) → qf_row a5 b5 g (fun m => qw_V a1 a2 (c :: s) (fun F => if qc_p F = m then (qb_t F q).toNat else 0) M) →
        wX_fillGroup_65 post (nI g) p n2 (nI k) (nI r2) wn cv gc rs (nI l.length) (M ||| qb_1 c) dm df cs a1 a2 a3 b4 b5 a6 a7 a8 a9 b10 := by
      intro n2 r2 b4 b5 b10 hn2 hr2 hb hj h4 h5
      obtain ⟨n3, rfl⟩ : ∃ n3, n2 = n3 + 1 := ⟨n2 - 1, by omega⟩
      exact qf_p3 hnr hl hl20 har hg hq hk hMc0 (by omega) hb (H n3 (r2 + 1) b4 b5 b10 (by omega) (by show r2 + 1 ≤ r + (3 + 2 * qf_t s.length); omega) h4 h5 hj)
    -- the second visit
    have step2 : ∀ (n2 r2 : Nat) (b4 b5 b10 : Nat → Int32), 5000001 ≤ n2 + r2 → r2 ≤ r + 1 + qf_t s.length → b10 k = 1 → (∀ j, j < k → b10 j = a10 j) →
        qf_row a4 b4 g (fun m => if qw_st a1 a2 c M (qw_m s) then qw_V a1 a2 s (fun F => if qc_p F = m then 1 else 0) M else 0) →
        qf_row a5 b5 g (fun m => if qw_st a1 a2 c M (qw_m s) then qw_V a1 a2 s (fun F => if qc_p F = m then (qb_t F q).toNat else 0) M else 0) →
        wX_fillGroup_65 post (nI g) p n2 (nI k) (nI r2) wn cv gc rs (nI l.length) M dm df cs a1 a2 a3 b4 b5 a6 a7 a8 a9 b10 := by
      intro n2 r2 b4 b5 b10 hn2 hr2 hb hj h4 h5
      obtain ⟨n3, rfl⟩ : ∃ n3, n2 = n3 + 1 := ⟨n2 - 1, by omega⟩
      refine qf_p2 hnr hl hl20 har hg hq hk (by omega) hb (fun hst => ?_) (fun hst => ?_)
      · refine ih (k + 1) e2 (by omega) hnd'.2 (M ||| qb_1 c) b4 b5 _ n3 (r2 + 1) hM' hMs' (fun _ => pk_us) (by omega) (by omega) (fun n' r' b4' b5' b10' hn' hr' h4' h5' hj' => ?_)
        rw [pk_m1]
        refine step3 n' r' b4' b5' b10' hn' (by omega) ?_ (fun j hjk => ?_) (qf_rowC (qf_rowT h4 h4') (fun m => ?_)) (qf_rowC (qf_rowT h5 h5') (fun m => ?_))
        · rw [hj' k (by omega), pk_un (by omega), pk_us]
        · rw [hj' j (by omega), pk_un (by omega), pk_un (by omega)]; exact hj j hjk
        · show _ = (if qw_st a1 a2 c M (qw_m s) then _ else 0) + (if qw_st a1 a2 c (M ||| qb_1 c) (qw_m s) then _ else 0)
          rw [hst]; rfl
        · show _ = (if qw_st a1 a2 c M (qw_m s) then _ else 0) + (if qw_st a1 a2 c (M ||| qb_1 c) (qw_m s) then _ else 0)
          rw [hst]; rfl
      · refine step3 n3 (r2 + 1) b4 b5 _ (by omega) (by omega) pk_us (fun j hjk => ?_) (qf_rowC h4 (fun m => ?_)) (qf_rowC h5 (fun m => ?_))
        · rw [pk_un (by omega)]; exact hj j hjk
        · show _ = (if qw_st a1 a2 c M (qw_m s) then _ else 0) + (if qw_st a1 a2 c (M ||| qb_1 c) (qw_m s) then _ else 0)
          rw [hst]; rfl
        · show _ = (if qw_st a1 a2 c M (qw_m s) then _ else 0) + (if qw_st a1 a2 c (M ||| qb_1 c) (qw_m s) then _ else 0)
          rw [hst]; rfl
    obtain ⟨n1, rfl⟩ : ∃ n1, n = n1 + 1 := ⟨n - 1, by omega⟩
    refine qf_p1 hnr hl hl20 har hg hq hk hMc0 (by omega) (h0 (by simp)) (fun hst => ?_) (fun hst => ?_)
    · refine ih (k + 1) e2 (by omega) hnd'.2 M a4 a5 _ n1 (r + 1) hM hMs (fun _ => pk_us) (by omega) (by omega) (fun n' r' b4' b5' b10' hn' hr' h4' h5' hj' => ?_)
      rw [pk_m1]
      refine step2 n' r' b4' b5' b10' hn' (by omega) ?_ (fun j hjk => ?_) (qf_rowC h4' (fun m => ?_)) (qf_rowC h5' (fun m => ?_))
      · rw [hj' k (by omega), pk_un (by omega), pk_us]
      · rw [hj' j (by omega), pk_un (by omega), pk_un (by omega)]
      · rw [hst]; rfl
      · rw [hst]; rfl
    · refine step2 n1 (r + 1) a4 a5 _ (by omega) (by omega) pk_us (fun j hjk => pk_un (by omega)) (qf_row0 a4 g _ (fun m => ?_)) (qf_row0 a5 g _ (fun m => ?_))
      · rw [hst]; rfl
      · rw [hst]; rfl
/-- the rows of group g are 0, then the ways -/
theorem qx_fill12 {post : St1 → Prop} {wn cv gc rs mi dm df cs : Int32} {a1 a2 a3 a4 a5 a6 a7 a8 a9 a10 : Nat → Int32} (hnr : qx_nr a2) {l : List Nat} (hl : l.length ≤ 20) (hl20 : ∀ c, c ∈ l → c < 20) (har : qf_ar a9 l) {g q : Nat} (hg : g < 20) {p : Int32} (hq : qf_q p q) (hnd : l.Nodup)
    (H : ∀ mi' a4' a5' a10', (∀ n, n ≤ 20 → a4' (21 * g + n) = nI (qw_V a1 a2 l (fun F => if qc_p F = n then 1 else 0) 0)) → (∀ n, n ≤ 20 → a5' (21 * g + n) = nI (qw_V a1 a2 l (fun F => if qc_p F = n then (qb_t F q).toNat else 0) 0)) → post (wn, cv, gc, rs, (nI l.length), mi', dm, df, cs, a1, a2, a3, a4', a5', a6, a7, a8, a9, a10')) :
    ∃ fu, wX_fillGroup_12 post (nI g) p wn cv gc rs (nI l.length) mi dm df cs fu 0 a1 a2 a3 a4 a5 a6 a7 a8 a9 a10 := by
  refine pk_loop (σ := (Nat → Int32) × (Nat → Int32)) (fun n i s => wX_fillGroup_12 post (nI g) p wn cv gc rs (nI l.length) mi dm df cs n (nI i) a1 a2 a3 s.1 s.2 a6 a7 a8 a9 a10)
    (fun i s => (∀ n, n < i → s.1 (21 * g + n) = 0) ∧ (∀ n, n < i → s.2 (21 * g + n) = 0)) 21 0 (a4, a5) (by omega) ⟨fun j hj => absurd hj (by omega), fun j hj => absurd hj (by omega)⟩ ?_ ?_
  · intro n s ⟨h4, h5⟩
    obtain ⟨N, hN⟩ : ∃ N : Nat, N = 5000001 := ⟨_, rfl⟩
    have ht := qf_t20 hl
    refine pk_le 21 21 (fun _ => nm_e ⟨N, ?_⟩) (fun z => absurd z (by omega))
    refine qf_sub hnr hl hl20 har hg hq l 0 rfl (by omega) hnd 0 s.1 s.2 (upd a10 0 0) N 0 qb_s0 (fun c _ => qb_0 c) (fun _ => pk_us) (by omega) (by omega) (fun n' r' a4' a5' a10' hn' hr' h4' h5' _ => ?_)
    obtain ⟨n1, rfl⟩ : ∃ n1, n' = n1 + 1 := ⟨n' - 1, by omega⟩
    refine pk_le 5000000 r' (fun z => absurd z (by omega)) (fun _ => br_t (show nI 0 + (-1) < 0 by decide) (H _ a4' a5' a10' (fun m hm => ?_) (fun m hm => ?_)))
    · rw [h4' m hm, h4 m (by omega), Int32.zero_add]
    · rw [h5' m hm, h5 m (by omega), Int32.zero_add]
  · intro n i s hi ⟨h4, h5⟩ hw
    have e : (21 * nI g) + nI i = nI (21 * g + i) := by rw [show (21 : Int32) = nI 21 from rfl, pk_mul, nI_add]
    refine pk_le 21 i (fun z => absurd z (by omega)) (fun _ => ?_)
    rw [e, nI_clamp (show 21 * g + i < 2 ^ 31 by omega)]
    refine ⟨pk_in (21 * g + i) 420 (by omega), nm_e ⟨pk_in (21 * g + i) 420 (by omega), nm_e (nm_r (nI_1 i) (hw (_, _) ⟨fun m hm => ?_, fun m hm => ?_⟩))⟩⟩
    · show upd s.1 (21 * g + i) 0 (21 * g + m) = 0
      by_cases z : m = i
      · subst z; exact pk_us
      · rw [pk_un (by omega)]; exact h4 m (by omega)
    · show upd s.2 (21 * g + i) 0 (21 * g + m) = 0
      by_cases z : m = i
      · subst z; exact pk_us
      · rw [pk_un (by omega)]; exact h5 m (by omega)
/-- the ways of group g, by mines -/
theorem qx_fill {post : St1 → Prop} {wn cv gc rs ce mi dm df cs : Int32} {a1 a2 a3 a4 a5 a6 a7 a8 a9 a10 : Nat → Int32} (hnr : qx_nr a2) (hv : qw_v a1) {g q : Nat} (hg : g < 20) {p : Int32} (hq : qf_q p q) (hG : qb_le (a3 g) cv) (hcv : qb_s cv)
    (H : ∀ ce' mi' a4' a5' a9' a10', (∀ n, n ≤ 20 → a4' (21 * g + n) = nI (qs_P (qs_c (a3 g)) (fun F => (qw_g a1 a2 cv (a3 g) F).toNat) n)) →
      (∀ n, n ≤ 20 → a5' (21 * g + n) = nI (qs_P (qs_c (a3 g)) (fun F => (qw_g a1 a2 cv (a3 g) F && qb_t F q).toNat) n)) → post (wn, cv, gc, rs, ce', mi', dm, df, cs, a1, a2, a3, a4', a5', a6, a7, a8, a9', a10')) : wpX_fillGroup post (wn, cv, gc, rs, ce, mi, dm, df, cs, a1, a2, a3, a4, a5, a6, a7, a8, a9, a10) (nI g) p := by
  unfold wpX_fillGroup; dsimp only
  rw [nI_clamp (show g < 2 ^ 31 by omega)]
  have hs : qb_s (a3 g) := qb_sle hG hcv
  refine ⟨pk_in g 20 hg, qx_list (fun a9' har => ?_)⟩
  refine qx_fill12 hnr (by rw [qs_clen]; exact qc_ple _) (fun c hc => (qs_mem.mp hc).1) har hg hq (qs_nd _) (fun mi' a4' a5' a10' h4 h5 => H _ mi' a4' a5' a9' a10' (fun n hn => ?_) (fun n hn => ?_))
  · rw [h4 n hn]
    have := qw_VP (cl := a1) (nr := a2) hv hG hs n (fun _ => true)
    simp only [Bool.and_true] at this
    rw [← this]; rfl
  · rw [h5 n hn, qw_VP hv hG hs n (fun F => qb_t F q)]
end
section
/-! ===== lonely clues ===== -/
theorem qx_empty {post : Int32 → Prop} {wn cv gc rs ce mi dm df cs : Int32} {a1 a2 a3 a4 a5 a6 a7 a8 a9 a10 : Nat → Int32} (H1 : qw_e a1 a2 cv = true → post 1) (H0 : qw_e a1 a2 cv = false → post 0) : wpX_emptyCluesGood post (wn, cv, gc, rs, ce, mi, dm, df, cs, a1, a2, a3, a4, a5, a6, a7, a8, a9, a10) := by
  have K1 : (∀ d, d < 20 → ¬ a1 d = -1 → (a2 d &&& cv) = 0 → a1 d = 0) → post 1 := fun h => H1 (qw_dt.mpr h)
  have K0 : (¬ ∀ d, d < 20 → ¬ a1 d = -1 → (a2 d &&& cv) = 0 → a1 d = 0) → post 0 := fun h => H0 (qb_nt (fun z => h (qw_dt.mp z)))
  refine pk_loop (σ := Int32) (fun n i s => wX_emptyCluesGood_4 post wn cv gc rs ce mi dm df cs a1 a2 a3 a4 a5 a6 a7 a8 a9 a10 n s (nI i)) (fun i s => (s = 1 ∧ ∀ d, d < i → ¬ a1 d = -1 → (a2 d &&& cv) = 0 → a1 d = 0) ∨ (s = 0 ∧ ¬ ∀ d, d < 20 → ¬ a1 d = -1 → (a2 d &&& cv) = 0 → a1 d = 0)) 20 0 1 (by omega) (Or.inl ⟨rfl, fun d hd => absurd hd (by omega)⟩) ?_ ?_
  · intro n s h
    refine pk_le 20 20 (fun _ => ?_) (fun z => absurd z (by omega))
    rcases h with ⟨rfl, h⟩ | ⟨rfl, h⟩
    · exact ⟨qf_nb1, K1 h⟩
    · exact ⟨qf_nb0, K0 h⟩
  · intro n i s hi h hw
    refine pk_le 20 i (fun z => absurd z (by omega)) (fun _ => ⟨pk_in i 20 hi, ?_⟩)
    rw [nI_clamp (show i < 2 ^ 31 by omega)]
    rcases h with ⟨rfl, h⟩ | ⟨rfl, h⟩
    · have good : (¬ a1 i = -1 → (a2 i &&& cv) = 0 → a1 i = 0) → wX_emptyCluesGood_4 post wn cv gc rs ce mi dm df cs a1 a2 a3 a4 a5 a6 a7 a8 a9 a10 n 1 (nI (i + 1)) := fun g => hw 1 (Or.inl ⟨rfl, lt_s h g⟩)
      have h38 : (¬ a1 i = -1 → (a2 i &&& cv) = 0 → a1 i = 0) → wX_emptyCluesGood_38 post (wX_emptyCluesGood_4 post wn cv gc rs ce mi dm df cs a1 a2 a3 a4 a5 a6 a7 a8 a9 a10 n) 1 (nI i) wn cv gc rs ce mi dm df cs a1 a2 a3 a4 a5 a6 a7 a8 a9 a10 := fun g => br_f (by decide) (br_t rfl (nm_r (nI_1 i) (good g)))
      refine br_c (fun e => h38 (fun z => absurd e z)) (fun e => ⟨pk_in i 20 hi, br_c (fun e2 => br_f (by decide) (br_f (by decide) ⟨pk_in i 20 hi, ?_⟩)) (fun e2 => h38 (fun _ z => absurd z e2))⟩)
      rw [nI_clamp (show i < 2 ^ 31 by omega)]
      exact br_c (fun e3 => nm_r (nI_1 i) (good (fun _ _ => e3))) (fun e3 => nm_r (nI_1 i) (hw 0 (Or.inr ⟨rfl, fun z => e3 (z i hi e e2)⟩)))
    · have bad : ∀ z0, wX_emptyCluesGood_39 post (wX_emptyCluesGood_4 post wn cv gc rs ce mi dm df cs a1 a2 a3 a4 a5 a6 a7 a8 a9 a10 n) 0 (nI i) z0 wn cv gc rs ce mi dm df cs a1 a2 a3 a4 a5 a6 a7 a8 a9 a10 := fun z0 => br_t rfl (nm_r (nI_1 i) (hw 0 (Or.inr ⟨rfl, h⟩)))
      exact br_c (fun _ => bad 0) (fun _ => ⟨pk_in i 20 hi, br_c (fun _ => bad 1) (fun _ => bad 0)⟩)
/-! ===== sums of products, place by place ===== -/
def qj_p (A B : Nat → Nat) (n i j : Nat) : Nat := qr_s (fun a => if a ≤ j then A a * B (j - a) else 0) n + if n ≤ j ∧ j < n + i then A n * B (j - n) else 0
def qj_is (a : Nat → Int32) (A : Nat → Nat) : Prop := ∀ j, j ≤ 20 → a j = nI (A j)
theorem qj_step {A B : Nat → Nat} {n i : Nat} {a : Nat → Int32} (h : qj_is a (qj_p A B n i)) (hi : n + i ≤ 20) : qj_is (upd a (n + i) (a (n + i) + nI (A n) * nI (B i))) (qj_p A B n (i + 1)) := by
  intro j hj
  by_cases e : j = n + i
  · subst e
    rw [pk_us, h _ hj, pk_mul, nI_add]
    unfold qj_p
    rw [if_neg (by omega), if_pos (by omega), show n + i - n = i by omega, Nat.add_zero]
  · rw [pk_un e, h j hj]
    unfold qj_p
    by_cases z : n ≤ j ∧ j < n + i
    · rw [if_pos z, if_pos (by omega)]
    · rw [if_neg z, if_neg (by omega)]
theorem qj_end {A B : Nat → Nat} {n i : Nat} {a : Nat → Int32} (h : qj_is a (qj_p A B n i)) (hz : ∀ j, j ≤ 20 → n + i ≤ j → B (j - n) = 0) : qj_is a (qj_p A B (n + 1) 0) := by
  intro j hj
  rw [h j hj]
  unfold qj_p
  show nI (qr_s _ n + _) = nI ((qr_s _ n + if n ≤ j then A n * B (j - n) else 0) + _)
  rw [if_neg (show ¬ (n + 1 ≤ j ∧ j < n + 1 + 0) by omega), Nat.add_zero]
  by_cases z : n ≤ j
  · rw [if_pos z]
    by_cases y : j < n + i
    · rw [if_pos ⟨z, y⟩]
    · rw [if_neg (by omega), hz j hj (by omega), Nat.mul_zero]
  · rw [if_neg z, if_neg (by omega)]
theorem qj_fin {A B : Nat → Nat} {a : Nat → Int32} (h : qj_is a (qj_p A B 21 0)) : qj_is a (qw_cv A B) := by
  intro j hj
  rw [h j hj]
  unfold qj_p qw_cv
  rw [if_neg (by omega), Nat.add_zero]
  have : ∀ k, j + 1 ≤ k → qr_s (fun a => if a ≤ j then A a * B (j - a) else 0) k = qr_s (fun a => A a * B (j - a)) (j + 1) := by
    intro k hk
    induction k with
    | zero => omega
    | succ k ih =>
      by_cases e : k = j
      · subst e
        exact qr_congr (fun i hi => if_pos (by omega))
      · show qr_s _ k + (if k ≤ j then _ else 0) = _
        rw [ih (by omega), if_neg (by omega), Nat.add_zero]
  rw [this 21 (by omega)]
theorem qj_0 {A B : Nat → Nat} {a : Nat → Int32} (h : ∀ j, j < 21 → a j = 0) : qj_is a (qj_p A B 0 0) := by
  intro j hj
  rw [h j (by omega)]
  unfold qj_p
  rw [if_neg (by omega)]; rfl
theorem qj_from {A B : Nat → Nat} {n f : Nat} {a : Nat → Int32} (h : qj_is a (qj_p A B n 0)) (hB : ∀ i, i < f → B i = 0) : qj_is a (qj_p A B n f) := by
  intro j hj
  rw [h j hj]
  unfold qj_p
  rw [if_neg (by omega)]
  by_cases z : n ≤ j ∧ j < n + f
  · rw [if_pos z, hB _ (by omega), Nat.mul_zero]
  · rw [if_neg z]
/-! ===== joinWays ===== -/
theorem qx_jw116 {post : St1 → Prop} {wn cv gc rs ce mi dm df cs : Int32} {a1 a2 a3 a4 a5 a6 a7 a8 a9 a10 : Nat → Int32} {A : Nat → Nat} (h7 : qj_is a7 A) (H : ∀ a6', qj_is a6' A → post (wn, cv, gc, rs, ce, mi, dm, df, cs, a1, a2, a3, a4, a5, a6', a7, a8, a9, a10)) : ∃ fu, wX_joinWays_116 post wn cv gc rs ce mi dm df cs fu 0 a1 a2 a3 a4 a5 a6 a7 a8 a9 a10 := by
  refine pk_loop (σ := Nat → Int32) (fun n i s => wX_joinWays_116 post wn cv gc rs ce mi dm df cs n (nI i) a1 a2 a3 a4 a5 s a7 a8 a9 a10) (fun i s => ∀ j, j < i → s j = a7 j) 21 0 a6 (by omega) (fun j hj => absurd hj (by omega)) ?_ ?_
  · intro n s h
    exact pk_le 21 21 (fun _ => H s (fun j hj => by rw [h j (by omega), h7 j hj])) (fun z => absurd z (by omega))
  · intro n i s hi h hw
    refine pk_le 21 i (fun z => absurd z (by omega)) (fun _ => ⟨pk_in i 21 hi, pk_in i 21 hi, nm_r (e' := upd s i (a7 i)) (by rw [nI_clamp (by omega)]) (nm_r (nI_1 i) (hw _ (fun j hj => ?_)))⟩)
    by_cases e : j = i
    · subst e; exact pk_us
    · rw [pk_un e]; exact h j (by omega)
theorem qx_jw32 {post : St1 → Prop} {J : Int32 → (Nat → Int32) → (Nat → Int32) → (Nat → Int32) → (Nat → Int32) → (Nat → Int32) → (Nat → Int32) → (Nat → Int32) → (Nat → Int32) → (Nat → Int32) → (Nat → Int32) → Prop} {wn cv gc rs ce mi dm df cs : Int32} {a1 a2 a3 a4 a5 a6 a7 a8 a9 a10 : Nat → Int32} {g : Nat} (hg : g < 20) {w : Int32} {A B : Nat → Nat} (h6 : qj_is a6 A)
    (hB : (w = 0 ∧ ∀ m, m ≤ 20 → a4 (21 * g + m) = nI (B m)) ∨ (¬ w = 0 ∧ ∀ m, m ≤ 20 → a5 (21 * g + m) = nI (B m))) {n : Nat} (hn : n ≤ 20) (h7 : qj_is a7 (qj_p A B n 0))
    (H : ∀ a7', qj_is a7' (qj_p A B (n + 1) 0) → J (nI (n + 1)) a1 a2 a3 a4 a5 a6 a7' a8 a9 a10) : ∃ fu, wX_joinWays_32 post J (nI g) w (nI n) wn cv gc rs ce mi dm df cs fu 0 a1 a2 a3 a4 a5 a6 a7 a8 a9 a10 := by
  refine pk_loop (σ := Nat → Int32) (fun k i s => wX_joinWays_32 post J (nI g) w (nI n) wn cv gc rs ce mi dm df cs k (nI i) a1 a2 a3 a4 a5 a6 s a8 a9 a10) (fun i s => qj_is s (qj_p A B n i)) (21 - n) 0 a7 (by omega) h7 ?_ ?_
  · intro k s h
    exact pk_le 21 (21 - n + n) (fun _ => nm_r (nI_1 n) (H s (qj_end h (fun j h1 h2 => by omega)))) (fun z => absurd z (by omega)) rfl (nI_add _ _)
  · intro k i s hi h hw
    have e : (21 * nI g) + nI i = nI (21 * g + i) := by rw [show (21 : Int32) = nI 21 from rfl, pk_mul, nI_add]
    have h72 : ∀ z, z = nI (B i) → wX_joinWays_72 post J (wX_joinWays_32 post J (nI g) w (nI n) wn cv gc rs ce mi dm df cs k) (nI g) w (nI n) (nI i) z wn cv gc rs ce mi dm df cs a1 a2 a3 a4 a5 a6 s a8 a9 a10 := by
      intro z hz
      unfold wX_joinWays_72
      rw [nI_add, nI_clamp (show n + i < 2 ^ 31 by omega), nI_clamp (show n < 2 ^ 31 by omega), h6 n hn, hz]
      exact ⟨pk_in (n + i) 21 (by omega), pk_in n 21 (by omega), pk_in (n + i) 21 (by omega), nm_e (nm_r (nI_1 i) (hw _ (qj_step h (by omega))))⟩
    refine pk_le 21 (i + n) (fun z => absurd z (by omega)) (fun _ => ?_) rfl (nI_add _ _)
    rw [e, nI_clamp (show 21 * g + i < 2 ^ 31 by omega)]
    rcases hB with ⟨hw0, hB⟩ | ⟨hw0, hB⟩
    · exact br_t hw0 ⟨pk_in (21 * g + i) 420 (by omega), h72 _ (hB i (by omega))⟩
    · exact br_f hw0 ⟨pk_in (21 * g + i) 420 (by omega), h72 _ (hB i (by omega))⟩
theorem qx_joinWays {post : St1 → Prop} {wn cv gc rs ce mi dm df cs : Int32} {a1 a2 a3 a4 a5 a6 a7 a8 a9 a10 : Nat → Int32} {g : Nat} (hg : g < 20) {w : Int32} {A B : Nat → Nat} (h6 : qj_is a6 A)
    (hB : (w = 0 ∧ ∀ m, m ≤ 20 → a4 (21 * g + m) = nI (B m)) ∨ (¬ w = 0 ∧ ∀ m, m ≤ 20 → a5 (21 * g + m) = nI (B m)))
    (H : ∀ a6' a7', qj_is a6' (qw_cv A B) → post (wn, cv, gc, rs, ce, mi, dm, df, cs, a1, a2, a3, a4, a5, a6', a7', a8, a9, a10)) : wpX_joinWays post (wn, cv, gc, rs, ce, mi, dm, df, cs, a1, a2, a3, a4, a5, a6, a7, a8, a9, a10) (nI g) w := by
  refine pk_loop (σ := Nat → Int32) (fun n i s => wX_joinWays_2 post (nI g) w wn cv gc rs ce mi dm df cs n (nI i) a1 a2 a3 a4 a5 a6 s a8 a9 a10) (fun i s => ∀ j, j < i → s j = 0) 21 0 a7 (by omega) (fun j hj => absurd hj (by omega)) ?_ ?_
  · intro n s h
    refine pk_le 21 21 (fun _ => ?_) (fun z => absurd z (by omega))
    refine pk_loop (σ := Nat → Int32) (fun n i s => wX_joinWays_23 post (nI g) w wn cv gc rs ce mi dm df cs n (nI i) a1 a2 a3 a4 a5 a6 s a8 a9 a10) (fun i s => qj_is s (qj_p A B i 0)) 21 0 s (by omega) (qj_0 h) ?_ ?_
    · intro n s h
      exact pk_le 21 21 (fun _ => qx_jw116 (qj_fin h) (fun a6' h' => H a6' s h')) (fun z => absurd z (by omega))
    · intro n i s hi h hw
      exact pk_le 21 i (fun z => absurd z (by omega)) (fun _ => qx_jw32 hg h6 hB (by omega) h (fun a7' h' => hw a7' h'))
  · intro n i s hi h hw
    refine pk_le 21 i (fun z => absurd z (by omega)) (fun _ => ⟨pk_in i 21 hi, nm_r (e' := upd s i 0) (by rw [nI_clamp (by omega)]) (nm_r (nI_1 i) (hw _ (fun j hj => ?_)))⟩)
    by_cases e : j = i
    · subst e; exact pk_us
    · rw [pk_un e]; exact h j (by omega)
/-! ===== joinRest ===== -/
theorem qx_jr116 {post : St1 → Prop} {wn cv gc rs ce mi dm df cs : Int32} {a1 a2 a3 a4 a5 a6 a7 a8 a9 a10 : Nat → Int32} {A : Nat → Nat} (h7 : qj_is a7 A) (H : ∀ a6', qj_is a6' A → post (wn, cv, gc, rs, ce, mi, dm, df, cs, a1, a2, a3, a4, a5, a6', a7, a8, a9, a10)) : ∃ fu, wX_joinRest_116 post wn cv gc rs ce mi dm df cs fu 0 a1 a2 a3 a4 a5 a6 a7 a8 a9 a10 := by
  refine pk_loop (σ := Nat → Int32) (fun n i s => wX_joinRest_116 post wn cv gc rs ce mi dm df cs n (nI i) a1 a2 a3 a4 a5 s a7 a8 a9 a10) (fun i s => ∀ j, j < i → s j = a7 j) 21 0 a6 (by omega) (fun j hj => absurd hj (by omega)) ?_ ?_
  · intro n s h
    exact pk_le 21 21 (fun _ => H s (fun j hj => by rw [h j (by omega), h7 j hj])) (fun z => absurd z (by omega))
  · intro n i s hi h hw
    refine pk_le 21 i (fun z => absurd z (by omega)) (fun _ => ⟨pk_in i 21 hi, pk_in i 21 hi, nm_r (e' := upd s i (a7 i)) (by rw [nI_clamp (by omega)]) (nm_r (nI_1 i) (hw _ (fun j hj => ?_)))⟩)
    by_cases e : j = i
    · subst e; exact pk_us
    · rw [pk_un e]; exact h j (by omega)
def qj_B (f z : Nat) (i : Nat) : Nat := if f ≤ i then qs_b z (i - f) else 0
theorem qx_jr43 {post : St1 → Prop} {J : Int32 → (Nat → Int32) → (Nat → Int32) → (Nat → Int32) → (Nat → Int32) → (Nat → Int32) → (Nat → Int32) → (Nat → Int32) → (Nat → Int32) → (Nat → Int32) → (Nat → Int32) → Prop} {wn cv gc rs ce mi dm df cs : Int32} {a1 a2 a3 a4 a5 a6 a7 a8 a9 a10 : Nat → Int32} (hch : qx_ch a8) {f z : Nat} (hf : f ≤ 1) (hz : z ≤ 20) {A : Nat → Nat} (h6 : qj_is a6 A)
    {n : Nat} (hn : n ≤ 20) (h7 : qj_is a7 (qj_p A (qj_B f z) n 0))
    (H : ∀ a7', qj_is a7' (qj_p A (qj_B f z) (n + 1) 0) → J (nI (n + 1)) a1 a2 a3 a4 a5 a6 a7' a8 a9 a10) : ∃ fu, wX_joinRest_43 post J (nI f) (nI z) (nI n) wn cv gc rs ce mi dm df cs fu 0 a1 a2 a3 a4 a5 a6 a7 a8 a9 a10 := by
  refine pk_loop (σ := Nat → Int32) (fun k i s => wX_joinRest_43 post J (nI f) (nI z) (nI n) wn cv gc rs ce mi dm df cs k (nI i) a1 a2 a3 a4 a5 a6 s a8 a9 a10) (fun i s => qj_is s (qj_p A (qj_B f z) n (i + f))) (z + 1) 0 a7 (by omega) (by rw [Nat.zero_add]; exact qj_from h7 (fun i hi => if_neg (by omega))) ?_ ?_
  · intro k s h
    refine pk_lt z (z + 1) (fun _ => nm_r (nI_1 n) (H s (qj_end h (fun j h1 h2 => ?_)))) (fun y => absurd y (by omega))
    unfold qj_B
    rw [if_pos (by omega), qs_bz (by omega)]
  · intro k i s hi h hw
    have e0 : nI i + nI n + nI f = nI (i + n + f) := by rw [nI_add, nI_add]
    have e1 : nI n + nI i + nI f = nI (n + (i + f)) := by rw [nI_add, nI_add, Nat.add_assoc]
    have e2 : (21 * nI z) + nI i = nI (21 * z + i) := by rw [show (21 : Int32) = nI 21 from rfl, pk_mul, nI_add]
    refine pk_lt z i (fun y => absurd y (by omega)) (fun _ => pk_le 21 (i + n + f) (fun y => nm_r (nI_1 n) (H s (qj_end h (fun j h1 h2 => by omega)))) (fun y => ?_) rfl e0)
    rw [e1, e2, nI_clamp (show n + (i + f) < 2 ^ 31 by omega), nI_clamp (show n < 2 ^ 31 by omega), nI_clamp (show 21 * z + i < 2 ^ 31 by omega), h6 n hn, hch z i hz (by omega)]
    refine ⟨pk_in (n + (i + f)) 21 (by omega), pk_in n 21 (by omega), pk_in (21 * z + i) 441 (by omega), pk_in (n + (i + f)) 21 (by omega), nm_e (nm_r (nI_1 i) (hw _ ?_))⟩
    have h' := qj_step h (show n + (i + f) ≤ 20 by omega)
    have eB : qj_B f z (i + f) = qs_b z i := by
      unfold qj_B
      rw [if_pos (by omega), show i + f - f = i by omega]
    rw [eB] at h'
    rw [show i + 1 + f = i + f + 1 by omega]
    exact h'
theorem qx_joinRest {post : St1 → Prop} {wn cv gc rs ce mi dm df cs : Int32} {a1 a2 a3 a4 a5 a6 a7 a8 a9 a10 : Nat → Int32} (hch : qx_ch a8) {f : Nat} (hf : f ≤ 1) (hR : qb_s rs) (hfR : f ≤ qc_p rs) {A : Nat → Nat} (h6 : qj_is a6 A)
    (H : ∀ a6' a7', qj_is a6' (qw_cv A (qj_B f (qc_p rs - f))) → post (wn, cv, gc, rs, ce, mi, dm, df, cs, a1, a2, a3, a4, a5, a6', a7', a8, a9, a10)) : wpX_joinRest post (wn, cv, gc, rs, ce, mi, dm, df, cs, a1, a2, a3, a4, a5, a6, a7, a8, a9, a10) (nI f) := by
  unfold wpX_joinRest; dsimp only
  refine qx_bits hR ?_
  have hp := qc_ple rs
  refine nm_r (pk_sub hfR) ?_
  refine pk_loop (σ := Nat → Int32) (fun n i s => wX_joinRest_13 post (nI f) (nI (qc_p rs - f)) wn cv gc rs ce mi dm df cs n (nI i) a1 a2 a3 a4 a5 a6 s a8 a9 a10) (fun i s => ∀ j, j < i → s j = 0) 21 0 a7 (by omega) (fun j hj => absurd hj (by omega)) ?_ ?_
  · intro n s h
    refine pk_le 21 21 (fun _ => ?_) (fun z => absurd z (by omega))
    refine pk_loop (σ := Nat → Int32) (fun n i s => wX_joinRest_34 post (nI f) (nI (qc_p rs - f)) wn cv gc rs ce mi dm df cs n (nI i) a1 a2 a3 a4 a5 a6 s a8 a9 a10) (fun i s => qj_is s (qj_p A (qj_B f (qc_p rs - f)) i 0)) 21 0 s (by omega) (qj_0 h) ?_ ?_
    · intro n s h
      exact pk_le 21 21 (fun _ => qx_jr116 (qj_fin h) (fun a6' h' => H a6' s h')) (fun z => absurd z (by omega))
    · intro n i s hi h hw
      exact pk_le 21 i (fun z => absurd z (by omega)) (fun _ => qx_jr43 hch hf (by omega) h6 (by omega) h (fun a7' h' => hw a7' h'))
  · intro n i s hi h hw
    refine pk_le 21 i (fun z => absurd z (by omega)) (fun _ => ⟨pk_in i 21 hi, nm_r (e' := upd s i 0) (by rw [nI_clamp (by omega)]) (nm_r (nI_1 i) (hw _ (fun j hj => ?_)))⟩)
    by_cases e : j = i
    · subst e; exact pk_us
    · rw [pk_un e]; exact h j (by omega)
end
section
/-! ===== all groups together ===== -/
theorem qk_rest0 {R : Int32} {q : Nat} (h : qb_t R q = false) : qs_P (qs_c R) (fun F => (qw_q R q F).toNat) = qj_B 0 (qc_p R - 0) := by
  funext n
  have e : (fun F => (qw_q R q F).toNat) = (fun _ => 1) := by
    funext F
    unfold qw_q
    rw [h]; rfl
  rw [e, qs_Prest]
  unfold qj_B
  rw [if_pos (Nat.zero_le n)]; rfl
theorem qk_rest1 {R : Int32} {q : Nat} (hq : q < 20) (h : qb_t R q = true) : qs_P (qs_c R) (fun F => (qw_q R q F).toNat) = qj_B 1 (qc_p R - 1) := by
  funext n
  have e : (fun F => (qw_q R q F).toNat) = (fun F => (qb_t F q).toNat) := by
    funext F
    unfold qw_q
    rw [h]; rfl
  rw [e, qs_Prestq hq h]
  rfl
theorem qk_is {a : Nat → Int32} {A B : Nat → Nat} (h : qj_is a A) (e : ∀ n, A n = B n) : qj_is a B := fun j hj => by rw [h j hj, e j]
theorem qx_ca117 {post : St1 → Prop} {wn cv gc rs ce mi dm df cs : Int32} {a1 a2 a3 a4 a5 a6 a7 a8 a9 a10 : Nat → Int32} (hnr : qx_nr a2) (hch : qx_ch a8) (hv : qw_v a1) (hcv : qb_s cv) {q m : Nat} (hok : qw_ok a1 a2 cv a3 m) (hrs : rs = cv &&& (qw_E a1 a2 cv 20 ^^^ (-1))) (h6 : qj_is a6 (qw_A a1 a2 cv q (qw_U a3 m))) {f : Nat} (hf : (f = 0 ∧ qb_t rs q = false) ∨ (f = 1 ∧ q < 20 ∧ qb_t rs q = true))
    (H : ∀ a6' a7', qj_is a6' (qw_T a1 a2 cv q) → post (wn, cv, gc, rs, ce, mi, dm, df, cs, a1, a2, a3, a4, a5, a6', a7', a8, a9, a10)) : wX_countAll_117 post (nI f) wn cv gc rs ce mi dm df cs a1 a2 a3 a4 a5 a6 a7 a8 a9 a10 := by
  have hR : qb_s rs := by rw [hrs]; exact qb_sand _ hcv
  unfold wX_countAll_117
  have hT := qw_T1 q hok
  rw [← hrs] at hT
  rcases hf with ⟨rfl, hb⟩ | ⟨rfl, hq, hb⟩
  · rw [qk_rest0 hb] at hT
    exact qx_joinRest hch (by omega) hR (by omega) h6 (fun a6' a7' h => H a6' a7' (qk_is h (fun n => (hT n).symm)))
  · rw [qk_rest1 hq hb] at hT
    have h1 : 1 ≤ qc_p rs := by
      have : qc_p (qb_1 q) ≤ qc_p rs := qc_pmono (fun i hi => by rw [qb_1t (by omega), decide_eq_true_iff] at hi; rw [hi]; exact hb)
      rw [qc_p1 hq] at this; exact this
    exact qx_joinRest hch (by omega) hR h1 h6 (fun a6' a7' h => H a6' a7' (qk_is h (fun n => (hT n).symm)))
theorem qk_row0 {cl nr : Nat → Int32} {cv G : Int32} {q : Nat} (h : qb_t G q = false) : (fun F => (qw_g cl nr cv G F).toNat) = qw_w cl nr cv q G := by
  funext F
  unfold qw_w qw_q
  rw [h]; simp
theorem qk_row1 {cl nr : Nat → Int32} {cv G : Int32} {q : Nat} (h : qb_t G q = true) : (fun F => (qw_g cl nr cv G F && qb_t F q).toNat) = qw_w cl nr cv q G := by
  funext F
  unfold qw_w qw_q
  rw [h]; simp
theorem qx_ca85 {post : St1 → Prop} {J : Int32 → Int32 → Int32 → Int32 → Int32 → Int32 → Int32 → Int32 → Int32 → Int32 → (Nat → Int32) → (Nat → Int32) → (Nat → Int32) → (Nat → Int32) → (Nat → Int32) → (Nat → Int32) → (Nat → Int32) → (Nat → Int32) → (Nat → Int32) → (Nat → Int32) → Prop} {wn cv gc rs ce mi dm df cs : Int32} {a1 a2 a3 a4 a5 a6 a7 a8 a9 a10 : Nat → Int32} {p w : Int32} {g : Nat} (hg : g < 20) {A B : Nat → Nat} (h6 : qj_is a6 A)
    (hB : (w = 0 ∧ ∀ m, m ≤ 20 → a4 (21 * g + m) = nI (B m)) ∨ (¬ w = 0 ∧ ∀ m, m ≤ 20 → a5 (21 * g + m) = nI (B m)))
    (H : ∀ a6' a7', qj_is a6' (qw_cv A B) → J (nI (g + 1)) wn cv gc rs ce mi dm df cs a1 a2 a3 a4 a5 a6' a7' a8 a9 a10) : wX_countAll_85 post J p (nI g) w (nI g) wn cv gc rs ce mi dm df cs a1 a2 a3 a4 a5 a6 a7 a8 a9 a10 := by
  unfold wX_countAll_85
  exact qx_joinWays hg h6 hB (fun a6' a7' h => nm_r (nI_1 g) (H a6' a7' h))
theorem qx_ca45 {post : St1 → Prop} {wn cv rs ce mi dm df cs : Int32} {a1 a2 a3 a4 a5 a6 a7 a8 a9 a10 : Nat → Int32} (hnr : qx_nr a2) (hch : qx_ch a8) (hv : qw_v a1) (hcv : qb_s cv) {p : Int32} {q : Nat} (hq : qf_q p q) {m : Nat} (hok : qw_ok a1 a2 cv a3 m) (hrs : rs = cv &&& (qw_E a1 a2 cv 20 ^^^ (-1))) (h6 : qj_is a6 (qw_A a1 a2 cv q 0))
    (H : ∀ (gc' rs' ce' mi' dm' df' cs' : Int32) (a3' a4' a5' a6' a7' a9' a10' : Nat → Int32), qj_is a6' (qw_T a1 a2 cv q) → post (wn, cv, gc', rs', ce', mi', dm', df', cs', a1, a2, a3', a4', a5', a6', a7', a8, a9', a10')) : ∃ fu, wX_countAll_45 post p fu 0 wn cv (nI m) rs ce mi dm df cs a1 a2 a3 a4 a5 a6 a7 a8 a9 a10 := by
  have hm := hok.1
  refine pk_loop (σ := Int32 × Int32 × (Nat → Int32) × (Nat → Int32) × (Nat → Int32) × (Nat → Int32) × (Nat → Int32) × (Nat → Int32))
    (fun n i s => wX_countAll_45 post p n (nI i) wn cv (nI m) rs s.1 s.2.1 dm df cs a1 a2 a3 s.2.2.1 s.2.2.2.1 s.2.2.2.2.1 s.2.2.2.2.2.1 a8 s.2.2.2.2.2.2.1 s.2.2.2.2.2.2.2)
    (fun i s => qj_is s.2.2.2.2.1 (qw_A a1 a2 cv q (qw_U a3 i))) m 0 (ce, mi, a4, a5, a6, a7, a9, a10) (by omega) h6 ?_ ?_
  · rintro n ⟨ce, mi, a4, a5, a6, a7, a9, a10⟩ h
    dsimp only at h ⊢
    refine pk_le m m (fun _ => ?_) (fun z => absurd z (by omega))
    rcases hq with ⟨rfl, rfl⟩ | ⟨rfl, hq⟩
    · exact br_t rfl (qx_ca117 (f := 0) hnr hch hv hcv hok hrs h (Or.inl ⟨rfl, qb_big (Nat.le_refl 32)⟩) (fun a6' a7' h' => H _ _ _ _ _ _ _ _ _ _ _ _ _ _ h'))
    · refine br_f (fun z => ?_) (qx_has (show q < 32 by omega) (fun hb => ?_) (fun hb => ?_))
      · have h1 := nI_pos (n := q) (by omega)
        rw [z] at h1
        exact h1 (by decide)
      · exact br_f (by decide) (qx_ca117 (f := 1) hnr hch hv hcv hok hrs h (Or.inr ⟨rfl, hq, hb⟩) (fun a6' a7' h' => H _ _ _ _ _ _ _ _ _ _ _ _ _ _ h'))
      · exact br_t rfl (qx_ca117 (f := 0) hnr hch hv hcv hok hrs h (Or.inl ⟨rfl, hb⟩) (fun a6' a7' h' => H _ _ _ _ _ _ _ _ _ _ _ _ _ _ h'))
  · rintro n i ⟨ce, mi, a4, a5, a6, a7, a9, a10⟩ hi h hw
    dsimp only at h ⊢
    obtain ⟨_, hGc, _, _⟩ := hok.2.1 i hi
    have hA := qw_A1 q hok hi
    refine pk_le m i (fun z => absurd z (by omega)) (fun _ => qx_fill hnr hv (show i < 20 by omega) hq hGc hcv (fun ce' mi' a4' a5' a9' a10' h4 h5 => ?_))
    have next : ∀ a6' a7', qj_is a6' (qw_cv (qw_A a1 a2 cv q (qw_U a3 i)) (qs_P (qs_c (a3 i)) (qw_w a1 a2 cv q (a3 i)))) → wX_countAll_45 post p n (nI (i + 1)) wn cv (nI m) rs ce' mi' dm df cs a1 a2 a3 a4' a5' a6' a7' a8 a9' a10' :=
      fun a6' a7' h' => hw (ce', mi', a4', a5', a6', a7', a9', a10') (qk_is h' (fun n => (hA n).symm))
    have zero : qb_t (a3 i) q = false → wX_countAll_85 post (wX_countAll_45 post p n) p (nI i) 0 (nI i) wn cv (nI m) rs ce' mi' dm df cs a1 a2 a3 a4' a5' a6 a7 a8 a9' a10' := fun hb => by
      rw [qk_row0 (q := q) hb] at h4
      exact qx_ca85 (by omega) h (Or.inl ⟨rfl, h4⟩) next
    rcases hq with ⟨rfl, rfl⟩ | ⟨rfl, hq⟩
    · exact br_t rfl (zero (qb_big (Nat.le_refl 32)))
    · refine br_f (fun z => ?_) ⟨pk_in i 20 (by omega), ?_⟩
      · have h1 := nI_pos (n := q) (by omega)
        rw [z] at h1
        exact h1 (by decide)
      · rw [nI_clamp (show i < 2 ^ 31 by omega)]
        refine qx_has (show q < 32 by omega) (fun hb => ?_) (fun hb => ?_)
        · rw [qk_row1 hb] at h5
          exact br_f (by decide) (qx_ca85 (by omega) h (Or.inr ⟨by decide, h5⟩) next)
        · exact br_t rfl (zero hb)
theorem qx_countAll {post : St1 → Prop} {wn cv gc rs ce mi dm df cs : Int32} {a1 a2 a3 a4 a5 a6 a7 a8 a9 a10 : Nat → Int32} (hnr : qx_nr a2) (hch : qx_ch a8) (hv : qw_v a1) (hcv : qb_s cv) {p : Int32} {q : Nat} (hq : qf_q p q)
    (H : ∀ (gc' rs' ce' mi' dm' df' cs' : Int32) (a3' a4' a5' a6' a7' a9' a10' : Nat → Int32), qj_is a6' (qw_T a1 a2 cv q) → post (wn, cv, gc', rs', ce', mi', dm', df', cs', a1, a2, a3', a4', a5', a6', a7', a8, a9', a10')) : wpX_countAll post (wn, cv, gc, rs, ce, mi, dm, df, cs, a1, a2, a3, a4, a5, a6, a7, a8, a9, a10) p := by
  unfold wpX_countAll; dsimp only
  refine qx_findGroups hcv (fun m a3 hok => ?_)
  refine pk_loop (σ := Nat → Int32) (fun n i s => wX_countAll_6 post p wn cv (nI m) (cv &&& (qw_E a1 a2 cv 20 ^^^ (-1))) ce mi dm df cs n (nI i) a1 a2 a3 a4 a5 s a7 a8 a9 a10) (fun i s => ∀ j, j < i → s j = 0) 21 0 a6 (by omega) (fun j hj => absurd hj (by omega)) ?_ ?_
  · intro n s h
    have key : ∀ v, v = nI (qw_e a1 a2 cv).toNat → qj_is (upd s 0 v) (qw_A a1 a2 cv q 0) := by
      intro v hv j hj
      rw [qw_A0]
      by_cases e : j = 0
      · subst e; rw [pk_us, if_pos rfl, hv]
      · rw [pk_un e, if_neg e, h j (by omega)]; rfl
    refine pk_le 21 21 (fun _ => qx_empty (fun he => ?_) (fun he => ?_)) (fun z => absurd z (by omega))
    · exact br_f (by decide) (nm_e (qx_ca45 hnr hch hv hcv hq hok rfl (key 1 (by rw [he]; rfl)) H))
    · exact br_t rfl (nm_e (qx_ca45 hnr hch hv hcv hq hok rfl (key 0 (by rw [he]; rfl)) H))
  · intro n i s hi h hw
    refine pk_le 21 i (fun z => absurd z (by omega)) (fun _ => ⟨pk_in i 21 hi, nm_r (e' := upd s i 0) (by rw [nI_clamp (by omega)]) (nm_r (nI_1 i) (hw _ (fun j hj => ?_)))⟩)
    by_cases e : j = i
    · subst e; exact pk_us
    · rw [pk_un e]; exact h j (by omega)
/-! ===== the wanted total ===== -/
def qk_ok (wn : Int32) (n : Nat) : Bool := decide (wn = -1) || decide (wn = nI n)
def qk_W (wn : Int32) (T : Nat → Nat) (n : Nat) : Nat := if qk_ok wn n then T n else 0
theorem qx_wanted {post : Int32 → Prop} {wn cv gc rs ce mi dm df cs : Int32} {a1 a2 a3 a4 a5 a6 a7 a8 a9 a10 : Nat → Int32} {T : Nat → Nat} (h6 : qj_is a6 T) (H : post (nI (qr_s (qk_W wn T) 21))) : wpX_countWanted post (wn, cv, gc, rs, ce, mi, dm, df, cs, a1, a2, a3, a4, a5, a6, a7, a8, a9, a10) := by
  refine pk_loop (σ := Unit) (fun n i _ => wX_countWanted_4 post wn cv gc rs ce mi dm df cs a1 a2 a3 a4 a5 a6 a7 a8 a9 a10 n (nI (qr_s (qk_W wn T) i)) (nI i)) (fun _ _ => True) 21 0 () (by omega) trivial ?_ ?_
  · intro n s _
    exact pk_le 21 21 (fun _ => H) (fun z => absurd z (by omega))
  · intro n i s hi _ hw
    have hw' := hw () trivial
    have yes : qk_ok wn i = true → wX_countWanted_26 post (wX_countWanted_4 post wn cv gc rs ce mi dm df cs a1 a2 a3 a4 a5 a6 a7 a8 a9 a10 n) (nI (qr_s (qk_W wn T) i)) (nI i) wn cv gc rs ce mi dm df cs a1 a2 a3 a4 a5 a6 a7 a8 a9 a10 := fun hk =>
      ⟨pk_in i 21 hi, nm_r (e' := nI (qr_s (qk_W wn T) (i + 1))) (by
        rw [nI_clamp (show i < 2 ^ 31 by omega), h6 i (by omega), nI_add]
        show _ = nI (qr_s (qk_W wn T) i + qk_W wn T i)
        unfold qk_W
        rw [if_pos hk]) (nm_r (nI_1 i) hw')⟩
    refine pk_le 21 i (fun z => absurd z (by omega)) (fun _ => br_c (fun e => yes ?_) (fun e => br_c (fun e2 => yes ?_) (fun e2 => nm_r (nI_1 i) ?_)))
    · unfold qk_ok; rw [decide_eq_true e]; rfl
    · unfold qk_ok; rw [decide_eq_true e2]; simp
    · have hk : qk_ok wn i = false := by unfold qk_ok; rw [decide_eq_false e, decide_eq_false e2]; rfl
      have e3 : qr_s (qk_W wn T) (i + 1) = qr_s (qk_W wn T) i := by
        show qr_s (qk_W wn T) i + qk_W wn T i = _
        unfold qk_W
        rw [hk]; rfl
      rw [e3] at hw'
      exact hw'
/-- the number of layouts, and of those with a mine at q -/
noncomputable def qk_L (cl nr : Nat → Int32) (cv wn : Int32) (q : Nat) : Nat := qr_s (qk_W wn (qw_T cl nr cv q)) 21
theorem qx_layouts {post : Int32 → St1 → Prop} {wn cv gc rs ce mi dm df cs : Int32} {a1 a2 a3 a4 a5 a6 a7 a8 a9 a10 : Nat → Int32} (hnr : qx_nr a2) (hch : qx_ch a8) (hv : qw_v a1) (hcv : qb_s cv) (H : ∀ (gc' rs' ce' mi' dm' df' cs' : Int32) (a3' a4' a5' a6' a7' a9' a10' : Nat → Int32), post (nI (qk_L a1 a2 cv wn 32)) (wn, cv, gc', rs', ce', mi', dm', df', cs', a1, a2, a3', a4', a5', a6', a7', a8, a9', a10')) : wpX_layouts post (wn, cv, gc, rs, ce, mi, dm, df, cs, a1, a2, a3, a4, a5, a6, a7, a8, a9, a10) := by
  unfold wpX_layouts; dsimp only
  refine qx_countAll hnr hch hv hcv (Or.inl ⟨rfl, rfl⟩) (fun gc' rs' ce' mi' dm' df' cs' a3' a4' a5' a6' a7' a9' a10' h => ?_)
  exact qx_wanted h (H _ _ _ _ _ _ _ _ _ _ _ _ _ _)
theorem qx_minedIn {post : Int32 → St1 → Prop} {wn cv gc rs ce mi dm df cs : Int32} {a1 a2 a3 a4 a5 a6 a7 a8 a9 a10 : Nat → Int32} (hnr : qx_nr a2) (hch : qx_ch a8) (hv : qw_v a1) (hcv : qb_s cv) {c : Nat} (hc : c < 20) (H1 : qb_t cv c = true → ∀ (gc' rs' ce' mi' dm' df' cs' : Int32) (a3' a4' a5' a6' a7' a9' a10' : Nat → Int32), post (nI (qk_L a1 a2 cv wn c)) (wn, cv, gc', rs', ce', mi', dm', df', cs', a1, a2, a3', a4', a5', a6', a7', a8, a9', a10')) (H0 : qb_t cv c = false → post 0 (wn, cv, gc, rs, ce, mi, dm, df, cs, a1, a2, a3, a4, a5, a6, a7, a8, a9, a10)) : wpX_minedIn post (wn, cv, gc, rs, ce, mi, dm, df, cs, a1, a2, a3, a4, a5, a6, a7, a8, a9, a10) (nI c) := by
  unfold wpX_minedIn; dsimp only
  refine qx_has (show c < 32 by omega) (fun hb => ?_) (fun hb => br_t rfl (H0 hb))
  refine br_f (by decide) (qx_countAll hnr hch hv hcv (Or.inr ⟨rfl, hc⟩) (fun gc' rs' ce' mi' dm' df' cs' a3' a4' a5' a6' a7' a9' a10' h => ?_))
  exact qx_wanted h (H1 hb _ _ _ _ _ _ _ _ _ _ _ _ _ _)
theorem qx_with {post : Int32 → St1 → Prop} {wn cv gc rs ce mi dm df cs : Int32} {a1 a2 a3 a4 a5 a6 a7 a8 a9 a10 : Nat → Int32} (hnr : qx_nr a2) (hch : qx_ch a8) (hv : qw_v a1) (hcv : qb_s cv) {n : Nat} (hn : n ≤ 20) (H : ∀ (gc' rs' ce' mi' dm' df' cs' : Int32) (a3' a4' a5' a6' a7' a9' a10' : Nat → Int32), post (nI (qk_W wn (qw_T a1 a2 cv 32) n)) (wn, cv, gc', rs', ce', mi', dm', df', cs', a1, a2, a3', a4', a5', a6', a7', a8, a9', a10')) : wpX_withMines post (wn, cv, gc, rs, ce, mi, dm, df, cs, a1, a2, a3, a4, a5, a6, a7, a8, a9, a10) (nI n) := by
  unfold wpX_withMines; dsimp only
  refine qx_countAll hnr hch hv hcv (Or.inl ⟨rfl, rfl⟩) (fun gc' rs' ce' mi' dm' df' cs' a3' a4' a5' a6' a7' a9' a10' h => ?_)
  have H' := H gc' rs' ce' mi' dm' df' cs' a3' a4' a5' a6' a7' a9' a10'
  have yes : qk_ok wn n = true → wX_withMines_35 post (nI n) wn cv gc' rs' ce' mi' dm' df' cs' a1 a2 a3' a4' a5' a6' a7' a8 a9' a10' := fun hk => by
    unfold qk_W at H'
    rw [if_pos hk] at H'
    refine br_t rfl ⟨pk_in n 21 (by omega), ?_⟩
    rw [nI_clamp (show n < 2 ^ 31 by omega), h n hn]
    exact H'
  refine br_f (nI_pos (show n < 2 ^ 31 by omega)) (pk_le 21 n (fun z => absurd z (by omega)) (fun _ => br_c (fun e => yes ?_) (fun e => br_c (fun e2 => yes ?_) (fun e2 => ?_))))
  · unfold qk_ok; rw [decide_eq_true e]; rfl
  · unfold qk_ok; rw [decide_eq_true e2]; simp
  · have hk : qk_ok wn n = false := by unfold qk_ok; rw [decide_eq_false e, decide_eq_false e2]; rfl
    unfold qk_W at H'
    rw [hk] at H'
    exact br_f (show ¬ (1 : Int32) = 0 by decide) H'
end
section
/-! ===== the plain law: what the numbers say of the layouts ===== -/
theorem qp_sum (h : Nat → Nat) (l : List Nat) (w : Int32 → Nat) : qr_s (fun n => h n * qs_P l w n) 21 = qs_s l (fun F => h (qc_p F) * w F) 0 := by
  have e : qr_s (fun n => h n * qs_P l w n) 21 = qr_s (fun n => qs_s l (fun F => if qc_p F = n then h n * w F else 0) 0) 21 := by
    apply qr_congr
    intro n _
    unfold qs_P
    rw [← qs_mul]
    apply congrArg (fun f => qs_s l f 0)
    funext F
    by_cases z : qc_p F = n
    · rw [if_pos z, if_pos z]
    · rw [if_neg z, if_neg z, Nat.mul_zero]
  rw [e, ← qs_swap (fun n F => if qc_p F = n then h n * w F else 0)]
  apply congrArg (fun f => qs_s l f 0)
  funext F
  have hp := qc_ple F
  rw [qr_one (qc_p F) (f := fun n => if qc_p F = n then h n * w F else 0) (fun i _ hi => if_neg (fun z => hi z.symm)), if_pos (by omega), if_pos rfl]
/-- one layout counts: its total is as wanted, its clues are met -/
noncomputable def qp_b (cl nr : Nat → Int32) (wn F : Int32) : Nat := (qk_ok wn (qc_p F) && qw_a cl nr F).toNat
theorem qp_Wm (wn : Int32) (T : Nat → Nat) : qk_W wn T = fun n => (qk_ok wn n).toNat * T n := by
  funext n
  unfold qk_W
  cases qk_ok wn n <;> simp
theorem qp_q32 (cv F : Int32) : qw_q cv 32 F = true := by
  unfold qw_q
  rw [qb_big (Nat.le_refl 32)]; rfl
theorem qp_L32 (cl nr : Nat → Int32) (cv wn : Int32) : qk_L cl nr cv wn 32 = qs_s (qs_c cv) (qp_b cl nr wn) 0 := by
  unfold qk_L
  rw [qp_Wm]
  have := qp_sum (fun n => (qk_ok wn n).toNat) (qs_c cv) (fun F => (qw_a cl nr F && qw_q cv 32 F).toNat)
  refine this.trans (congrArg (fun f => qs_s (qs_c cv) f 0) (funext (fun F => ?_)))
  rw [qp_q32, Bool.and_true]
  exact (qb_band _ _).symm
theorem qp_prod (cl nr : Nat → Int32) (cv wn : Int32) : qr_s (fun n => n * qk_W wn (qw_T cl nr cv 32) n) 21 = qs_s (qs_c cv) (fun F => qc_p F * qp_b cl nr wn F) 0 := by
  rw [qp_Wm]
  have e : (fun n => n * ((fun n => (qk_ok wn n).toNat * qw_T cl nr cv 32 n) n)) = fun n => (n * (qk_ok wn n).toNat) * qw_T cl nr cv 32 n := funext (fun n => (Nat.mul_assoc _ _ _).symm)
  rw [e]
  have := qp_sum (fun n => n * (qk_ok wn n).toNat) (qs_c cv) (fun F => (qw_a cl nr F && qw_q cv 32 F).toNat)
  refine this.trans (congrArg (fun f => qs_s (qs_c cv) f 0) (funext (fun F => ?_)))
  rw [qp_q32, Bool.and_true, Nat.mul_assoc]
  exact congrArg _ (qb_band _ _).symm
theorem qp_Lc {cl nr : Nat → Int32} {cv wn : Int32} {c : Nat} (hc : qb_t cv c = true) : qk_L cl nr cv wn c = qs_s (qs_c cv) (fun F => (qb_t F c).toNat * qp_b cl nr wn F) 0 := by
  unfold qk_L
  rw [qp_Wm]
  have := qp_sum (fun n => (qk_ok wn n).toNat) (qs_c cv) (fun F => (qw_a cl nr F && qw_q cv c F).toNat)
  refine this.trans (congrArg (fun f => qs_s (qs_c cv) f 0) (funext (fun F => ?_)))
  unfold qw_q qp_b
  rw [hc]
  cases qk_ok wn (qc_p F) <;> cases qw_a cl nr F <;> cases qb_t F c <;> rfl
/-- mined(c) -/
noncomputable def qp_M (cl nr : Nat → Int32) (cv wn : Int32) (c : Nat) : Nat := qs_s (qs_c cv) (fun F => (qb_t F c).toNat * qp_b cl nr wn F) 0
noncomputable def qp_L (cl nr : Nat → Int32) (cv wn : Int32) : Nat := qs_s (qs_c cv) (qp_b cl nr wn) 0
theorem qp_M0 {cl nr : Nat → Int32} {cv wn : Int32} {c : Nat} (hc : qb_t cv c = false) : qp_M cl nr cv wn c = 0 := by
  apply qs_none (qs_c32 cv)
  intro F hF
  have : qb_t F c = false := qb_nt (fun z => by have := (qs_cin hF).1 c z; rw [hc] at this; exact absurd this (by decide))
  rw [this]; exact Nat.zero_mul _
theorem qp_all (cl nr : Nat → Int32) (cv wn : Int32) : qr_s (qp_M cl nr cv wn) 20 = qr_s (fun n => n * qk_W wn (qw_T cl nr cv 32) n) 21 := by
  rw [qp_prod]
  have := qs_swap (fun c F => (qb_t F c).toNat * qp_b cl nr wn F) (qs_c cv) 0 20
  refine this.symm.trans (congrArg (fun f => qs_s (qs_c cv) f 0) (funext (fun F => ?_)))
  have e : qr_s (fun c => (qb_t F c).toNat * qp_b cl nr wn F) 20 = qp_b cl nr wn F * qr_s (fun c => (qb_t F c).toNat) 20 := by
    rw [← qr_mul]
    exact qr_congr (fun i _ => Nat.mul_comm _ _)
  rw [e, qr_pc, Nat.mul_comm]
  rfl
theorem qp_b1 (cl nr : Nat → Int32) (wn F : Int32) : qp_b cl nr wn F ≤ 1 := Bool.toNat_le _
theorem qp_Lle (cl nr : Nat → Int32) (cv wn : Int32) : qp_L cl nr cv wn ≤ 1048576 := by
  have h := qs_le1 (qp_b1 cl nr wn) (qs_c cv) 0
  rw [qs_clen] at h
  have h2 : 2 ^ qc_p cv ≤ 2 ^ 20 := Nat.pow_le_pow_right (by omega) (qc_ple cv)
  exact Nat.le_trans h h2
theorem qp_Mle (cl nr : Nat → Int32) (cv wn : Int32) (c : Nat) : qp_M cl nr cv wn c ≤ 1048576 := by
  have h := qs_le1 (f := fun F => (qb_t F c).toNat * qp_b cl nr wn F) (fun F => by
    have h1 := Bool.toNat_le (qb_t F c)
    have h2 := qp_b1 cl nr wn F
    exact Nat.mul_le_mul h1 h2) (qs_c cv) 0
  rw [qs_clen] at h
  have h2 : 2 ^ qc_p cv ≤ 2 ^ 20 := Nat.pow_le_pow_right (by omega) (qc_ple cv)
  exact Nat.le_trans h h2
/-- F is a layout: of covered cells, all clues met -/
def qp_S (cl nr : Nat → Int32) (cv F : Int32) : Prop := qb_le F cv ∧ qb_s F ∧ ∀ c, c < 20 → ¬ cl c = -1 → cl c = nI (qc_p (nr c &&& F))
theorem qp_sol {cl nr : Nat → Int32} {cv wn F : Int32} (h : qs_in (qs_c cv) 0 F) (hb : ¬ qp_b cl nr wn F = 0) : qp_S cl nr cv F := by
  obtain ⟨h1, h2⟩ := qs_cin h
  refine ⟨h1, h2, ?_⟩
  unfold qp_b at hb
  cases ha : qw_a cl nr F
  · rw [ha, Bool.and_false] at hb; exact absurd rfl hb
  · exact qw_dt.mp ha
theorem qp_ex {cl nr : Nat → Int32} {cv wn : Int32} (h : 0 < qp_L cl nr cv wn) : ∃ F, qp_S cl nr cv F := by
  obtain ⟨F, h1, h2⟩ := qs_pos (qs_c32 cv) h
  exact ⟨F, qp_sol (wn := wn) h1 (Nat.pos_iff_ne_zero.mp h2)⟩
theorem qp_free {cl nr : Nat → Int32} {cv wn : Int32} {c : Nat} (h : ∀ F, qp_S cl nr cv F → qb_t F c = false) : qp_M cl nr cv wn c = 0 := by
  apply qs_none (qs_c32 cv)
  intro F hF
  by_cases hb : qp_b cl nr wn F = 0
  · rw [hb, Nat.mul_zero]
  · rw [h F (qp_sol hF hb)]; exact Nat.zero_mul _
theorem qp_sure {cl nr : Nat → Int32} {cv wn : Int32} {c : Nat} (h : ∀ F, qp_S cl nr cv F → qb_t F c = true) : qp_M cl nr cv wn c = qp_L cl nr cv wn := by
  apply qs_congr (qs_c32 cv)
  intro F hF
  by_cases hb : qp_b cl nr wn F = 0
  · rw [hb, Nat.mul_zero]
  · rw [h F (qp_sol hF hb)]; exact Nat.one_mul _
/-! ===== one more cell shown ===== -/
theorem qp_ashow {cl nr : Nat → Int32} {c : Nat} (hc : c < 20) (hcl : cl c = -1) {k : Nat} (hk : k ≤ 8) (F : Int32) : qw_a (upd cl c (nI k)) nr F = (qw_a cl nr F && decide (qc_p (nr c &&& F) = k)) := by
  have hp := qc_ple (nr c &&& F)
  rw [Bool.eq_iff_iff, Bool.and_eq_true, decide_eq_true_iff]
  unfold qw_a
  rw [qw_dt, qw_dt]
  constructor
  · intro h
    constructor
    · intro d hd hs
      have hne : d ≠ c := fun e => hs (by rw [e]; exact hcl)
      have := h d hd (by rw [pk_un hne]; exact hs)
      rw [pk_un hne] at this
      exact this
    · have := h c hc (by
        rw [pk_us]
        intro z
        have h1 := nI_pos (n := k) (by omega)
        rw [z] at h1
        exact h1 (by decide))
      rw [pk_us, nI_eq (by omega) (by omega)] at this
      exact this.symm
  · intro ⟨h, e⟩ d hd hs
    by_cases z : d = c
    · subst z; rw [pk_us, e]
    · rw [pk_un z] at hs ⊢
      exact h d hd hs
theorem qp_show {cl nr : Nat → Int32} {cv cv' wn : Int32} (hnr : qx_nr nr) (hcv : qx_cov cl cv) {c : Nat} (hc : c < 20) (hcl : cl c = -1) (hcv' : qx_cov (upd cl c (nI 0)) cv') :
    qr_s (fun k => qp_L (upd cl c (nI k)) nr cv' wn) 9 + qp_M cl nr cv wn c = qp_L cl nr cv wn := by
  have hX : qb_t cv c = true := (hcv.2 c hc).mpr hcl
  have hY : ∀ i, i < 20 → qb_t cv' i = (qb_t cv i && !decide (i = c)) := by
    intro i hi
    rw [Bool.eq_iff_iff, hcv'.2 i hi, Bool.and_eq_true, hcv.2 i hi]
    by_cases e : i = c
    · subst e
      rw [pk_us]
      constructor
      · intro z; exact absurd z (by decide)
      · intro z; exact absurd z.2 (by simp)
    · rw [pk_un e]
      simp [e]
  have hp := qs_cpull hc hX hY
  have hc0 : qb_t cv' c = false := by rw [hY c hc]; simp
  have e1 : qr_s (fun k => qp_L (upd cl c (nI k)) nr cv' wn) 9 = qs_s (qs_c cv') (qp_b cl nr wn) 0 := by
    have := qs_swap (fun k F => qp_b (upd cl c (nI k)) nr wn F) (qs_c cv') 0 9
    refine this.symm.trans (congrArg (fun f => qs_s (qs_c cv') f 0) (funext (fun F => ?_)))
    have h8 : qc_p (nr c &&& F) ≤ 8 := Nat.le_trans (qc_pmono (fun i hi => by rw [qb_and, Bool.and_eq_true] at hi; exact hi.1)) (hnr c hc).2
    rw [qr_one (qc_p (nr c &&& F)) (f := fun k => qp_b (upd cl c (nI k)) nr wn F) (fun k hk hne => by
      show qp_b (upd cl c (nI k)) nr wn F = 0
      unfold qp_b
      rw [qp_ashow hc hcl (by omega), decide_eq_false (fun z => hne z.symm), Bool.and_false, Bool.and_false]; rfl), if_pos (by omega)]
    unfold qp_b
    rw [qp_ashow hc hcl h8, decide_eq_true rfl, Bool.and_true]
  have e2 : qp_M cl nr cv wn c = qs_s (qs_c cv') (qp_b cl nr wn) (0 ||| qb_1 c) := by
    unfold qp_M
    rw [qs_perm _ hp]
    show qs_s _ _ 0 + qs_s _ _ (0 ||| qb_1 c) = _
    rw [qs_none (m := 0) (qs_c32 cv') (fun F hF => by
      have : qb_t F c = false := qb_nt (fun z => by have := (qs_cin hF).1 c z; rw [hc0] at this; exact absurd this (by decide))
      rw [this]; exact Nat.zero_mul _), Nat.zero_add]
    apply qs_congr (qs_c32 cv')
    intro F hF
    have : qb_t F c = true := hF.1 c (by rw [Int32.zero_or, qb_1t (by omega)]; simp)
    rw [this]; exact Nat.one_mul _
  rw [e1, e2]
  unfold qp_L
  rw [qs_perm _ hp]
  rfl
end
section
/-! ===== what the object is asked ===== -/
abbrev qx_Z : Type := Int32 × Int32 × Int32 × Int32 × Int32 × Int32 × Int32 × (Nat → Int32) × (Nat → Int32) × (Nat → Int32) × (Nat → Int32) × (Nat → Int32) × (Nat → Int32) × (Nat → Int32)
theorem qy_layouts {post : Int32 → St1 → Prop} {wn cv gc rs ce mi dm df cs : Int32} {a1 a2 a3 a4 a5 a6 a7 a8 a9 a10 : Nat → Int32} (hnr : qx_nr a2) (hch : qx_ch a8) (hv : qw_v a1) (hcv : qb_s cv) (H : ∀ (gc' rs' ce' mi' dm' df' cs' : Int32) (a3' a4' a5' a6' a7' a9' a10' : Nat → Int32), post (nI (qp_L a1 a2 cv wn)) (wn, cv, gc', rs', ce', mi', dm', df', cs', a1, a2, a3', a4', a5', a6', a7', a8, a9', a10')) : wpX_layouts post (wn, cv, gc, rs, ce, mi, dm, df, cs, a1, a2, a3, a4, a5, a6, a7, a8, a9, a10) := by
  have e : qk_L a1 a2 cv wn 32 = qp_L a1 a2 cv wn := qp_L32 a1 a2 cv wn
  exact qx_layouts hnr hch hv hcv (by rw [e]; exact H)
theorem qy_minedIn {post : Int32 → St1 → Prop} {wn cv gc rs ce mi dm df cs : Int32} {a1 a2 a3 a4 a5 a6 a7 a8 a9 a10 : Nat → Int32} (hnr : qx_nr a2) (hch : qx_ch a8) (hv : qw_v a1) (hcv : qb_s cv) {c : Nat} (hc : c < 20) (H : ∀ (gc' rs' ce' mi' dm' df' cs' : Int32) (a3' a4' a5' a6' a7' a9' a10' : Nat → Int32), post (nI (qp_M a1 a2 cv wn c)) (wn, cv, gc', rs', ce', mi', dm', df', cs', a1, a2, a3', a4', a5', a6', a7', a8, a9', a10')) : wpX_minedIn post (wn, cv, gc, rs, ce, mi, dm, df, cs, a1, a2, a3, a4, a5, a6, a7, a8, a9, a10) (nI c) := by
  refine qx_minedIn hnr hch hv hcv hc (fun hb => ?_) (fun hb => ?_)
  · have e : qk_L a1 a2 cv wn c = qp_M a1 a2 cv wn c := qp_Lc hb
    rw [e]; exact H
  · have h := H gc rs ce mi dm df cs a3 a4 a5 a6 a7 a9 a10
    rw [qp_M0 hb] at h
    exact h
theorem qy_mined {post : Int32 → St1 → Prop} {wn cv gc rs ce mi dm df cs : Int32} {a1 a2 a3 a4 a5 a6 a7 a8 a9 a10 : Nat → Int32} (hnr : qx_nr a2) (hch : qx_ch a8) (hv : qw_v a1) (hcv : qb_s cv) {c : Nat} (hc : c < 20) (H : ∀ (gc' rs' ce' mi' dm' df' cs' : Int32) (a3' a4' a5' a6' a7' a9' a10' : Nat → Int32), post (nI (qp_M a1 a2 cv wn c)) (wn, cv, gc', rs', ce', mi', dm', df', cs', a1, a2, a3', a4', a5', a6', a7', a8, a9', a10')) : wpX_mined post (wn, cv, gc, rs, ce, mi, dm, df, cs, a1, a2, a3, a4, a5, a6, a7, a8, a9, a10) (nI c) := by
  unfold wpX_mined; dsimp only
  refine qx_bad hc ?_
  exact br_t rfl (qy_minedIn hnr hch hv hcv hc H)
theorem qy_acc {x y : Int32} {i : Nat} {p : Nat → Bool} (h : ∀ j, qb_t x j = (decide (j < i) && p j)) (hi : i < 32) (hy : (p i = true ∧ y = x ||| qb_1 i) ∨ (p i = false ∧ y = x)) : ∀ j, qb_t y j = (decide (j < i + 1) && p j) := by
  intro j
  rcases hy with ⟨e, rfl⟩ | ⟨e, rfl⟩
  · rw [qx_setbit hi, h j]
    by_cases z : j = i
    · subst z; rw [e]; simp
    · rw [show decide (j < i + 1) = decide (j < i) from decide_eq_decide.mpr (by omega)]; simp [z]
  · rw [h j]
    by_cases z : j = i
    · subst z; rw [e]; simp
    · rw [show decide (j < i + 1) = decide (j < i) from decide_eq_decide.mpr (by omega)]
theorem qy_free {post : Int32 → St1 → Prop} {wn cv gc rs ce mi dm df cs : Int32} {a1 a2 a3 a4 a5 a6 a7 a8 a9 a10 : Nat → Int32} (hnr : qx_nr a2) (hch : qx_ch a8) (hv : qw_v a1) (hcv : qb_s cv) (H : ∀ r, (∀ c, c < 20 → qb_t r c = (decide (0 < qp_L a1 a2 cv wn) && (qb_t cv c && decide (qp_M a1 a2 cv wn c = 0)))) → ∀ (gc' rs' ce' mi' dm' df' cs' : Int32) (a3' a4' a5' a6' a7' a9' a10' : Nat → Int32), post r (wn, cv, gc', rs', ce', mi', dm', df', cs', a1, a2, a3', a4', a5', a6', a7', a8, a9', a10')) : wpX_free post (wn, cv, gc, rs, ce, mi, dm, df, cs, a1, a2, a3, a4, a5, a6, a7, a8, a9, a10) := by
  unfold wpX_free; dsimp only
  refine qy_layouts hnr hch hv hcv (fun gc rs ce mi dm df cs a3 a4 a5 a6 a7 a9 a10 => ?_)
  have hL := qp_Lle a1 a2 cv wn
  generalize qp_L a1 a2 cv wn = L at *
  refine pk_loop (σ := Int32 × qx_Z) (fun n i s => wX_free_9 post (nI L) n s.1 (nI i) wn cv s.2.1 s.2.2.1 s.2.2.2.1 s.2.2.2.2.1 s.2.2.2.2.2.1 s.2.2.2.2.2.2.1 s.2.2.2.2.2.2.2.1 a1 a2 s.2.2.2.2.2.2.2.2.1 s.2.2.2.2.2.2.2.2.2.1 s.2.2.2.2.2.2.2.2.2.2.1 s.2.2.2.2.2.2.2.2.2.2.2.1 s.2.2.2.2.2.2.2.2.2.2.2.2.1 a8 s.2.2.2.2.2.2.2.2.2.2.2.2.2.1 s.2.2.2.2.2.2.2.2.2.2.2.2.2.2) (fun i s => ∀ j, qb_t s.1 j = (decide (j < i) && (decide (0 < L) && (qb_t cv j && decide (qp_M a1 a2 cv wn j = 0))))) 20 0 (0, gc, rs, ce, mi, dm, df, cs, a3, a4, a5, a6, a7, a9, a10) (by omega) (fun j => by rw [qb_0]; simp) ?_ ?_
  · rintro n ⟨x, gc, rs, ce, mi, dm, df, cs, a3, a4, a5, a6, a7, a9, a10⟩ h
    dsimp only at h ⊢
    exact pk_le 20 20 (fun _ => H x (fun c hc => by rw [h c, decide_eq_true hc, Bool.true_and]) gc rs ce mi dm df cs a3 a4 a5 a6 a7 a9 a10) (fun z => absurd z (by omega))
  · rintro n i ⟨x, gc, rs, ce, mi, dm, df, cs, a3, a4, a5, a6, a7, a9, a10⟩ hi h hw
    dsimp only at h ⊢
    have hM := qp_Mle a1 a2 cv wn i
    refine pk_le 20 i (fun z => absurd z (by omega)) (fun _ => pk_le L 0 (fun z => ?_) (fun z => ?_))
    · refine H x (fun c hc => ?_) gc rs ce mi dm df cs a3 a4 a5 a6 a7 a9 a10
      rw [h c, decide_eq_false (show ¬ 0 < L by omega)]; simp
    · have no : ∀ (gc' rs' ce' mi' dm' df' cs' : Int32) (a3' a4' a5' a6' a7' a9' a10' : Nat → Int32), (decide (0 < L) && (qb_t cv i && decide (qp_M a1 a2 cv wn i = 0))) = false → wX_free_43 post (wX_free_9 post (nI L) n) (nI L) x (nI i) wn cv gc' rs' ce' mi' dm' df' cs' a1 a2 a3' a4' a5' a6' a7' a8 a9' a10' := fun gc' rs' ce' mi' dm' df' cs' a3' a4' a5' a6' a7' a9' a10' e => br_t rfl (nm_r (nI_1 i) (hw (x, gc', rs', ce', mi', dm', df', cs', a3', a4', a5', a6', a7', a9', a10') (qy_acc h (by omega) (Or.inr ⟨e, rfl⟩))))
      refine qx_has (show i < 32 by omega) (fun hb => ?_) (fun hb => ?_)
      · refine br_f (by decide) (qy_minedIn hnr hch hv hcv hi (fun gc' rs' ce' mi' dm' df' cs' a3' a4' a5' a6' a7' a9' a10' => ?_))
        refine pk_eq (qp_M a1 a2 cv wn i) 0 (fun e => ?_) (fun e => no gc' rs' ce' mi' dm' df' cs' a3' a4' a5' a6' a7' a9' a10' (by rw [decide_eq_false e]; simp))
        exact br_f (show ¬ (1 : Int32) = 0 by decide) (nm_e (nm_r (nI_1 i) (hw (_, gc', rs', ce', mi', dm', df', cs', a3', a4', a5', a6', a7', a9', a10') (qy_acc h (by omega) (Or.inl ⟨by rw [hb, decide_eq_true e, decide_eq_true z]; rfl, rfl⟩)))))
      · exact br_t rfl (no gc rs ce mi dm df cs a3 a4 a5 a6 a7 a9 a10 (by rw [hb]; simp))
theorem qy_sure {post : Int32 → St1 → Prop} {wn cv gc rs ce mi dm df cs : Int32} {a1 a2 a3 a4 a5 a6 a7 a8 a9 a10 : Nat → Int32} (hnr : qx_nr a2) (hch : qx_ch a8) (hv : qw_v a1) (hcv : qb_s cv) (H : ∀ r, (∀ c, c < 20 → qb_t r c = (decide (0 < qp_L a1 a2 cv wn) && (qb_t cv c && decide (qp_M a1 a2 cv wn c = qp_L a1 a2 cv wn)))) → ∀ (gc' rs' ce' mi' dm' df' cs' : Int32) (a3' a4' a5' a6' a7' a9' a10' : Nat → Int32), post r (wn, cv, gc', rs', ce', mi', dm', df', cs', a1, a2, a3', a4', a5', a6', a7', a8, a9', a10')) : wpX_sure post (wn, cv, gc, rs, ce, mi, dm, df, cs, a1, a2, a3, a4, a5, a6, a7, a8, a9, a10) := by
  unfold wpX_sure; dsimp only
  refine qy_layouts hnr hch hv hcv (fun gc rs ce mi dm df cs a3 a4 a5 a6 a7 a9 a10 => ?_)
  have hL := qp_Lle a1 a2 cv wn
  generalize qp_L a1 a2 cv wn = L at *
  refine pk_loop (σ := Int32 × qx_Z) (fun n i s => wX_sure_9 post (nI L) n s.1 (nI i) wn cv s.2.1 s.2.2.1 s.2.2.2.1 s.2.2.2.2.1 s.2.2.2.2.2.1 s.2.2.2.2.2.2.1 s.2.2.2.2.2.2.2.1 a1 a2 s.2.2.2.2.2.2.2.2.1 s.2.2.2.2.2.2.2.2.2.1 s.2.2.2.2.2.2.2.2.2.2.1 s.2.2.2.2.2.2.2.2.2.2.2.1 s.2.2.2.2.2.2.2.2.2.2.2.2.1 a8 s.2.2.2.2.2.2.2.2.2.2.2.2.2.1 s.2.2.2.2.2.2.2.2.2.2.2.2.2.2) (fun i s => ∀ j, qb_t s.1 j = (decide (j < i) && (decide (0 < L) && (qb_t cv j && decide (qp_M a1 a2 cv wn j = L))))) 20 0 (0, gc, rs, ce, mi, dm, df, cs, a3, a4, a5, a6, a7, a9, a10) (by omega) (fun j => by rw [qb_0]; simp) ?_ ?_
  · rintro n ⟨x, gc, rs, ce, mi, dm, df, cs, a3, a4, a5, a6, a7, a9, a10⟩ h
    dsimp only at h ⊢
    exact pk_le 20 20 (fun _ => H x (fun c hc => by rw [h c, decide_eq_true hc, Bool.true_and]) gc rs ce mi dm df cs a3 a4 a5 a6 a7 a9 a10) (fun z => absurd z (by omega))
  · rintro n i ⟨x, gc, rs, ce, mi, dm, df, cs, a3, a4, a5, a6, a7, a9, a10⟩ hi h hw
    dsimp only at h ⊢
    have hM := qp_Mle a1 a2 cv wn i
    refine pk_le 20 i (fun z => absurd z (by omega)) (fun _ => pk_le L 0 (fun z => ?_) (fun z => ?_))
    · refine H x (fun c hc => ?_) gc rs ce mi dm df cs a3 a4 a5 a6 a7 a9 a10
      rw [h c, decide_eq_false (show ¬ 0 < L by omega)]; simp
    · have no : ∀ (gc' rs' ce' mi' dm' df' cs' : Int32) (a3' a4' a5' a6' a7' a9' a10' : Nat → Int32), (decide (0 < L) && (qb_t cv i && decide (qp_M a1 a2 cv wn i = L))) = false → wX_sure_44 post (wX_sure_9 post (nI L) n) (nI L) x (nI i) wn cv gc' rs' ce' mi' dm' df' cs' a1 a2 a3' a4' a5' a6' a7' a8 a9' a10' := fun gc' rs' ce' mi' dm' df' cs' a3' a4' a5' a6' a7' a9' a10' e => br_t rfl (nm_r (nI_1 i) (hw (x, gc', rs', ce', mi', dm', df', cs', a3', a4', a5', a6', a7', a9', a10') (qy_acc h (by omega) (Or.inr ⟨e, rfl⟩))))
      refine qx_has (show i < 32 by omega) (fun hb => ?_) (fun hb => ?_)
      · refine br_f (by decide) (qy_minedIn hnr hch hv hcv hi (fun gc' rs' ce' mi' dm' df' cs' a3' a4' a5' a6' a7' a9' a10' => ?_))
        refine pk_eq (qp_M a1 a2 cv wn i) L (fun e => ?_) (fun e => no gc' rs' ce' mi' dm' df' cs' a3' a4' a5' a6' a7' a9' a10' (by rw [decide_eq_false e]; simp))
        exact br_f (show ¬ (1 : Int32) = 0 by decide) (nm_e (nm_r (nI_1 i) (hw (_, gc', rs', ce', mi', dm', df', cs', a3', a4', a5', a6', a7', a9', a10') (qy_acc h (by omega) (Or.inl ⟨by rw [hb, decide_eq_true e, decide_eq_true z]; rfl, rfl⟩)))))
      · exact br_t rfl (no gc rs ce mi dm df cs a3 a4 a5 a6 a7 a9 a10 (by rw [hb]; simp))
theorem qy_best {post : Int32 → St1 → Prop} {wn cv gc rs ce mi dm df cs : Int32} {a1 a2 a3 a4 a5 a6 a7 a8 a9 a10 : Nat → Int32} (hnr : qx_nr a2) (hch : qx_ch a8) (hv : qw_v a1) (hcv : qb_s cv) (H : ∀ r, (r = -2 ∨ ∃ c, c < 20 ∧ r = nI c ∧ 0 < qp_L a1 a2 cv wn) → ∀ (gc' rs' ce' mi' dm' df' cs' : Int32) (a3' a4' a5' a6' a7' a9' a10' : Nat → Int32), post r (wn, cv, gc', rs', ce', mi', dm', df', cs', a1, a2, a3', a4', a5', a6', a7', a8, a9', a10')) : wpX_best post (wn, cv, gc, rs, ce, mi, dm, df, cs, a1, a2, a3, a4, a5, a6, a7, a8, a9, a10) := by
  unfold wpX_best; dsimp only
  refine qy_layouts hnr hch hv hcv (fun gc rs ce mi dm df cs a3 a4 a5 a6 a7 a9 a10 => nm_e ?_)
  have hL := qp_Lle a1 a2 cv wn
  generalize qp_L a1 a2 cv wn = L at *
  refine pk_loop (σ := Int32 × Int32 × qx_Z) (fun n i s => wX_best_15 post (nI L) n s.1 s.2.1 (nI i) wn cv s.2.2.1 s.2.2.2.1 s.2.2.2.2.1 s.2.2.2.2.2.1 s.2.2.2.2.2.2.1 s.2.2.2.2.2.2.2.1 s.2.2.2.2.2.2.2.2.1 a1 a2 s.2.2.2.2.2.2.2.2.2.1 s.2.2.2.2.2.2.2.2.2.2.1 s.2.2.2.2.2.2.2.2.2.2.2.1 s.2.2.2.2.2.2.2.2.2.2.2.2.1 s.2.2.2.2.2.2.2.2.2.2.2.2.2.1 a8 s.2.2.2.2.2.2.2.2.2.2.2.2.2.2.1 s.2.2.2.2.2.2.2.2.2.2.2.2.2.2.2) (fun i s => s.1 = -2 ∨ ∃ c, c < 20 ∧ s.1 = nI c ∧ 0 < L) 20 0 (-2, nI L + 1, gc, rs, ce, mi, dm, df, cs, a3, a4, a5, a6, a7, a9, a10) (by omega) (Or.inl rfl) ?_ ?_
  · rintro n ⟨x, y, gc, rs, ce, mi, dm, df, cs, a3, a4, a5, a6, a7, a9, a10⟩ h
    dsimp only at h ⊢
    exact pk_le 20 20 (fun _ => H x h gc rs ce mi dm df cs a3 a4 a5 a6 a7 a9 a10) (fun z => absurd z (by omega))
  · rintro n i ⟨x, y, gc, rs, ce, mi, dm, df, cs, a3, a4, a5, a6, a7, a9, a10⟩ hi h hw
    dsimp only at h ⊢
    refine pk_le 20 i (fun z => absurd z (by omega)) (fun _ => pk_le L 0 (fun z => H x h gc rs ce mi dm df cs a3 a4 a5 a6 a7 a9 a10) (fun z => ?_))
    have go : ∀ w, ∀ (gc' rs' ce' mi' dm' df' cs' : Int32) (a3' a4' a5' a6' a7' a9' a10' : Nat → Int32), wX_best_49 post (wX_best_15 post (nI L) n) (nI L) x y (nI i) w wn cv gc' rs' ce' mi' dm' df' cs' a1 a2 a3' a4' a5' a6' a7' a8 a9' a10' := fun w gc' rs' ce' mi' dm' df' cs' a3' a4' a5' a6' a7' a9' a10' =>
      br_c (fun _ => br_c (fun _ => nm_r (nI_1 i) (hw (_, _, gc', rs', ce', mi', dm', df', cs', a3', a4', a5', a6', a7', a9', a10') h)) (fun _ => nm_r (nI_1 i) (hw (_, _, gc', rs', ce', mi', dm', df', cs', a3', a4', a5', a6', a7', a9', a10') h)))
        (fun _ => br_c (fun _ => nm_r (nI_1 i) (hw (_, _, gc', rs', ce', mi', dm', df', cs', a3', a4', a5', a6', a7', a9', a10') (Or.inr ⟨i, hi, rfl, z⟩))) (fun _ => nm_r (nI_1 i) (hw (_, _, gc', rs', ce', mi', dm', df', cs', a3', a4', a5', a6', a7', a9', a10') (Or.inr ⟨i, hi, rfl, z⟩))))
    refine qx_has (show i < 32 by omega) (fun hb => ?_) (fun hb => br_t rfl (go y gc rs ce mi dm df cs a3 a4 a5 a6 a7 a9 a10))
    exact br_f (by decide) (qy_minedIn hnr hch hv hcv hi (fun gc' rs' ce' mi' dm' df' cs' a3' a4' a5' a6' a7' a9' a10' => go _ gc' rs' ce' mi' dm' df' cs' a3' a4' a5' a6' a7' a9' a10'))
/-! ===== groups asked ===== -/
theorem qy_Ut {G : Nat → Int32} {i : Nat} : ∀ {m : Nat}, qb_t (qw_U G m) i = true ↔ ∃ g, g < m ∧ qb_t (G g) i = true
  | 0 => by
    show qb_t 0 i = true ↔ _
    rw [qb_0]
    constructor
    · intro h; exact absurd h (by decide)
    · rintro ⟨g, hg, _⟩; omega
  | m + 1 => by
    show qb_t (qw_U G m ||| G m) i = true ↔ _
    rw [qb_or, Bool.or_eq_true, qy_Ut (m := m)]
    constructor
    · rintro (⟨g, hg, h⟩ | h)
      · exact ⟨g, by omega, h⟩
      · exact ⟨m, by omega, h⟩
    · rintro ⟨g, hg, h⟩
      by_cases e : g = m
      · subst e; exact Or.inr h
      · exact Or.inl ⟨g, by omega, h⟩
theorem qy_groups {post : Int32 → St1 → Prop} {wn cv gc rs ce mi dm df cs : Int32} {a1 a2 a3 a4 a5 a6 a7 a8 a9 a10 : Nat → Int32} (hcv : qb_s cv) (H : ∀ m, m ≤ 20 → (0 < m ↔ ∃ i, i < 20 ∧ qb_t (qw_E a1 a2 cv 20) i = true) → ∀ (gc' rs' ce' mi' dm' df' cs' : Int32) (a3' a4' a5' a6' a7' a9' a10' : Nat → Int32), post (nI m) (wn, cv, gc', rs', ce', mi', dm', df', cs', a1, a2, a3', a4', a5', a6', a7', a8, a9', a10')) : wpX_groups post (wn, cv, gc, rs, ce, mi, dm, df, cs, a1, a2, a3, a4, a5, a6, a7, a8, a9, a10) := by
  unfold wpX_groups; dsimp only
  refine qx_findGroups hcv (fun m a3' hok => H m hok.1 ?_ _ _ _ _ _ _ _ _ _ _ _ _ _ _)
  rw [← hok.2.2]
  constructor
  · intro hm
    obtain ⟨h0, h1, _⟩ := hok.2.1 0 hm
    obtain ⟨i, hi⟩ := qb_nz h0
    exact ⟨i, qb_slt hcv (h1 i hi), qy_Ut.mpr ⟨0, hm, hi⟩⟩
  · rintro ⟨i, _, hi⟩
    obtain ⟨g, hg, _⟩ := qy_Ut.mp hi
    omega
theorem qy_groupOf {post : Int32 → St1 → Prop} {wn cv gc rs ce mi dm df cs : Int32} {a1 a2 a3 a4 a5 a6 a7 a8 a9 a10 : Nat → Int32} (hcv : qb_s cv) {c : Nat} (hc : c < 20) (H : ∀ m, m ≤ 20 → (0 < m ↔ qb_t (qw_E a1 a2 cv 20) c = true) → ∀ (gc' rs' ce' mi' dm' df' cs' : Int32) (a3' a4' a5' a6' a7' a9' a10' : Nat → Int32), post (nI m) (wn, cv, gc', rs', ce', mi', dm', df', cs', a1, a2, a3', a4', a5', a6', a7', a8, a9', a10')) : wpX_groupOf post (wn, cv, gc, rs, ce, mi, dm, df, cs, a1, a2, a3, a4, a5, a6, a7, a8, a9, a10) (nI c) := by
  unfold wpX_groupOf; dsimp only
  refine qx_bad hc ?_
  refine br_t rfl (qx_findGroups hcv (fun m a3 hok => ?_))
  have hm := hok.1
  refine pk_loop (σ := Unit) (fun n i _ => wX_groupOf_16 post (nI c) wn cv (nI m) (cv &&& (qw_E a1 a2 cv 20 ^^^ (-1))) ce mi dm df cs a1 a2 a3 a4 a5 a6 a7 a8 a9 a10 n (nI i)) (fun i _ => ∀ g, g < i → qb_t (a3 g) c = false) m 0 () (by omega) (fun g hg => absurd hg (by omega)) ?_ ?_
  · intro n _ h
    refine pk_le m m (fun _ => H 0 (by omega) ?_ _ _ _ _ _ _ _ _ _ _ _ _ _ _) (fun z => absurd z (by omega))
    constructor
    · intro z; omega
    · intro z
      rw [← hok.2.2] at z
      obtain ⟨g, hg, hb⟩ := qy_Ut.mp z
      rw [h g hg] at hb
      exact absurd hb (by decide)
  · intro n i _ hi h hw
    refine pk_le m i (fun z => absurd z (by omega)) (fun _ => ⟨pk_in i 20 (by omega), ?_⟩)
    rw [nI_clamp (show i < 2 ^ 31 by omega)]
    refine qx_has (show c < 32 by omega) (fun hb => ?_) (fun hb => br_t rfl (nm_r (nI_1 i) (hw () (lt_s h hb))))
    obtain ⟨_, h1, _⟩ := hok.2.1 i hi
    have h1' : 1 ≤ qc_p (a3 i) := by
      have : qc_p (qb_1 c) ≤ qc_p (a3 i) := qc_pmono (fun j hj => by rw [qb_1t (by omega), decide_eq_true_iff] at hj; rw [hj]; exact hb)
      rw [qc_p1 hc] at this; exact this
    refine br_f (by decide) ⟨pk_in i 20 (by omega), qx_bits (qb_sle h1 hcv) (H _ (qc_ple _) ?_ _ _ _ _ _ _ _ _ _ _ _ _ _ _)⟩
    constructor
    · intro _
      rw [← hok.2.2]
      exact qy_Ut.mpr ⟨i, hi, hb⟩
    · intro _; omega
/-! ===== a cell shown for a try ===== -/
def qy_cvm (cv : Int32) (c : Nat) : Int32 := cv &&& (qb_1 c ^^^ (-1))
theorem qy_cvmok {cl : Nat → Int32} {cv : Int32} (h : qx_cov cl cv) {c : Nat} (hc : c < 20) {x : Int32} (hx : ¬ x = -1) : qx_cov (upd cl c x) (qy_cvm cv c) := by
  refine ⟨qb_sand _ h.1, fun i hi => ?_⟩
  unfold qy_cvm
  rw [qb_andn, qb_1t (by omega), Bool.and_eq_true, h.2 i hi]
  by_cases e : i = c
  · subst e
    rw [pk_us]
    constructor
    · intro z; exact absurd z.2 (by simp)
    · intro z; exact absurd z hx
  · rw [pk_un e]; simp [e]
theorem qy_nm {k : Nat} (hk : k < 2 ^ 31) : ¬ nI k = -1 := fun z => by
  have h1 := nI_pos hk
  rw [z] at h1
  exact h1 (by decide)
theorem qy_uu (f : Nat → Int32) (c : Nat) (x y : Int32) : upd (upd f c x) c y = upd f c y := by
  funext j
  by_cases e : j = c
  · subst e; rw [pk_us, pk_us]
  · rw [pk_un e, pk_un e, pk_un e]
theorem qy_ub {f : Nat → Int32} {c : Nat} {x : Int32} (h : f c = x) : upd f c x = f := by
  funext j
  by_cases e : j = c
  · subst e; rw [pk_us, h]
  · rw [pk_un e]
theorem qy_clues {post : Int32 → St1 → Prop} {wn cv gc rs ce mi dm df cs : Int32} {a1 a2 a3 a4 a5 a6 a7 a8 a9 a10 : Nat → Int32} (hnr : qx_nr a2) (hch : qx_ch a8) (hv : qw_v a1) (hcv : qx_cov a1 cv) {c : Nat} (hc : c < 20)
    (H1 : a1 c = -1 → ∀ r, (∀ k, k ≤ 8 → qb_t r k = decide (0 < qp_L (upd a1 c (nI k)) a2 (qy_cvm cv c) wn)) → ∀ (gc' rs' ce' mi' dm' df' cs' : Int32) (a3' a4' a5' a6' a7' a9' a10' : Nat → Int32), post r (wn, cv, gc', rs', ce', mi', dm', df', cs', a1, a2, a3', a4', a5', a6', a7', a8, a9', a10')) (H0 : ¬ a1 c = -1 → post 0 (wn, cv, gc, rs, ce, mi, dm, df, cs, a1, a2, a3, a4, a5, a6, a7, a8, a9, a10)) : wpX_clues post (wn, cv, gc, rs, ce, mi, dm, df, cs, a1, a2, a3, a4, a5, a6, a7, a8, a9, a10) (nI c) := by
  unfold wpX_clues; dsimp only
  refine qx_bad hc ?_
  refine br_t rfl ⟨pk_in c 20 hc, ?_⟩
  rw [nI_clamp (show c < 2 ^ 31 by omega)]
  refine br_c (fun e0 => ?_) H0
  refine pk_loop (σ := Int32 × Int32 × (Nat → Int32) × qx_Z) (fun n i s => wX_clues_26 post (nI c) n s.1 (nI i) wn s.2.1 s.2.2.2.1 s.2.2.2.2.1 s.2.2.2.2.2.1 s.2.2.2.2.2.2.1 s.2.2.2.2.2.2.2.1 s.2.2.2.2.2.2.2.2.1 s.2.2.2.2.2.2.2.2.2.1 s.2.2.1 a2 s.2.2.2.2.2.2.2.2.2.2.1 s.2.2.2.2.2.2.2.2.2.2.2.1 s.2.2.2.2.2.2.2.2.2.2.2.2.1 s.2.2.2.2.2.2.2.2.2.2.2.2.2.1 s.2.2.2.2.2.2.2.2.2.2.2.2.2.2.1 a8 s.2.2.2.2.2.2.2.2.2.2.2.2.2.2.2.1 s.2.2.2.2.2.2.2.2.2.2.2.2.2.2.2.2)
    (fun i s => (∀ x, upd s.2.2.1 c x = upd a1 c x) ∧ ∀ j, qb_t s.1 j = (decide (j < i) && decide (0 < qp_L (upd a1 c (nI j)) a2 (qy_cvm cv c) wn))) 9 0 (0, cv, a1, gc, rs, ce, mi, dm, df, cs, a3, a4, a5, a6, a7, a9, a10) (by omega) ⟨fun _ => rfl, fun j => by rw [qb_0]; simp⟩ ?_ ?_
  · rintro n ⟨x, cv', a1', gc, rs, ce, mi, dm, df, cs, a3, a4, a5, a6, a7, a9, a10⟩ ⟨h1, h2⟩
    dsimp only at h1 h2 ⊢
    refine pk_lt 8 9 (fun _ => ⟨pk_in c 20 hc, nm_r (e' := a1) ?_ (qx_refresh (fun cv2 h => ?_))⟩) (fun z => absurd z (by omega))
    · rw [nI_clamp (show c < 2 ^ 31 by omega), h1, qy_ub e0]
    · rw [qx_covU h hcv]
      exact H1 e0 x (fun k hk => by rw [h2 k, decide_eq_true (show k < 9 by omega), Bool.true_and]) gc rs ce mi dm df cs a3 a4 a5 a6 a7 a9 a10
  · rintro n i ⟨x, cv', a1', gc, rs, ce, mi, dm, df, cs, a3, a4, a5, a6, a7, a9, a10⟩ hi ⟨h1, h2⟩ hw
    dsimp only at h1 h2 ⊢
    refine pk_lt 8 i (fun z => absurd z (by omega)) (fun _ => ⟨pk_in c 20 hc, nm_r (e' := upd a1 c (nI i)) ?_ (qx_refresh (fun cv2 h => ?_))⟩)
    · rw [nI_clamp (show c < 2 ^ 31 by omega), h1]
    · have hc2 := qy_cvmok hcv hc (qy_nm (show i < 2 ^ 31 by omega))
      rw [qx_covU h hc2]
      have hv2 := qx_vupd hv c (Or.inr ⟨i, by omega, rfl⟩)
      refine qy_layouts hnr hch hv2 hc2.1 (fun gc' rs' ce' mi' dm' df' cs' a3' a4' a5' a6' a7' a9' a10' => ?_)
      have hL := qp_Lle (upd a1 c (nI i)) a2 (qy_cvm cv c) wn
      refine pk_le (qp_L (upd a1 c (nI i)) a2 (qy_cvm cv c) wn) 0 (fun z => nm_r (nI_1 i) (hw (_, _, _, gc', rs', ce', mi', dm', df', cs', a3', a4', a5', a6', a7', a9', a10') ⟨fun y => qy_uu _ _ _ _, qy_acc h2 (by omega) (Or.inr ⟨decide_eq_false (show ¬ 0 < qp_L (upd a1 c (nI i)) a2 (qy_cvm cv c) wn by omega), rfl⟩)⟩)) (fun z => nm_e (nm_r (nI_1 i) (hw (_, _, _, gc', rs', ce', mi', dm', df', cs', a3', a4', a5', a6', a7', a9', a10') ⟨fun y => qy_uu _ _ _ _, qy_acc h2 (by omega) (Or.inl ⟨decide_eq_true (show 0 < qp_L (upd a1 c (nI i)) a2 (qy_cvm cv c) wn by omega), rfl⟩)⟩)))
end
section
/-! ===== the rules: sound, growing, the same at every call ===== -/
def qu_I (cl nr : Nat → Int32) (cv dm df cs : Int32) : Prop :=
  qb_le dm cv ∧ qb_le df cv ∧ (∀ F, qp_S cl nr cv F → qb_le dm F ∧ ∀ i, qb_t df i = true → qb_t F i = false) ∧ ((∃ F, qp_S cl nr cv F) → cs = 0) ∧ (cs = 0 ∨ cs = 1)
def qu_O (nr : Nat → Int32) (cv dm df : Int32) (c : Nat) : Int32 := nr c &&& cv &&& (dm ^^^ (-1)) &&& (df ^^^ (-1))
def qu_l (cl nr : Nat → Int32) (dm : Int32) (c : Nat) : Int32 := cl c - nI (qc_p (nr c &&& dm))
theorem qu_Ot (nr : Nat → Int32) (cv dm df : Int32) (c i : Nat) : qb_t (qu_O nr cv dm df c) i = (qb_t (nr c) i && qb_t cv i && !qb_t dm i && !qb_t df i) := by
  unfold qu_O
  rw [qb_andn, qb_andn, qb_and]
theorem qu_Ocv (nr : Nat → Int32) (cv dm df : Int32) (c : Nat) : qb_le (qu_O nr cv dm df c) cv := fun i hi => by
  rw [qu_Ot] at hi
  cases h : qb_t cv i
  · rw [h] at hi; simp at hi
  · rfl
theorem qu_nb {x : Int32} (h : x = 0 ∨ x = 1) : narrow .boolean (.int x) = .int x := by
  rcases h with rfl | rfl
  · exact qf_nb0
  · exact qf_nb1
theorem qu_fb {x : Int32} (h : x = 0 ∨ x = 1) : fits .boolean (.int x) = true := by
  rcases h with rfl | rfl <;> rfl
/-- what is left of a clue: the mines of any layout among its undecided cells -/
theorem qu_left {cl nr : Nat → Int32} {cv dm df F : Int32} (hF : qp_S cl nr cv F) (h1 : qb_le dm F) (h2 : ∀ i, qb_t df i = true → qb_t F i = false) {c : Nat} (hc : c < 20) (hs : ¬ cl c = -1) :
    qu_l cl nr dm c = nI (qc_p (qu_O nr cv dm df c &&& F)) := by
  unfold qu_l
  rw [hF.2.2 c hc hs]
  have e : qc_p (nr c &&& F) = qc_p (nr c &&& dm) + qc_p (qu_O nr cv dm df c &&& F) := by
    apply qc_add
    intro i _
    rw [qb_and, qb_and, qb_and, qu_Ot]
    have a := hF.1 i
    have b := h1 i
    have d := h2 i
    revert a b d
    cases qb_t (nr c) i <;> cases qb_t cv i <;> cases qb_t dm i <;> cases qb_t df i <;> cases qb_t F i <;> simp
  rw [e, pk_sub (by omega), show qc_p (nr c &&& dm) + qc_p (qu_O nr cv dm df c &&& F) - qc_p (nr c &&& dm) = qc_p (qu_O nr cv dm df c &&& F) by omega]
theorem qx_openAround {post : Int32 → Prop} {wn cv gc rs ce mi dm df cs : Int32} {a1 a2 a3 a4 a5 a6 a7 a8 a9 a10 : Nat → Int32} {c : Nat} (hc : c < 20) (H : post (qu_O a2 cv dm df c)) : wpX_openAround post (wn, cv, gc, rs, ce, mi, dm, df, cs, a1, a2, a3, a4, a5, a6, a7, a8, a9, a10) (nI c) := by
  unfold wpX_openAround; dsimp only
  rw [nI_clamp (show c < 2 ^ 31 by omega)]
  exact ⟨pk_in c 20 hc, H⟩
theorem qx_leftOf {post : Int32 → Prop} {wn cv gc rs ce mi dm df cs : Int32} {a1 a2 a3 a4 a5 a6 a7 a8 a9 a10 : Nat → Int32} (hnr : qx_nr a2) {c : Nat} (hc : c < 20) (H : post (qu_l a1 a2 dm c)) : wpX_leftOf post (wn, cv, gc, rs, ce, mi, dm, df, cs, a1, a2, a3, a4, a5, a6, a7, a8, a9, a10) (nI c) := by
  unfold wpX_leftOf; dsimp only
  rw [nI_clamp (show c < 2 ^ 31 by omega)]
  exact ⟨pk_in c 20 hc, pk_in c 20 hc, qx_bits (qb_sand _ (hnr c hc).1) H⟩
theorem qu_psub {x F : Int32} (h : qb_s x) (e : qc_p (x &&& F) = qc_p x) : qb_le x F := by
  intro i hi
  cases hF : qb_t F i
  · have := qc_plt (x := x &&& F) (y := x) (i := i) (fun j hj => by rw [qb_and, Bool.and_eq_true] at hj; exact hj.1) (qb_slt h hi) hi (by rw [qb_and, hF]; simp)
    omega
  · rfl
theorem qu_pdis {x F : Int32} (h : qb_s x) (e : qc_p (x &&& F) = 0) : ∀ i, qb_t x i = true → qb_t F i = false := qb_and0.mp (qc_pz (qb_sand F h) e)
theorem qu_ple (x F : Int32) : qc_p (x &&& F) ≤ qc_p x := qc_pmono (fun j hj => by rw [qb_and, Bool.and_eq_true] at hj; exact hj.1)
/-! ===== checkClues ===== -/
theorem qu_check {a1 a2 : Nat → Int32} {cv : Int32} (hnr : qx_nr a2) (hcv : qb_s cv) {dm df cs : Int32} (hI : qu_I a1 a2 cv dm df cs) : ∃ cs', qu_I a1 a2 cv dm df cs' ∧ ∀ (post : St1 → Prop) (wn gc rs ce mi : Int32) (a3 a4 a5 a6 a7 a8 a9 a10 : Nat → Int32), post (wn, cv, gc, rs, ce, mi, dm, df, cs', a1, a2, a3, a4, a5, a6, a7, a8, a9, a10) → wpX_checkClues post (wn, cv, gc, rs, ce, mi, dm, df, cs, a1, a2, a3, a4, a5, a6, a7, a8, a9, a10) := by
  have main : ∀ (j i : Nat) (cs : Int32), i + j = 20 → qu_I a1 a2 cv dm df cs → ∃ cs', qu_I a1 a2 cv dm df cs' ∧ ∀ (post : St1 → Prop) (wn gc rs ce mi : Int32) (a3 a4 a5 a6 a7 a8 a9 a10 : Nat → Int32), post (wn, cv, gc, rs, ce, mi, dm, df, cs', a1, a2, a3, a4, a5, a6, a7, a8, a9, a10) → wX_checkClues_2 post wn cv gc rs ce mi dm df a1 a2 a3 a4 a5 a6 a7 a8 a9 a10 (j + 1) (nI i) cs := by
    intro j
    induction j with
    | zero =>
      intro i cs hi hI
      exact ⟨cs, hI, fun post wn gc rs ce mi a3 a4 a5 a6 a7 a8 a9 a10 hp => pk_le 20 i (fun _ => hp) (fun z => absurd z (by omega))⟩
    | succ j ih =>
      intro i cs hi hI
      have hi20 : i < 20 := by omega
      obtain ⟨k1, k2, k3, k4, k5⟩ := hI
      by_cases e : a1 i = -1
      · obtain ⟨cs', h1, h2⟩ := ih (i + 1) cs (by omega) ⟨k1, k2, k3, k4, k5⟩
        refine ⟨cs', h1, fun post wn gc rs ce mi a3 a4 a5 a6 a7 a8 a9 a10 hp => pk_le 20 i (fun z => absurd z (by omega)) (fun _ => ⟨pk_in i 20 hi20, br_t ?_ (nm_r (nI_1 i) (h2 post wn gc rs ce mi a3 a4 a5 a6 a7 a8 a9 a10 hp))⟩)⟩
        rw [nI_clamp (show i < 2 ^ 31 by omega)]; exact e
      · -- what the check gives here
        have hst : ∃ cs1, qu_I a1 a2 cv dm df cs1 ∧ ∀ (post : St1 → Prop) (n : Nat) (wn gc rs ce mi : Int32) (a3 a4 a5 a6 a7 a8 a9 a10 : Nat → Int32), wX_checkClues_2 post wn cv gc rs ce mi dm df a1 a2 a3 a4 a5 a6 a7 a8 a9 a10 n (nI (i + 1)) cs1 → wX_checkClues_2 post wn cv gc rs ce mi dm df a1 a2 a3 a4 a5 a6 a7 a8 a9 a10 (n + 1) (nI i) cs := by
          by_cases hc : cs = 0
          · subst hc
            have hb : qb_s (qu_O a2 cv dm df i) := qb_sle (qu_Ocv a2 cv dm df i) hcv
            by_cases z1 : qu_l a1 a2 dm i < 0
            · refine ⟨1, ⟨k1, k2, k3, ?_, Or.inr rfl⟩, fun post n wn gc rs ce mi a3 a4 a5 a6 a7 a8 a9 a10 hw => pk_le 20 i (fun z => absurd z (by omega)) (fun _ => ⟨pk_in i 20 hi20, br_f ?_ (qx_leftOf hnr hi20 (br_t rfl (br_t z1 (nm_r (nI_1 i) hw))))⟩)⟩
              · rintro ⟨F, hF⟩
                rw [qu_left hF (k3 F hF).1 (k3 F hF).2 hi20 e] at z1
                exact absurd z1 (nI_pos (by have := qc_ple (qu_O a2 cv dm df i &&& F); omega))
              · rw [nI_clamp (show i < 2 ^ 31 by omega)]; exact e
            · by_cases z2 : qu_l a1 a2 dm i ≤ nI (qc_p (qu_O a2 cv dm df i))
              · refine ⟨0, ⟨k1, k2, k3, fun _ => rfl, Or.inl rfl⟩, fun post n wn gc rs ce mi a3 a4 a5 a6 a7 a8 a9 a10 hw => pk_le 20 i (fun z => absurd z (by omega)) (fun _ => ⟨pk_in i 20 hi20, br_f ?_ (qx_leftOf hnr hi20 (br_t rfl (br_f z1 (qx_openAround hi20 (qx_bits hb (br_t z2 (nm_r (nI_1 i) hw)))))))⟩)⟩
                rw [nI_clamp (show i < 2 ^ 31 by omega)]; exact e
              · refine ⟨1, ⟨k1, k2, k3, ?_, Or.inr rfl⟩, fun post n wn gc rs ce mi a3 a4 a5 a6 a7 a8 a9 a10 hw => pk_le 20 i (fun z => absurd z (by omega)) (fun _ => ⟨pk_in i 20 hi20, br_f ?_ (qx_leftOf hnr hi20 (br_t rfl (br_f z1 (qx_openAround hi20 (qx_bits hb (br_f z2 (nm_r (nI_1 i) hw)))))))⟩)⟩
                · rintro ⟨F, hF⟩
                  rw [qu_left hF (k3 F hF).1 (k3 F hF).2 hi20 e] at z2
                  exact absurd (nI_le (qu_ple (qu_O a2 cv dm df i) F) (by have := qc_ple (qu_O a2 cv dm df i); omega)) z2
                · rw [nI_clamp (show i < 2 ^ 31 by omega)]; exact e
          · refine ⟨1, ⟨k1, k2, k3, fun z => absurd (k4 z) hc, Or.inr rfl⟩, fun post n wn gc rs ce mi a3 a4 a5 a6 a7 a8 a9 a10 hw => pk_le 20 i (fun z => absurd z (by omega)) (fun _ => ⟨pk_in i 20 hi20, br_f ?_ (qx_leftOf hnr hi20 (br_f hc (nm_r (nI_1 i) hw)))⟩)⟩
            rw [nI_clamp (show i < 2 ^ 31 by omega)]; exact e
        obtain ⟨cs1, hI1, hw1⟩ := hst
        obtain ⟨cs', h1, h2⟩ := ih (i + 1) cs1 (by omega) hI1
        exact ⟨cs', h1, fun post wn gc rs ce mi a3 a4 a5 a6 a7 a8 a9 a10 hp => hw1 post (j + 1) wn gc rs ce mi a3 a4 a5 a6 a7 a8 a9 a10 (h2 post wn gc rs ce mi a3 a4 a5 a6 a7 a8 a9 a10 hp)⟩
  obtain ⟨cs', h1, h2⟩ := main 20 0 cs rfl hI
  exact ⟨cs', h1, fun post wn gc rs ce mi a3 a4 a5 a6 a7 a8 a9 a10 hp => ⟨21, h2 post wn gc rs ce mi a3 a4 a5 a6 a7 a8 a9 a10 hp⟩⟩
/-! ===== decideBy ===== -/
theorem qu_decide {a1 a2 : Nat → Int32} {cv : Int32} (hnr : qx_nr a2) (hcv : qb_s cv) {dm df cs : Int32} (hI : qu_I a1 a2 cv dm df cs) {X N : Int32} (hX : qb_le X cv) (hN : ∀ F, qp_S a1 a2 cv F → N = nI (qc_p (X &&& F))) :
    ∃ r dm' df', (r = 0 ∨ r = 1) ∧ qu_I a1 a2 cv dm' df' cs ∧ qb_le dm dm' ∧ qb_le df df' ∧ ∀ (post : Int32 → St1 → Prop) (wn gc rs ce mi : Int32) (a3 a4 a5 a6 a7 a8 a9 a10 : Nat → Int32), post r (wn, cv, gc, rs, ce, mi, dm', df', cs, a1, a2, a3, a4, a5, a6, a7, a8, a9, a10) → wpX_decideBy post (wn, cv, gc, rs, ce, mi, dm, df, cs, a1, a2, a3, a4, a5, a6, a7, a8, a9, a10) X N := by
  obtain ⟨k1, k2, k3, k4, k5⟩ := hI
  have hs : qb_s X := qb_sle hX hcv
  have hp := qc_ple X
  by_cases e : X = 0
  · exact ⟨0, dm, df, Or.inl rfl, ⟨k1, k2, k3, k4, k5⟩, fun _ h => h, fun _ h => h, fun post wn gc rs ce mi a3 a4 a5 a6 a7 a8 a9 a10 h => br_t e (br_t e (br_t rfl (br_t rfl (br_t rfl (br_t rfl h)))))⟩
  · have hp1 : ¬ qc_p X = 0 := fun z => e (qc_pz hs z)
    by_cases z : N = 0
    · have hne : ¬ N = nI (qc_p X) := fun y => by
        rw [z] at y
        exact nI_ne0 (show 0 < qc_p X by omega) (by omega) y.symm
      refine ⟨1, dm, df ||| X, Or.inr rfl, ⟨k1, ?_, ?_, k4, k5⟩, fun _ h => h, fun i h => by rw [qb_or, h]; rfl, fun post wn gc rs ce mi a3 a4 a5 a6 a7 a8 a9 a10 h => br_f e (br_t z (br_f e (qx_bits hs (br_f hne (br_f (by decide) (br_t rfl (br_f (by decide) h)))))))⟩
      · intro i hi
        rw [qb_or, Bool.or_eq_true] at hi
        exact hi.elim (k2 i) (hX i)
      · intro F hF
        obtain ⟨a, b⟩ := k3 F hF
        refine ⟨a, fun i hi => ?_⟩
        rw [qb_or, Bool.or_eq_true] at hi
        refine hi.elim (b i) (fun y => ?_)
        have hz := hN F hF
        rw [z, ← nI_0, nI_eq (by omega) (by have := qc_ple (X &&& F); omega)] at hz
        exact qu_pdis hs hz.symm i y
    · by_cases y : N = nI (qc_p X)
      · refine ⟨1, dm ||| X, df, Or.inr rfl, ⟨?_, k2, ?_, k4, k5⟩, fun i h => by rw [qb_or, h]; rfl, fun _ h => h, fun post wn gc rs ce mi a3 a4 a5 a6 a7 a8 a9 a10 h => br_f e (br_f z (br_f e (qx_bits hs (br_t y (br_t rfl (br_f (by decide) (br_t rfl (br_f (by decide) h))))))))⟩
        · intro i hi
          rw [qb_or, Bool.or_eq_true] at hi
          exact hi.elim (k1 i) (hX i)
        · intro F hF
          obtain ⟨a, b⟩ := k3 F hF
          refine ⟨fun i hi => ?_, b⟩
          rw [qb_or, Bool.or_eq_true] at hi
          refine hi.elim (a i) (fun w => ?_)
          have hz := hN F hF
          rw [y, nI_eq (by omega) (by have := qc_ple (X &&& F); omega)] at hz
          exact qu_psub hs hz.symm i w
      · exact ⟨0, dm, df, Or.inl rfl, ⟨k1, k2, k3, k4, k5⟩, fun _ h => h, fun _ h => h, fun post wn gc rs ce mi a3 a4 a5 a6 a7 a8 a9 a10 h => br_f e (br_f z (br_f e (qx_bits hs (br_f y (br_t rfl (br_t rfl (br_t rfl (br_t rfl h))))))))⟩
end
section
/-! ===== ruleOne, ruleTwo, applyRules ===== -/
theorem qu_one1 {a1 a2 : Nat → Int32} {cv : Int32} (hnr : qx_nr a2) (hcv : qb_s cv) {any dm df cs : Int32} (ha : any = 0 ∨ any = 1) (hI : qu_I a1 a2 cv dm df cs) (hc0 : cs = 0) {i : Nat} (hi : i < 20) (e : ¬ a1 i = -1) :
    ∃ any' dm' df' cs', (any' = 0 ∨ any' = 1) ∧ qu_I a1 a2 cv dm' df' cs' ∧ qb_le dm dm' ∧ qb_le df df' ∧ ∀ (post : Int32 → St1 → Prop) (n : Nat) (wn gc rs ce mi : Int32) (a3 a4 a5 a6 a7 a8 a9 a10 : Nat → Int32), wX_ruleOne_4 post n any' (nI (i + 1)) wn cv gc rs ce mi dm' df' cs' a1 a2 a3 a4 a5 a6 a7 a8 a9 a10 → wX_ruleOne_4 post (n + 1) any (nI i) wn cv gc rs ce mi dm df cs a1 a2 a3 a4 a5 a6 a7 a8 a9 a10 := by
  have k3 := hI.2.2.1
  obtain ⟨r, dm', df', hr, hI1, g1, g2, hd⟩ := qu_decide hnr hcv hI (qu_Ocv a2 cv dm df i) (N := qu_l a1 a2 dm i) (fun F hF => qu_left hF (k3 F hF).1 (k3 F hF).2 hi e)
  obtain ⟨cs', hI2, hk⟩ := qu_check hnr hcv hI1
  have fin : ∀ (z : Int32), (z = 0 ∨ z = 1) → ((any = 0 ∧ r = 0 ∧ z = 0) ∨ (any = 0 ∧ ¬ r = 0 ∧ z = 1) ∨ (¬ any = 0 ∧ z = 1)) →
      ∃ any' dm' df' cs', (any' = 0 ∨ any' = 1) ∧ qu_I a1 a2 cv dm' df' cs' ∧ qb_le dm dm' ∧ qb_le df df' ∧ ∀ (post : Int32 → St1 → Prop) (n : Nat) (wn gc rs ce mi : Int32) (a3 a4 a5 a6 a7 a8 a9 a10 : Nat → Int32), wX_ruleOne_4 post n any' (nI (i + 1)) wn cv gc rs ce mi dm' df' cs' a1 a2 a3 a4 a5 a6 a7 a8 a9 a10 → wX_ruleOne_4 post (n + 1) any (nI i) wn cv gc rs ce mi dm df cs a1 a2 a3 a4 a5 a6 a7 a8 a9 a10 := by
    intro z hz hcase
    refine ⟨z, dm', df', cs', hz, hI2, g1, g2, fun post n wn gc rs ce mi a3 a4 a5 a6 a7 a8 a9 a10 hw => pk_le 20 i (fun y => absurd y (by omega)) (fun _ => br_t hc0 ⟨pk_in i 20 hi, br_f ?_ (qx_openAround hi (qx_leftOf hnr hi (hd _ wn gc rs ce mi a3 a4 a5 a6 a7 a8 a9 a10 ?_)))⟩)⟩
    · rw [nI_clamp (show i < 2 ^ 31 by omega)]; exact e
    · rcases hcase with ⟨y1, y2, rfl⟩ | ⟨y1, y2, rfl⟩ | ⟨y1, rfl⟩
      · exact br_t y1 (br_t y2 (hk _ wn gc rs ce mi a3 a4 a5 a6 a7 a8 a9 a10 (nm_r (nI_1 i) hw)))
      · exact br_t y1 (br_f y2 (hk _ wn gc rs ce mi a3 a4 a5 a6 a7 a8 a9 a10 (nm_r (nI_1 i) hw)))
      · exact br_f y1 (hk _ wn gc rs ce mi a3 a4 a5 a6 a7 a8 a9 a10 (nm_r (nI_1 i) hw))
  by_cases y1 : any = 0
  · by_cases y2 : r = 0
    · exact fin 0 (Or.inl rfl) (Or.inl ⟨y1, y2, rfl⟩)
    · exact fin 1 (Or.inr rfl) (Or.inr (Or.inl ⟨y1, y2, rfl⟩))
  · exact fin 1 (Or.inr rfl) (Or.inr (Or.inr ⟨y1, rfl⟩))
theorem qu_one {a1 a2 : Nat → Int32} {cv : Int32} (hnr : qx_nr a2) (hcv : qb_s cv) {dm df cs : Int32} (hI : qu_I a1 a2 cv dm df cs) :
    ∃ r dm' df' cs', (r = 0 ∨ r = 1) ∧ qu_I a1 a2 cv dm' df' cs' ∧ qb_le dm dm' ∧ qb_le df df' ∧ ∀ (post : Int32 → St1 → Prop) (wn gc rs ce mi : Int32) (a3 a4 a5 a6 a7 a8 a9 a10 : Nat → Int32), post r (wn, cv, gc, rs, ce, mi, dm', df', cs', a1, a2, a3, a4, a5, a6, a7, a8, a9, a10) → wpX_ruleOne post (wn, cv, gc, rs, ce, mi, dm, df, cs, a1, a2, a3, a4, a5, a6, a7, a8, a9, a10) := by
  have main : ∀ (j i : Nat) (any dm df cs : Int32), i + j = 20 → (any = 0 ∨ any = 1) → qu_I a1 a2 cv dm df cs → ∃ r dm' df' cs', (r = 0 ∨ r = 1) ∧ qu_I a1 a2 cv dm' df' cs' ∧ qb_le dm dm' ∧ qb_le df df' ∧
      ∀ (post : Int32 → St1 → Prop) (wn gc rs ce mi : Int32) (a3 a4 a5 a6 a7 a8 a9 a10 : Nat → Int32), post r (wn, cv, gc, rs, ce, mi, dm', df', cs', a1, a2, a3, a4, a5, a6, a7, a8, a9, a10) → wX_ruleOne_4 post (j + 1) any (nI i) wn cv gc rs ce mi dm df cs a1 a2 a3 a4 a5 a6 a7 a8 a9 a10 := by
    intro j
    induction j with
    | zero =>
      intro i any dm df cs hi ha hI
      exact ⟨any, dm, df, cs, ha, hI, fun _ h => h, fun _ h => h, fun post wn gc rs ce mi a3 a4 a5 a6 a7 a8 a9 a10 hp => pk_le 20 i (fun _ => ⟨qu_nb ha, hp⟩) (fun z => absurd z (by omega))⟩
    | succ j ih =>
      intro i any dm df cs hi ha hI
      have hi20 : i < 20 := by omega
      by_cases hc0 : cs = 0
      · by_cases e : a1 i = -1
        · obtain ⟨r, dm', df', cs', h1, h2, h3, h4, h5⟩ := ih (i + 1) any dm df cs (by omega) ha hI
          refine ⟨r, dm', df', cs', h1, h2, h3, h4, fun post wn gc rs ce mi a3 a4 a5 a6 a7 a8 a9 a10 hp => pk_le 20 i (fun z => absurd z (by omega)) (fun _ => br_t hc0 ⟨pk_in i 20 hi20, br_t ?_ (nm_r (nI_1 i) (h5 post wn gc rs ce mi a3 a4 a5 a6 a7 a8 a9 a10 hp))⟩)⟩
          rw [nI_clamp (show i < 2 ^ 31 by omega)]; exact e
        · obtain ⟨any1, dm1, df1, cs1, g1, g2, g3, g4, g5⟩ := qu_one1 hnr hcv ha hI hc0 hi20 e
          obtain ⟨r, dm', df', cs', h1, h2, h3, h4, h5⟩ := ih (i + 1) any1 dm1 df1 cs1 (by omega) g1 g2
          exact ⟨r, dm', df', cs', h1, h2, fun i h => h3 i (g3 i h), fun i h => h4 i (g4 i h), fun post wn gc rs ce mi a3 a4 a5 a6 a7 a8 a9 a10 hp => g5 post (j + 1) wn gc rs ce mi a3 a4 a5 a6 a7 a8 a9 a10 (h5 post wn gc rs ce mi a3 a4 a5 a6 a7 a8 a9 a10 hp)⟩
      · exact ⟨any, dm, df, cs, ha, hI, fun _ h => h, fun _ h => h, fun post wn gc rs ce mi a3 a4 a5 a6 a7 a8 a9 a10 hp => pk_le 20 i (fun z => absurd z (by omega)) (fun _ => br_f hc0 ⟨qu_nb ha, hp⟩)⟩
  obtain ⟨r, dm', df', cs', h1, h2, h3, h4, h5⟩ := main 20 0 0 dm df cs rfl (Or.inl rfl) hI
  exact ⟨r, dm', df', cs', h1, h2, h3, h4, fun post wn gc rs ce mi a3 a4 a5 a6 a7 a8 a9 a10 hp => ⟨21, h5 post wn gc rs ce mi a3 a4 a5 a6 a7 a8 a9 a10 hp⟩⟩
/-! ===== ruleTwoFor ===== -/
theorem qu_two1 {a1 a2 : Nat → Int32} {cv : Int32} (hnr : qx_nr a2) (hcv : qb_s cv) {dm df : Int32} (hI : qu_I a1 a2 cv dm df 0) {a b : Nat} (ha : a < 20) (hb : b < 20) (ea : ¬ a1 a = -1) (eb : ¬ a1 b = -1) :
    ∃ r dm' df' cs', (r = 0 ∨ r = 1) ∧ qu_I a1 a2 cv dm' df' cs' ∧ qb_le dm dm' ∧ qb_le df df' ∧ ∀ (post : Int32 → St1 → Prop) (wn gc rs ce mi : Int32) (a3 a4 a5 a6 a7 a8 a9 a10 : Nat → Int32), post r (wn, cv, gc, rs, ce, mi, dm', df', cs', a1, a2, a3, a4, a5, a6, a7, a8, a9, a10) → wpX_ruleTwoFor post (wn, cv, gc, rs, ce, mi, dm, df, 0, a1, a2, a3, a4, a5, a6, a7, a8, a9, a10) (nI a) (nI b) := by
  by_cases hab : nI a = nI b
  · exact ⟨0, dm, df, 0, Or.inl rfl, hI, fun _ h => h, fun _ h => h, fun post wn gc rs ce mi a3 a4 a5 a6 a7 a8 a9 a10 hp => by
      unfold wpX_ruleTwoFor; dsimp only
      refine qx_openAround ha ?_
      refine qx_openAround hb ?_
      exact nm_e (br_t hab hp)⟩
  · generalize hA : qu_O a2 cv dm df a = A
    generalize hB : qu_O a2 cv dm df b = B
    by_cases hAB : (A &&& (B ^^^ (-1))) = 0
    · -- the pair is told
      generalize hX : B &&& (A ^^^ (-1)) = X
      generalize hN : qu_l a1 a2 dm b - qu_l a1 a2 dm a = N
      have hBs : qb_le B cv := hB ▸ qu_Ocv a2 cv dm df b
      have hXc : qb_le X cv := fun i hi => by
        rw [← hX, qb_andn, Bool.and_eq_true] at hi
        exact hBs i hi.1
      have hs : qb_s X := qb_sle hXc hcv
      have hp := qc_ple X
      have hAle : ∀ i, qb_t A i = true → qb_t B i = true := fun i hi => by
        have := qb_and0.mp hAB i hi
        rw [qb_not B (qb_lt hi)] at this
        simpa using this
      have k3 := hI.2.2.1
      have hNF : ∀ F, qp_S a1 a2 cv F → N = nI (qc_p (X &&& F)) := by
        intro F hF
        rw [← hN, qu_left hF (k3 F hF).1 (k3 F hF).2 ha ea, qu_left hF (k3 F hF).1 (k3 F hF).2 hb eb, hA, hB]
        have e : qc_p (B &&& F) = qc_p (A &&& F) + qc_p (X &&& F) := by
          apply qc_add
          intro i _
          rw [qb_and, qb_and, qb_and, ← hX, qb_andn]
          have := hAle i
          revert this
          cases qb_t A i <;> cases qb_t B i <;> cases qb_t F i <;> simp
        rw [e, pk_sub (by omega), show qc_p (A &&& F) + qc_p (X &&& F) - qc_p (A &&& F) = qc_p (X &&& F) by omega]
      by_cases hgood : ¬ N < 0 ∧ N ≤ nI (qc_p X)
      · obtain ⟨r, dm', df', hr, hI1, g1, g2, hd⟩ := qu_decide hnr hcv hI hXc hNF
        obtain ⟨cs', hI2, hk⟩ := qu_check hnr hcv hI1
        refine ⟨r, dm', df', cs', hr, hI2, g1, g2, fun post wn gc rs ce mi a3 a4 a5 a6 a7 a8 a9 a10 hpost => ?_⟩
        unfold wpX_ruleTwoFor; dsimp only
        refine qx_openAround ha ?_
        refine qx_openAround hb ?_
        rw [hA, hB]
        refine nm_r hX (br_f hab (qx_openAround hb ?_))
        rw [hB]
        refine br_t hAB (qx_leftOf hnr hb ?_)
        refine qx_leftOf hnr ha ?_
        refine nm_r hN (br_t rfl (br_f hgood.1 (qx_bits hs ?_)))
        refine br_t hgood.2 ⟨qf_nb0, rfl, br_t rfl (hd _ wn gc rs ce mi a3 a4 a5 a6 a7 a8 a9 a10 ?_)⟩
        rcases hr with rfl | rfl
        · exact br_t rfl (hk _ wn gc rs ce mi a3 a4 a5 a6 a7 a8 a9 a10 ⟨qf_nb0, hpost⟩)
        · exact br_f (by decide) (hk _ wn gc rs ce mi a3 a4 a5 a6 a7 a8 a9 a10 ⟨qf_nb1, hpost⟩)
      · have hno : ¬ ∃ F, qp_S a1 a2 cv F := by
          rintro ⟨F, hF⟩
          apply hgood
          rw [hNF F hF]
          have h1 := qu_ple X F
          exact ⟨nI_pos (by omega), nI_le h1 (by omega)⟩
        have hI1 : qu_I a1 a2 cv dm df 1 := ⟨hI.1, hI.2.1, k3, fun z => absurd z hno, Or.inr rfl⟩
        obtain ⟨cs', hI2, hk⟩ := qu_check hnr hcv hI1
        refine ⟨0, dm, df, cs', Or.inl rfl, hI2, fun _ h => h, fun _ h => h, fun post wn gc rs ce mi a3 a4 a5 a6 a7 a8 a9 a10 hpost => ?_⟩
        unfold wpX_ruleTwoFor; dsimp only
        refine qx_openAround ha ?_
        refine qx_openAround hb ?_
        rw [hA, hB]
        refine nm_r hX (br_f hab (qx_openAround hb ?_))
        rw [hB]
        refine br_t hAB (qx_leftOf hnr hb ?_)
        refine qx_leftOf hnr ha ?_
        have h74 : wX_ruleTwoFor_74 post X N wn cv gc rs ce mi dm df 0 a1 a2 a3 a4 a5 a6 a7 a8 a9 a10 := ⟨qf_nb1, rfl, br_f (by decide) (hk _ wn gc rs ce mi a3 a4 a5 a6 a7 a8 a9 a10 ⟨qf_nb0, hpost⟩)⟩
        refine nm_r hN (br_t rfl (br_c (fun _ => h74) (fun y => qx_bits hs ?_)))
        exact br_f (fun z => hgood ⟨y, z⟩) h74
    · exact ⟨0, dm, df, 0, Or.inl rfl, hI, fun _ h => h, fun _ h => h, fun post wn gc rs ce mi a3 a4 a5 a6 a7 a8 a9 a10 hp => by
        unfold wpX_ruleTwoFor; dsimp only
        refine qx_openAround ha ?_
        refine qx_openAround hb ?_
        refine nm_e (br_f hab (qx_openAround hb ?_))
        rw [hA, hB]
        exact br_f hAB hp⟩
/-! ===== ruleTwo ===== -/
theorem qu_two12 {a1 a2 : Nat → Int32} {cv : Int32} (hnr : qx_nr a2) (hcv : qb_s cv) {a : Nat} (ha : a < 20) : ∀ (j i : Nat) (any dm df cs : Int32), i + j = 20 → (any = 0 ∨ any = 1) → qu_I a1 a2 cv dm df cs → ∃ r dm' df' cs', (r = 0 ∨ r = 1) ∧ qu_I a1 a2 cv dm' df' cs' ∧ qb_le dm dm' ∧ qb_le df df' ∧
      ∀ (post : Int32 → St1 → Prop) (J : Int32 → Int32 → Int32 → Int32 → Int32 → Int32 → Int32 → Int32 → Int32 → Int32 → Int32 → (Nat → Int32) → (Nat → Int32) → (Nat → Int32) → (Nat → Int32) → (Nat → Int32) → (Nat → Int32) → (Nat → Int32) → (Nat → Int32) → (Nat → Int32) → (Nat → Int32) → Prop) (wn gc rs ce mi : Int32) (a3 a4 a5 a6 a7 a8 a9 a10 : Nat → Int32), J r (nI (a + 1)) wn cv gc rs ce mi dm' df' cs' a1 a2 a3 a4 a5 a6 a7 a8 a9 a10 → wX_ruleTwo_12 post J (nI a) (j + 1) any (nI i) wn cv gc rs ce mi dm df cs a1 a2 a3 a4 a5 a6 a7 a8 a9 a10 := by
  intro j
  induction j with
  | zero =>
    intro i any dm df cs hi hany hI
    exact ⟨any, dm, df, cs, hany, hI, fun _ h => h, fun _ h => h, fun post J wn gc rs ce mi a3 a4 a5 a6 a7 a8 a9 a10 hp => pk_le 20 i (fun _ => nm_r (nI_1 a) hp) (fun z => absurd z (by omega))⟩
  | succ j ih =>
    intro i any dm df cs hi hany hI
    have hi20 : i < 20 := by omega
    have skip : (∀ (post : Int32 → St1 → Prop) (J : Int32 → Int32 → Int32 → Int32 → Int32 → Int32 → Int32 → Int32 → Int32 → Int32 → Int32 → (Nat → Int32) → (Nat → Int32) → (Nat → Int32) → (Nat → Int32) → (Nat → Int32) → (Nat → Int32) → (Nat → Int32) → (Nat → Int32) → (Nat → Int32) → (Nat → Int32) → Prop) (n : Nat) (wn gc rs ce mi : Int32) (a3 a4 a5 a6 a7 a8 a9 a10 : Nat → Int32), wX_ruleTwo_12 post J (nI a) n any (nI (i + 1)) wn cv gc rs ce mi dm df cs a1 a2 a3 a4 a5 a6 a7 a8 a9 a10 → wX_ruleTwo_12 post J (nI a) (n + 1) any (nI i) wn cv gc rs ce mi dm df cs a1 a2 a3 a4 a5 a6 a7 a8 a9 a10) →
        ∃ r dm' df' cs', (r = 0 ∨ r = 1) ∧ qu_I a1 a2 cv dm' df' cs' ∧ qb_le dm dm' ∧ qb_le df df' ∧
      ∀ (post : Int32 → St1 → Prop) (J : Int32 → Int32 → Int32 → Int32 → Int32 → Int32 → Int32 → Int32 → Int32 → Int32 → Int32 → (Nat → Int32) → (Nat → Int32) → (Nat → Int32) → (Nat → Int32) → (Nat → Int32) → (Nat → Int32) → (Nat → Int32) → (Nat → Int32) → (Nat → Int32) → (Nat → Int32) → Prop) (wn gc rs ce mi : Int32) (a3 a4 a5 a6 a7 a8 a9 a10 : Nat → Int32), J r (nI (a + 1)) wn cv gc rs ce mi dm' df' cs' a1 a2 a3 a4 a5 a6 a7 a8 a9 a10 → wX_ruleTwo_12 post J (nI a) (j + 1 + 1) any (nI i) wn cv gc rs ce mi dm df cs a1 a2 a3 a4 a5 a6 a7 a8 a9 a10 := by
      intro hs
      obtain ⟨r, dm', df', cs', h1, h2, h3, h4, h5⟩ := ih (i + 1) any dm df cs (by omega) hany hI
      exact ⟨r, dm', df', cs', h1, h2, h3, h4, fun post J wn gc rs ce mi a3 a4 a5 a6 a7 a8 a9 a10 hp => hs post J (j + 1) wn gc rs ce mi a3 a4 a5 a6 a7 a8 a9 a10 (h5 post J wn gc rs ce mi a3 a4 a5 a6 a7 a8 a9 a10 hp)⟩
    have ca : (nI a).toNatClampNeg = a := nI_clamp (by omega)
    have ci : (nI i).toNatClampNeg = i := nI_clamp (by omega)
    by_cases ea : a1 a = -1
    · exact skip (fun post J n wn gc rs ce mi a3 a4 a5 a6 a7 a8 a9 a10 hw => pk_le 20 i (fun z => absurd z (by omega)) (fun _ => ⟨pk_in a 20 ha, br_t (by rw [ca]; exact ea) (nm_r (nI_1 i) hw)⟩))
    · by_cases eb : a1 i = -1
      · exact skip (fun post J n wn gc rs ce mi a3 a4 a5 a6 a7 a8 a9 a10 hw => pk_le 20 i (fun z => absurd z (by omega)) (fun _ => ⟨pk_in a 20 ha, br_f (by rw [ca]; exact ea) ⟨pk_in i 20 hi20, br_t (by rw [ci]; exact eb) (nm_r (nI_1 i) hw)⟩⟩))
      · by_cases hc0 : cs = 0
        · subst hc0
          obtain ⟨r0, dm1, df1, cs1, g1, g2, g3, g4, g5⟩ := qu_two1 hnr hcv hI ha hi20 ea eb
          have fin : ∀ any1 : Int32, (any1 = 0 ∨ any1 = 1) → ((any = 0 ∧ r0 = 0 ∧ any1 = 0) ∨ (any = 0 ∧ ¬ r0 = 0 ∧ any1 = 1) ∨ (¬ any = 0 ∧ any1 = 1)) → ∃ r dm' df' cs', (r = 0 ∨ r = 1) ∧ qu_I a1 a2 cv dm' df' cs' ∧ qb_le dm dm' ∧ qb_le df df' ∧
              ∀ (post : Int32 → St1 → Prop) (J : Int32 → Int32 → Int32 → Int32 → Int32 → Int32 → Int32 → Int32 → Int32 → Int32 → Int32 → (Nat → Int32) → (Nat → Int32) → (Nat → Int32) → (Nat → Int32) → (Nat → Int32) → (Nat → Int32) → (Nat → Int32) → (Nat → Int32) → (Nat → Int32) → (Nat → Int32) → Prop) (wn gc rs ce mi : Int32) (a3 a4 a5 a6 a7 a8 a9 a10 : Nat → Int32), J r (nI (a + 1)) wn cv gc rs ce mi dm' df' cs' a1 a2 a3 a4 a5 a6 a7 a8 a9 a10 → wX_ruleTwo_12 post J (nI a) (j + 1 + 1) any (nI i) wn cv gc rs ce mi dm df 0 a1 a2 a3 a4 a5 a6 a7 a8 a9 a10 := by
            intro any1 hany1 hcase
            obtain ⟨r, dm', df', cs', h1, h2, h3, h4, h5⟩ := ih (i + 1) any1 dm1 df1 cs1 (by omega) hany1 g2
            refine ⟨r, dm', df', cs', h1, h2, fun i h => h3 i (g3 i h), fun i h => h4 i (g4 i h), fun post J wn gc rs ce mi a3 a4 a5 a6 a7 a8 a9 a10 hp => pk_le 20 i (fun z => absurd z (by omega)) (fun _ => ⟨pk_in a 20 ha, br_f (by rw [ca]; exact ea) ⟨pk_in i 20 hi20, br_f (by rw [ci]; exact eb) (br_t rfl (g5 _ wn gc rs ce mi a3 a4 a5 a6 a7 a8 a9 a10 ?_))⟩⟩)⟩
            have hw := h5 post J wn gc rs ce mi a3 a4 a5 a6 a7 a8 a9 a10 hp
            rcases hcase with ⟨y1, y2, rfl⟩ | ⟨y1, y2, rfl⟩ | ⟨y1, rfl⟩
            · exact br_t y1 (br_t y2 (nm_r (nI_1 i) hw))
            · exact br_t y1 (br_f y2 (nm_r (nI_1 i) hw))
            · exact br_f y1 (nm_r (nI_1 i) hw)
          by_cases y1 : any = 0
          · by_cases y2 : r0 = 0
            · exact fin 0 (Or.inl rfl) (Or.inl ⟨y1, y2, rfl⟩)
            · exact fin 1 (Or.inr rfl) (Or.inr (Or.inl ⟨y1, y2, rfl⟩))
          · exact fin 1 (Or.inr rfl) (Or.inr (Or.inr ⟨y1, rfl⟩))
        · exact skip (fun post J n wn gc rs ce mi a3 a4 a5 a6 a7 a8 a9 a10 hw => pk_le 20 i (fun z => absurd z (by omega)) (fun _ => ⟨pk_in a 20 ha, br_f (by rw [ca]; exact ea) ⟨pk_in i 20 hi20, br_f (by rw [ci]; exact eb) (br_f hc0 (nm_r (nI_1 i) hw))⟩⟩))
theorem qu_two {a1 a2 : Nat → Int32} {cv : Int32} (hnr : qx_nr a2) (hcv : qb_s cv) {dm df cs : Int32} (hI : qu_I a1 a2 cv dm df cs) :
    ∃ r dm' df' cs', (r = 0 ∨ r = 1) ∧ qu_I a1 a2 cv dm' df' cs' ∧ qb_le dm dm' ∧ qb_le df df' ∧ ∀ (post : Int32 → St1 → Prop) (wn gc rs ce mi : Int32) (a3 a4 a5 a6 a7 a8 a9 a10 : Nat → Int32), post r (wn, cv, gc, rs, ce, mi, dm', df', cs', a1, a2, a3, a4, a5, a6, a7, a8, a9, a10) → wpX_ruleTwo post (wn, cv, gc, rs, ce, mi, dm, df, cs, a1, a2, a3, a4, a5, a6, a7, a8, a9, a10) := by
  have main : ∀ (j i : Nat) (any dm df cs : Int32), i + j = 20 → (any = 0 ∨ any = 1) → qu_I a1 a2 cv dm df cs → ∃ r dm' df' cs', (r = 0 ∨ r = 1) ∧ qu_I a1 a2 cv dm' df' cs' ∧ qb_le dm dm' ∧ qb_le df df' ∧
      ∀ (post : Int32 → St1 → Prop) (wn gc rs ce mi : Int32) (a3 a4 a5 a6 a7 a8 a9 a10 : Nat → Int32), post r (wn, cv, gc, rs, ce, mi, dm', df', cs', a1, a2, a3, a4, a5, a6, a7, a8, a9, a10) → wX_ruleTwo_4 post (j + 1) any (nI i) wn cv gc rs ce mi dm df cs a1 a2 a3 a4 a5 a6 a7 a8 a9 a10 := by
    intro j
    induction j with
    | zero =>
      intro i any dm df cs hi hany hI
      exact ⟨any, dm, df, cs, hany, hI, fun _ h => h, fun _ h => h, fun post wn gc rs ce mi a3 a4 a5 a6 a7 a8 a9 a10 hp => pk_le 20 i (fun _ => ⟨qu_nb hany, hp⟩) (fun z => absurd z (by omega))⟩
    | succ j ih =>
      intro i any dm df cs hi hany hI
      obtain ⟨any1, dm1, df1, cs1, g1, g2, g3, g4, g5⟩ := qu_two12 hnr hcv (show i < 20 by omega) 20 0 any dm df cs rfl hany hI
      obtain ⟨r, dm', df', cs', h1, h2, h3, h4, h5⟩ := ih (i + 1) any1 dm1 df1 cs1 (by omega) g1 g2
      exact ⟨r, dm', df', cs', h1, h2, fun i h => h3 i (g3 i h), fun i h => h4 i (g4 i h), fun post wn gc rs ce mi a3 a4 a5 a6 a7 a8 a9 a10 hp => pk_le 20 i (fun z => absurd z (by omega)) (fun _ => ⟨21, g5 post _ wn gc rs ce mi a3 a4 a5 a6 a7 a8 a9 a10 (h5 post wn gc rs ce mi a3 a4 a5 a6 a7 a8 a9 a10 hp)⟩)⟩
  obtain ⟨r, dm', df', cs', h1, h2, h3, h4, h5⟩ := main 20 0 0 dm df cs rfl (Or.inl rfl) hI
  exact ⟨r, dm', df', cs', h1, h2, h3, h4, fun post wn gc rs ce mi a3 a4 a5 a6 a7 a8 a9 a10 hp => ⟨21, h5 post wn gc rs ce mi a3 a4 a5 a6 a7 a8 a9 a10 hp⟩⟩
/-! ===== applyRules, with one rule and with both ===== -/
theorem qu_rounds {a1 a2 : Nat → Int32} {cv : Int32} (hnr : qx_nr a2) (hcv : qb_s cv) : ∀ (j i : Nat) (more dm df cs : Int32), i + j = 22 → qu_I a1 a2 cv dm df cs → ∃ dm1 df1 cs1 dm2 df2 cs2, qu_I a1 a2 cv dm1 df1 cs1 ∧ qu_I a1 a2 cv dm2 df2 cs2 ∧ qb_le dm dm2 ∧ qb_le df df2 ∧ qb_le dm1 dm2 ∧ qb_le df1 df2 ∧
      (∀ (post : St1 → Prop) (wn gc rs ce mi : Int32) (a3 a4 a5 a6 a7 a8 a9 a10 : Nat → Int32), post (wn, cv, gc, rs, ce, mi, dm1, df1, cs1, a1, a2, a3, a4, a5, a6, a7, a8, a9, a10) → wX_applyRules_23 post 0 (j + 1) more (nI i) wn cv gc rs ce mi dm df cs a1 a2 a3 a4 a5 a6 a7 a8 a9 a10) ∧ (∀ (post : St1 → Prop) (wn gc rs ce mi : Int32) (a3 a4 a5 a6 a7 a8 a9 a10 : Nat → Int32), post (wn, cv, gc, rs, ce, mi, dm2, df2, cs2, a1, a2, a3, a4, a5, a6, a7, a8, a9, a10) → wX_applyRules_23 post 1 (j + 1) more (nI i) wn cv gc rs ce mi dm df cs a1 a2 a3 a4 a5 a6 a7 a8 a9 a10) := by
  intro j
  induction j with
  | zero =>
    intro i more dm df cs hi hI
    exact ⟨dm, df, cs, dm, df, cs, hI, hI, fun _ h => h, fun _ h => h, fun _ h => h, fun _ h => h, fun post wn gc rs ce mi a3 a4 a5 a6 a7 a8 a9 a10 hp => pk_le 22 i (fun _ => hp) (fun z => absurd z (by omega)), fun post wn gc rs ce mi a3 a4 a5 a6 a7 a8 a9 a10 hp => pk_le 22 i (fun _ => hp) (fun z => absurd z (by omega))⟩
  | succ j ih =>
    intro i more dm df cs hi hI
    have hi22 : ¬ 22 ≤ i := by omega
    by_cases hm : more = 0
    · exact ⟨dm, df, cs, dm, df, cs, hI, hI, fun _ h => h, fun _ h => h, fun _ h => h, fun _ h => h, fun post wn gc rs ce mi a3 a4 a5 a6 a7 a8 a9 a10 hp => pk_le 22 i (fun z => absurd z hi22) (fun _ => br_t hm hp), fun post wn gc rs ce mi a3 a4 a5 a6 a7 a8 a9 a10 hp => pk_le 22 i (fun z => absurd z hi22) (fun _ => br_t hm hp)⟩
    · by_cases hc : cs = 0
      · obtain ⟨r, dmA, dfA, csA, hr, hIA, gA1, gA2, hone⟩ := qu_one hnr hcv hI
        have stop : ∀ (x1 : Int32) (post : St1 → Prop) (wn gc rs ce mi : Int32) (a3 a4 a5 a6 a7 a8 a9 a10 : Nat → Int32), post (wn, cv, gc, rs, ce, mi, dmA, dfA, csA, a1, a2, a3, a4, a5, a6, a7, a8, a9, a10) → wX_applyRules_23 post x1 (j + 1) 0 (nI (i + 1)) wn cv gc rs ce mi dmA dfA csA a1 a2 a3 a4 a5 a6 a7 a8 a9 a10 := fun x1 post wn gc rs ce mi a3 a4 a5 a6 a7 a8 a9 a10 hp => pk_le 22 (i + 1) (fun _ => hp) (fun _ => br_t rfl hp)
        by_cases hr0 : r = 0
        · subst hr0
          by_cases hcA : csA = 0
          · obtain ⟨r2, dmB, dfB, csB, _, hIB, gB1, gB2, htwo⟩ := qu_two hnr hcv hIA
            obtain ⟨_, _, _, dm2, df2, cs2, _, h2, h3, h4, _, _, _, h8⟩ := ih (i + 1) r2 dmB dfB csB (by omega) hIB
            refine ⟨dmA, dfA, csA, dm2, df2, cs2, hIA, h2, fun i h => h3 i (gB1 i (gA1 i h)), fun i h => h4 i (gB2 i (gA2 i h)), fun i h => h3 i (gB1 i h), fun i h => h4 i (gB2 i h), fun post wn gc rs ce mi a3 a4 a5 a6 a7 a8 a9 a10 hp => ?_, fun post wn gc rs ce mi a3 a4 a5 a6 a7 a8 a9 a10 hp => ?_⟩
            · exact pk_le 22 i (fun z => absurd z hi22) (fun _ => br_f hm (br_t hc (hone _ wn gc rs ce mi a3 a4 a5 a6 a7 a8 a9 a10 (br_t rfl (nm_r (nI_1 i) (stop 0 post wn gc rs ce mi a3 a4 a5 a6 a7 a8 a9 a10 hp))))))
            · exact pk_le 22 i (fun z => absurd z hi22) (fun _ => br_f hm (br_t hc (hone _ wn gc rs ce mi a3 a4 a5 a6 a7 a8 a9 a10 (br_f (by decide) (br_t rfl (br_t hcA (htwo _ wn gc rs ce mi a3 a4 a5 a6 a7 a8 a9 a10 (nm_r (nI_1 i) (h8 post wn gc rs ce mi a3 a4 a5 a6 a7 a8 a9 a10 hp)))))))))
          · refine ⟨dmA, dfA, csA, dmA, dfA, csA, hIA, hIA, gA1, gA2, fun _ h => h, fun _ h => h, fun post wn gc rs ce mi a3 a4 a5 a6 a7 a8 a9 a10 hp => ?_, fun post wn gc rs ce mi a3 a4 a5 a6 a7 a8 a9 a10 hp => ?_⟩
            · exact pk_le 22 i (fun z => absurd z hi22) (fun _ => br_f hm (br_t hc (hone _ wn gc rs ce mi a3 a4 a5 a6 a7 a8 a9 a10 (br_t rfl (nm_r (nI_1 i) (stop 0 post wn gc rs ce mi a3 a4 a5 a6 a7 a8 a9 a10 hp))))))
            · exact pk_le 22 i (fun z => absurd z hi22) (fun _ => br_f hm (br_t hc (hone _ wn gc rs ce mi a3 a4 a5 a6 a7 a8 a9 a10 (br_f (by decide) (br_t rfl (br_f hcA (nm_r (nI_1 i) (stop 1 post wn gc rs ce mi a3 a4 a5 a6 a7 a8 a9 a10 hp))))))))
        · obtain ⟨dm1, df1, cs1, dm2, df2, cs2, h1, h2, h3, h4, h5, h6, h7, h8⟩ := ih (i + 1) r dmA dfA csA (by omega) hIA
          refine ⟨dm1, df1, cs1, dm2, df2, cs2, h1, h2, fun i h => h3 i (gA1 i h), fun i h => h4 i (gA2 i h), h5, h6, fun post wn gc rs ce mi a3 a4 a5 a6 a7 a8 a9 a10 hp => ?_, fun post wn gc rs ce mi a3 a4 a5 a6 a7 a8 a9 a10 hp => ?_⟩
          · exact pk_le 22 i (fun z => absurd z hi22) (fun _ => br_f hm (br_t hc (hone _ wn gc rs ce mi a3 a4 a5 a6 a7 a8 a9 a10 (br_t rfl (nm_r (nI_1 i) (h7 post wn gc rs ce mi a3 a4 a5 a6 a7 a8 a9 a10 hp))))))
          · exact pk_le 22 i (fun z => absurd z hi22) (fun _ => br_f hm (br_t hc (hone _ wn gc rs ce mi a3 a4 a5 a6 a7 a8 a9 a10 (br_f (by decide) (br_f hr0 (nm_r (nI_1 i) (h8 post wn gc rs ce mi a3 a4 a5 a6 a7 a8 a9 a10 hp)))))))
      · exact ⟨dm, df, cs, dm, df, cs, hI, hI, fun _ h => h, fun _ h => h, fun _ h => h, fun _ h => h, fun post wn gc rs ce mi a3 a4 a5 a6 a7 a8 a9 a10 hp => pk_le 22 i (fun z => absurd z hi22) (fun _ => br_f hm (br_f hc hp)), fun post wn gc rs ce mi a3 a4 a5 a6 a7 a8 a9 a10 hp => pk_le 22 i (fun z => absurd z hi22) (fun _ => br_f hm (br_f hc hp))⟩
theorem qu_apply {a1 a2 : Nat → Int32} {cv : Int32} (hnr : qx_nr a2) (hcv : qb_s cv) : ∃ dm1 df1 cs1 dm2 df2 cs2, qu_I a1 a2 cv dm1 df1 cs1 ∧ qu_I a1 a2 cv dm2 df2 cs2 ∧ qb_le dm1 dm2 ∧ qb_le df1 df2 ∧
      (∀ (post : St1 → Prop) (wn gc rs ce mi dm df cs : Int32) (a3 a4 a5 a6 a7 a8 a9 a10 : Nat → Int32), post (wn, cv, gc, rs, ce, mi, dm1, df1, cs1, a1, a2, a3, a4, a5, a6, a7, a8, a9, a10) → wpX_applyRules post (wn, cv, gc, rs, ce, mi, dm, df, cs, a1, a2, a3, a4, a5, a6, a7, a8, a9, a10) 0) ∧ (∀ (post : St1 → Prop) (wn gc rs ce mi dm df cs : Int32) (a3 a4 a5 a6 a7 a8 a9 a10 : Nat → Int32), post (wn, cv, gc, rs, ce, mi, dm2, df2, cs2, a1, a2, a3, a4, a5, a6, a7, a8, a9, a10) → wpX_applyRules post (wn, cv, gc, rs, ce, mi, dm, df, cs, a1, a2, a3, a4, a5, a6, a7, a8, a9, a10) 1) := by
  have hI0 : qu_I a1 a2 cv 0 0 0 := ⟨fun i h => by rw [qb_0] at h; exact absurd h (by decide), fun i h => by rw [qb_0] at h; exact absurd h (by decide), fun F _ => ⟨fun i h => by rw [qb_0] at h; exact absurd h (by decide), fun i h => by rw [qb_0] at h; exact absurd h (by decide)⟩, fun _ => rfl, Or.inl rfl⟩
  obtain ⟨cs0, hI1, hk⟩ := qu_check hnr hcv hI0
  obtain ⟨dm1, df1, cs1, dm2, df2, cs2, h1, h2, _, _, h5, h6, h7, h8⟩ := qu_rounds hnr hcv 22 0 1 0 0 cs0 rfl hI1
  refine ⟨dm1, df1, cs1, dm2, df2, cs2, h1, h2, h5, h6, fun post wn gc rs ce mi dm df cs a3 a4 a5 a6 a7 a8 a9 a10 hp => ?_, fun post wn gc rs ce mi dm df cs a3 a4 a5 a6 a7 a8 a9 a10 hp => ?_⟩
  · exact hk _ wn gc rs ce mi a3 a4 a5 a6 a7 a8 a9 a10 ⟨23, h7 post wn gc rs ce mi a3 a4 a5 a6 a7 a8 a9 a10 hp⟩
  · exact hk _ wn gc rs ce mi a3 a4 a5 a6 a7 a8 a9 a10 ⟨23, h8 post wn gc rs ce mi a3 a4 a5 a6 a7 a8 a9 a10 hp⟩
end
section
/-! ===== what the rules answer ===== -/
def qv_n (dm df cs : Int32) : Int32 := if cs = 0 then nI (qc_p (dm ||| df)) else -3
def qv_d (dm df cs : Int32) (c : Nat) : Int32 := if cs = 0 then (if qb_t dm c then 1 else if qb_t df c then 0 else -2) else -3
theorem qx_dcount {post : Int32 → Prop} {wn cv gc rs ce mi dm df cs : Int32} {a1 a2 a3 a4 a5 a6 a7 a8 a9 a10 : Nat → Int32} (h : qb_s (dm ||| df)) (H : post (qv_n dm df cs)) : wpX_decidedCount post (wn, cv, gc, rs, ce, mi, dm, df, cs, a1, a2, a3, a4, a5, a6, a7, a8, a9, a10) := by
  unfold qv_n at H
  by_cases e : cs = 0
  · rw [if_pos e] at H
    exact br_t e (qx_bits h H)
  · rw [if_neg e] at H
    exact br_f e H
theorem qx_simple {post : Int32 → St1 → Prop} {wn cv gc rs ce mi dm df cs : Int32} {a1 a2 a3 a4 a5 a6 a7 a8 a9 a10 : Nat → Int32} {dm2 df2 cs2 : Int32} (hap : ∀ (post : St1 → Prop) (wn gc rs ce mi dm df cs : Int32) (a3 a4 a5 a6 a7 a8 a9 a10 : Nat → Int32), post (wn, cv, gc, rs, ce, mi, dm2, df2, cs2, a1, a2, a3, a4, a5, a6, a7, a8, a9, a10) → wpX_applyRules post (wn, cv, gc, rs, ce, mi, dm, df, cs, a1, a2, a3, a4, a5, a6, a7, a8, a9, a10) 0) (hs : qb_s (dm2 ||| df2)) (H : ∀ (gc' rs' ce' mi' dm' df' cs' : Int32) (a3' a4' a5' a6' a7' a9' a10' : Nat → Int32), post (qv_n dm2 df2 cs2) (wn, cv, gc', rs', ce', mi', dm', df', cs', a1, a2, a3', a4', a5', a6', a7', a8, a9', a10')) : wpX_simple post (wn, cv, gc, rs, ce, mi, dm, df, cs, a1, a2, a3, a4, a5, a6, a7, a8, a9, a10) := by
  unfold wpX_simple; dsimp only
  refine hap _ wn gc rs ce mi dm df cs a3 a4 a5 a6 a7 a8 a9 a10 ?_
  exact qx_dcount hs (H _ _ _ _ _ _ _ _ _ _ _ _ _ _)
theorem qx_paired {post : Int32 → St1 → Prop} {wn cv gc rs ce mi dm df cs : Int32} {a1 a2 a3 a4 a5 a6 a7 a8 a9 a10 : Nat → Int32} {dm2 df2 cs2 : Int32} (hap : ∀ (post : St1 → Prop) (wn gc rs ce mi dm df cs : Int32) (a3 a4 a5 a6 a7 a8 a9 a10 : Nat → Int32), post (wn, cv, gc, rs, ce, mi, dm2, df2, cs2, a1, a2, a3, a4, a5, a6, a7, a8, a9, a10) → wpX_applyRules post (wn, cv, gc, rs, ce, mi, dm, df, cs, a1, a2, a3, a4, a5, a6, a7, a8, a9, a10) 1) (hs : qb_s (dm2 ||| df2)) (H : ∀ (gc' rs' ce' mi' dm' df' cs' : Int32) (a3' a4' a5' a6' a7' a9' a10' : Nat → Int32), post (qv_n dm2 df2 cs2) (wn, cv, gc', rs', ce', mi', dm', df', cs', a1, a2, a3', a4', a5', a6', a7', a8, a9', a10')) : wpX_paired post (wn, cv, gc, rs, ce, mi, dm, df, cs, a1, a2, a3, a4, a5, a6, a7, a8, a9, a10) := by
  unfold wpX_paired; dsimp only
  refine hap _ wn gc rs ce mi dm df cs a3 a4 a5 a6 a7 a8 a9 a10 ?_
  exact qx_dcount hs (H _ _ _ _ _ _ _ _ _ _ _ _ _ _)
theorem qx_decided {post : Int32 → St1 → Prop} {wn cv gc rs ce mi dm df cs : Int32} {a1 a2 a3 a4 a5 a6 a7 a8 a9 a10 : Nat → Int32} {dm2 df2 cs2 : Int32} (hap : ∀ (post : St1 → Prop) (wn gc rs ce mi dm df cs : Int32) (a3 a4 a5 a6 a7 a8 a9 a10 : Nat → Int32), post (wn, cv, gc, rs, ce, mi, dm2, df2, cs2, a1, a2, a3, a4, a5, a6, a7, a8, a9, a10) → wpX_applyRules post (wn, cv, gc, rs, ce, mi, dm, df, cs, a1, a2, a3, a4, a5, a6, a7, a8, a9, a10) 1) {c : Nat} (hc : c < 20) (H : ∀ (gc' rs' ce' mi' dm' df' cs' : Int32) (a3' a4' a5' a6' a7' a9' a10' : Nat → Int32), post (qv_d dm2 df2 cs2 c) (wn, cv, gc', rs', ce', mi', dm', df', cs', a1, a2, a3', a4', a5', a6', a7', a8, a9', a10')) : wpX_decided post (wn, cv, gc, rs, ce, mi, dm, df, cs, a1, a2, a3, a4, a5, a6, a7, a8, a9, a10) (nI c) := by
  unfold wpX_decided; dsimp only
  refine qx_bad hc ?_
  refine br_t rfl (hap _ wn gc rs ce mi dm df cs a3 a4 a5 a6 a7 a8 a9 a10 ?_)
  have H' := H gc rs ce mi dm2 df2 cs2 a3 a4 a5 a6 a7 a9 a10
  unfold qv_d at H'
  by_cases e : cs2 = 0
  · rw [if_pos e] at H'
    refine br_t e (qx_has (show c < 32 by omega) (fun hb => ?_) (fun hb => ?_))
    · rw [hb] at H'
      exact br_f (by decide) H'
    · rw [hb] at H'
      refine br_t rfl (qx_has (show c < 32 by omega) (fun hb2 => ?_) (fun hb2 => ?_))
      · rw [hb2] at H'
        exact br_f (by decide) H'
      · rw [hb2] at H'
        exact br_t rfl H'
  · rw [if_neg e] at H'
    exact br_f e H'
/-! ===== one turn of the script ===== -/
theorem qx_total {post : Int32 → St1 → Prop} {wn cv gc rs ce mi dm df cs : Int32} {a1 a2 a3 a4 a5 a6 a7 a8 a9 a10 : Nat → Int32} {x : Int32} (H : ∀ r wn', post r (wn', cv, gc, rs, ce, mi, dm, df, cs, a1, a2, a3, a4, a5, a6, a7, a8, a9, a10)) : wpX_total post (wn, cv, gc, rs, ce, mi, dm, df, cs, a1, a2, a3, a4, a5, a6, a7, a8, a9, a10) x :=
  br_c (fun _ => H _ _) (fun _ => br_c (fun _ => H _ _) (fun _ => H _ _))
theorem qx_turn {post : Int32 → St1 → Prop} {wn cv gc rs ce mi dm df cs : Int32} {a1 a2 a3 a4 a5 a6 a7 a8 a9 a10 : Nat → Int32} (hv : qw_v a1) (hcv : qx_cov a1 cv) {p1 p2 p3 : Int32} (H : ∀ r wn' cv' a1', qw_v a1' → qx_cov a1' cv' → post r (wn', cv', gc, rs, ce, mi, dm, df, cs, a1', a2, a3, a4, a5, a6, a7, a8, a9, a10)) : wpL_turn post (wn, cv, gc, rs, ce, mi, dm, df, cs, a1, a2, a3, a4, a5, a6, a7, a8, a9, a10) p1 p2 p3 := by
  obtain ⟨y, hy, ey⟩ := pk_andE p2 (m := 31) 5 (by decide)
  have ec : (p2 &&& 31) - (p2 &&& 31) / 20 * 20 = nI (y % 20) := by
    rw [ey]
    exact pk_rem (a := y) (d := 20) (by omega) (by omega) (by omega)
  have hc : y % 20 < 20 := Nat.mod_lt _ (by omega)
  unfold wpL_turn; dsimp only
  refine nm_e ⟨by decide, nm_r ec ?_⟩
  generalize y % 20 = c at hc
  have hcover : wpX_cover (fun r u => post r u) (wn, cv, gc, rs, ce, mi, dm, df, cs, a1, a2, a3, a4, a5, a6, a7, a8, a9, a10) (nI c) := qx_cover hc (fun _ => H _ _ _ _ hv hcv) (fun _ cv' h => H _ _ _ _ (qx_vupd hv c (Or.inl rfl)) h)
  have hshow : ∀ x, wpX_show (fun r u => post r u) (wn, cv, gc, rs, ce, mi, dm, df, cs, a1, a2, a3, a4, a5, a6, a7, a8, a9, a10) (nI c) x := fun x => qx_showAny hc hv hcv (fun r cv' a1' h1 h2 => H r wn cv' a1' h1 h2)
  have htot : ∀ x, wL_turn_202 post x wn cv gc rs ce mi dm df cs a1 a2 a3 a4 a5 a6 a7 a8 a9 a10 := fun x => qx_total (fun r wn' => H r wn' cv a1 hv hcv)
  refine pk_loop (σ := Int32) (fun n i s => wL_turn_21 post p2 p3 (p1 &&& 15) (nI c) wn cv gc rs ce mi dm df cs a1 a2 a3 a4 a5 a6 a7 a8 a9 a10 n s (nI i)) (fun _ _ => True) 20 0 0 (by omega) trivial ?_ ?_
  · intro n s _
    refine pk_le 20 20 (fun _ => ?_) (fun z => absurd z (by omega))
    exact br_c (fun _ => br_c (fun _ => hshow _) (fun _ => br_c (fun _ => br_c (fun _ => htot _) (fun _ => htot _)) (fun _ => hcover))) (fun _ => br_c (fun _ => hcover) (fun _ => hshow _))
  · intro n i s hi _ hw
    have h5 : ¬ (5 : Int32) = 0 := by decide
    have h80 : ∀ z, wL_turn_80 post (wL_turn_21 post p2 p3 (p1 &&& 15) (nI c) wn cv gc rs ce mi dm df cs a1 a2 a3 a4 a5 a6 a7 a8 a9 a10 n) p2 p3 (p1 &&& 15) (nI c) s (nI i) z wn cv gc rs ce mi dm df cs a1 a2 a3 a4 a5 a6 a7 a8 a9 a10 := fun z =>
      br_c (fun _ => nm_r (nI_1 i) (hw _ trivial)) (fun _ => br_c (fun _ => nm_e (nm_r (nI_1 i) (hw _ trivial))) (fun _ => nm_r (nI_1 i) (hw _ trivial)))
    exact pk_le 20 i (fun z => absurd z (by omega)) (fun _ => ⟨h5, h5, nm_e ⟨h5, h5, nm_e (br_c (fun _ => h80 0) (fun _ => br_c (fun _ => h80 0) (fun _ => br_c (fun _ => h80 0) (fun _ => h80 1))))⟩⟩)
end
section
/-! ===== the law's end: the cell shown with each clue ===== -/
theorem qz_668 {post : Int32 → Prop} {L : Nat} {xs : Nat → Int32} {kc ks : Nat} {wn cv gc rs ce mi dm df cs : Int32} {a1 a2 a3 a4 a5 a6 a7 a8 a9 a10 : Nat → Int32} (hnr : qx_nr a2) (hch : qx_ch a8) (hv : qw_v a1) (hcv : qx_cov a1 cv) (H : post 1) : wL_law_668 post L xs (nI (qp_L a1 a2 cv wn)) kc ks wn cv gc rs ce mi dm df cs a1 a2 a3 a4 a5 a6 a7 a8 a9 a10 := by
  unfold wL_law_668
  exact qy_layouts hnr hch hv hcv.1 (fun gc' rs' ce' mi' dm' df' cs' a3' a4' a5' a6' a7' a9' a10' => br_t rfl H)
theorem qz_549a {post : Int32 → Prop} {L : Nat} {xs : Nat → Int32} {kc ks : Nat} {wn cv gc rs ce mi dm df cs : Int32} {a1 a2 a3 a4 a5 a6 a7 a8 a9 a10 : Nat → Int32} (hnr : qx_nr a2) (hch : qx_ch a8) (hv : qw_v a1) (hcv : qx_cov a1 cv) {x16 x19 : Int32} (H : post 1) : ∃ fu, wL_law_549 post L xs (nI (qp_L a1 a2 cv wn)) x16 0 0 x19 kc ks fu 0 0 wn cv gc rs ce mi dm df cs a1 a2 a3 a4 a5 a6 a7 a8 a9 a10 :=
  ⟨1, pk_le 9 0 (fun z => absurd z (by omega)) (fun _ => br_t rfl (br_t rfl (br_t rfl (br_t rfl (br_t rfl (qz_668 hnr hch hv hcv H))))))⟩
theorem qz_549b {post : Int32 → Prop} {L : Nat} {xs : Nat → Int32} {kc ks : Nat} {wn cv gc rs ce mi dm df cs : Int32} {a1 a2 a3 a4 a5 a6 a7 a8 a9 a10 : Nat → Int32} (hnr : qx_nr a2) (hch : qx_ch a8) (hv : qw_v a1) (hcv : qx_cov a1 cv) {c : Nat} (hc : c < 20) (e0 : a1 c = -1) {x18 : Int32} (h18 : ∀ k, k ≤ 8 → qb_t x18 k = decide (0 < qp_L (upd a1 c (nI k)) a2 (qy_cvm cv c) wn)) (H : post 1) :
    ∃ fu, wL_law_549 post L xs (nI (qp_L a1 a2 cv wn)) (nI c) 1 x18 (nI (qp_M a1 a2 cv wn c)) kc ks fu 0 0 wn cv gc rs ce mi dm df cs a1 a2 a3 a4 a5 a6 a7 a8 a9 a10 := by
  have hsum := qp_show (cl := a1) (nr := a2) (cv := cv) (wn := wn) hnr hcv hc e0 (qy_cvmok hcv hc (qy_nm (show 0 < 2 ^ 31 by omega)))
  refine pk_loop (σ := Int32 × Int32 × (Nat → Int32) × qx_Z) (fun n i s => wL_law_549 post L xs (nI (qp_L a1 a2 cv wn)) (nI c) 1 x18 (nI (qp_M a1 a2 cv wn c)) kc ks n s.1 (nI i) wn s.2.1 s.2.2.2.1 s.2.2.2.2.1 s.2.2.2.2.2.1 s.2.2.2.2.2.2.1 s.2.2.2.2.2.2.2.1 s.2.2.2.2.2.2.2.2.1 s.2.2.2.2.2.2.2.2.2.1 s.2.2.1 a2 s.2.2.2.2.2.2.2.2.2.2.1 s.2.2.2.2.2.2.2.2.2.2.2.1 s.2.2.2.2.2.2.2.2.2.2.2.2.1 s.2.2.2.2.2.2.2.2.2.2.2.2.2.1 s.2.2.2.2.2.2.2.2.2.2.2.2.2.2.1 a8 s.2.2.2.2.2.2.2.2.2.2.2.2.2.2.2.1 s.2.2.2.2.2.2.2.2.2.2.2.2.2.2.2.2)
    (fun i s => s.1 = nI (qr_s (fun k => qp_L (upd a1 c (nI k)) a2 (qy_cvm cv c) wn) i) ∧ (∀ x, upd s.2.2.1 c x = upd a1 c x) ∧ (0 < i → s.2.2.1 c = nI (i - 1))) 9 0 (0, cv, a1, gc, rs, ce, mi, dm, df, cs, a3, a4, a5, a6, a7, a9, a10) (by omega) ⟨rfl, fun _ => rfl, fun z => absurd z (by omega)⟩ ?_ ?_
  · rintro n ⟨x, cv', a1', gc, rs, ce, mi, dm, df, cs, a3, a4, a5, a6, a7, a9, a10⟩ ⟨h1, h2, h3⟩
    dsimp only at h1 h2 h3 ⊢
    have h8 : a1' c = nI 8 := h3 (by omega)
    refine pk_le 9 9 (fun _ => br_f (by decide) (qx_cover hc (fun z => absurd (h8.symm.trans z) (by decide)) (fun _ cv2 hc2 => ?_))) (fun z => absurd z (by omega))
    have ea : upd a1' c (-1) = a1 := by rw [h2, qy_ub e0]
    rw [ea] at hc2 ⊢
    rw [qx_covU hc2 hcv]
    refine br_t h8 (br_f (by decide) (br_t ?_ (qz_668 hnr hch hv hcv H)))
    rw [h1, ← hsum, pk_sub (by omega)]
    exact congrArg nI (by omega)
  · rintro n i ⟨x, cv', a1', gc, rs, ce, mi, dm, df, cs, a3, a4, a5, a6, a7, a9, a10⟩ hi ⟨h1, h2, h3⟩ hw
    dsimp only at h1 h2 h3 ⊢
    refine pk_le 9 i (fun z => absurd z (by omega)) (fun _ => br_f (by decide) (qx_show hc (by omega) (fun r cv2 hc2 => ?_)))
    rw [h2] at hc2 ⊢
    have hcm := qy_cvmok hcv hc (qy_nm (show i < 2 ^ 31 by omega))
    rw [qx_covU hc2 hcm]
    have hv2 := qx_vupd hv c (Or.inr ⟨i, by omega, rfl⟩)
    have hL := qp_Lle (upd a1 c (nI i)) a2 (qy_cvm cv c) wn
    have hb := h18 i (by omega)
    refine qy_layouts hnr hch hv2 hcm.1 (fun gc' rs' ce' mi' dm' df' cs' a3' a4' a5' a6' a7' a9' a10' => nm_r (e' := nI (qr_s (fun k => qp_L (upd a1 c (nI k)) a2 (qy_cvm cv c) wn) (i + 1))) ?_ ?_)
    · rw [h1, nI_add]; rfl
    · have next := hw (nI (qr_s (fun k => qp_L (upd a1 c (nI k)) a2 (qy_cvm cv c) wn) (i + 1)), qy_cvm cv c, upd a1 c (nI i), gc', rs', ce', mi', dm', df', cs', a3', a4', a5', a6', a7', a9', a10') ⟨rfl, fun y => qy_uu _ _ _ _, fun _ => pk_us⟩
      refine pk_le (qp_L (upd a1 c (nI i)) a2 (qy_cvm cv c) wn) 0 (fun z => ?_) (fun z => ?_)
      · rw [decide_eq_false (show ¬ 0 < qp_L (upd a1 c (nI i)) a2 (qy_cvm cv c) wn by omega)] at hb
        exact br_f (fun y => by rw [(qb_has x18 (show i < 32 by omega)).mp y] at hb; exact absurd hb (by decide)) (br_t rfl (nm_r (nI_1 i) next))
      · rw [decide_eq_true z] at hb
        exact br_t ((qb_has x18 (show i < 32 by omega)).mpr hb) (br_t rfl (nm_r (nI_1 i) next))
theorem qz_m2 {cl : Nat → Int32} (hv : qw_v cl) {c : Nat} (hc : c < 20) (e : ¬ cl c = -1) : ¬ cl c = -2 := by
  rcases hv c hc with z | ⟨k, hk, z⟩
  · exact absurd z e
  · intro y
    have h1 := nI_pos (n := k) (by omega)
    rw [← z, y] at h1
    exact h1 (by decide)
theorem qz_497 {post : Int32 → Prop} {L : Nat} {xs : Nat → Int32} {kc ks : Nat} {wn cv gc rs ce mi dm df cs : Int32} {a1 a2 a3 a4 a5 a6 a7 a8 a9 a10 : Nat → Int32} (hnr : qx_nr a2) (hch : qx_ch a8) (hv : qw_v a1) (hcv : qx_cov a1 cv) {x2 : Int32} (H : post 1) : wL_law_497 post L xs x2 (nI (qp_L a1 a2 cv wn)) kc ks wn cv gc rs ce mi dm df cs a1 a2 a3 a4 a5 a6 a7 a8 a9 a10 := by
  obtain ⟨y, hy, ey⟩ := pk_andE (x2 >>> ((20 : Int32) &&& 31)) (m := 31) 5 (by decide)
  have ec : ((x2 >>> ((20 : Int32) &&& 31)) &&& 31) - ((x2 >>> ((20 : Int32) &&& 31)) &&& 31) / 20 * 20 = nI (y % 20) := by
    rw [ey]
    exact pk_rem (a := y) (d := 20) (by omega) (by omega) (by omega)
  have hc : y % 20 < 20 := Nat.mod_lt _ (by omega)
  unfold wL_law_497
  refine ⟨by decide, nm_r ec ?_⟩
  generalize y % 20 = c at hc
  refine qx_clue hc (fun e => ?_) (fun e => ?_)
  · refine br_t rfl ?_
    unfold wL_law_525
    refine qy_clues hnr hch hv hcv hc (fun _ r hr gc' rs' ce' mi' dm' df' cs' a3' a4' a5' a6' a7' a9' a10' => ?_) (fun z => absurd e z)
    exact qy_mined hnr hch hv hcv.1 hc (fun gc rs ce mi dm df cs a3 a4 a5 a6 a7 a9 a10 => qz_549b hnr hch hv hcv hc e hr H)
  · refine br_f (qz_m2 hv hc e) ?_
    unfold wL_law_525
    refine qy_clues hnr hch hv hcv hc (fun z => absurd z e) (fun _ => ?_)
    exact qy_mined hnr hch hv hcv.1 hc (fun gc rs ce mi dm df cs a3 a4 a5 a6 a7 a9 a10 => qz_549a hnr hch hv hcv H)
/-! ===== behind the loop over the cells ===== -/
theorem qz_435 {post : Int32 → Prop} {L : Nat} {xs : Nat → Int32} {kc ks : Nat} {wn cv gc rs ce mi dm df cs : Int32} {a1 a2 a3 a4 a5 a6 a7 a8 a9 a10 : Nat → Int32} (hnr : qx_nr a2) (hch : qx_ch a8) (hv : qw_v a1) (hcv : qx_cov a1 cv) {x2 x11 x12 x13 x14 x15 : Int32} (h15 : x15 = -2 ∨ ∃ c, c < 20 ∧ x15 = nI c ∧ 0 < qp_L a1 a2 cv wn)
    (hx : 0 < qp_L a1 a2 cv wn → ∃ p q : Nat, p ≤ q ∧ q ≤ 20 ∧ x12 = nI p ∧ x13 = nI q ∧ x14 = nI q) (H : post 1) : wL_law_435 post L xs x2 (nI (qp_L a1 a2 cv wn)) x11 x12 x13 x14 x15 x11 kc ks wn cv gc rs ce mi dm df cs a1 a2 a3 a4 a5 a6 a7 a8 a9 a10 := by
  have hL := qp_Lle a1 a2 cv wn
  have h476 : wL_law_476 post L xs x2 (nI (qp_L a1 a2 cv wn)) x15 kc ks wn cv gc rs ce mi dm df cs a1 a2 a3 a4 a5 a6 a7 a8 a9 a10 := by
    rcases h15 with rfl | ⟨b, hb, rfl, hpos⟩
    · exact br_t (by decide) (qz_497 hnr hch hv hcv H)
    · refine br_f (nI_pos (show b < 2 ^ 31 by omega)) (qy_mined hnr hch hv hcv.1 hb (fun gc' rs' ce' mi' dm' df' cs' a3' a4' a5' a6' a7' a9' a10' => ?_))
      have hM := qp_Mle a1 a2 cv wn b
      exact br_f (nI_pos (by omega)) (br_f (nI_ne0 hpos (by omega)) (qz_497 hnr hch hv hcv H))
  refine br_t rfl (pk_le (qp_L a1 a2 cv wn) 0 (fun z => ?_) (fun z => ?_))
  · exact br_c (fun _ => pk_lt 0 (qp_L a1 a2 cv wn) (fun y => absurd y (by omega)) (fun _ => h476)) (fun _ => h476)
  · obtain ⟨p, q, hpq, hq, rfl, rfl, rfl⟩ := hx z
    refine br_f (nI_pos (by omega)) (br_f (nI_nlt hpq (by omega)) (br_t rfl ?_))
    refine br_f (fun y => ?_) h476
    have h1 := nI_pos (n := p) (by omega)
    rw [y] at h1
    exact h1 (by decide)
/-! ===== one cell's checks ===== -/
theorem qz_371 {post : Int32 → Prop} {L : Nat} {xs : Nat → Int32} {kc ks : Nat} {wn cv gc rs ce mi dm df cs : Int32} {a1 a2 a3 a4 a5 a6 a7 a8 a9 a10 : Nat → Int32} {J : Int32 → Int32 → Int32 → Int32 → Int32 → Int32 → Int32 → Int32 → Int32 → Int32 → Int32 → Int32 → Int32 → (Nat → Int32) → (Nat → Int32) → (Nat → Int32) → (Nat → Int32) → (Nat → Int32) → (Nat → Int32) → (Nat → Int32) → (Nat → Int32) → (Nat → Int32) → (Nat → Int32) → Prop} {x2 x6 x7 x8 x9 x10 x11 x12 x13 x14 : Int32} {c Lay : Nat} (hL : Lay ≤ 1048576) {x18 x20 x21 : Int32} (hown : 0 < Lay → (x18 = 0 → ¬ x20 = 0) ∧ (x18 = 1 → ¬ x21 = 0) ∧ ¬ x18 = -3) (H : J x9 x11 x14 (nI (c + 1)) wn cv gc rs ce mi dm df cs a1 a2 a3 a4 a5 a6 a7 a8 a9 a10) : wL_law_371 post L xs J x2 (nI Lay) x6 x7 x8 x9 x10 x11 x12 x13 x14 (nI c) x18 x20 x21 kc ks wn cv gc rs ce mi dm df cs a1 a2 a3 a4 a5 a6 a7 a8 a9 a10 := by
  refine pk_le Lay 0 (fun _ => nm_r (nI_1 c) H) (fun z => ?_)
  obtain ⟨h0, h1, h3⟩ := hown z
  have h397 : wL_law_397 post L xs J x2 (nI Lay) x6 x7 x8 x9 x10 x11 x12 x13 x14 (nI c) x18 kc ks wn cv gc rs ce mi dm df cs a1 a2 a3 a4 a5 a6 a7 a8 a9 a10 := br_f h3 (nm_r (nI_1 c) H)
  have h386 : wL_law_386 post L xs J x2 (nI Lay) x6 x7 x8 x9 x10 x11 x12 x13 x14 (nI c) x18 x21 kc ks wn cv gc rs ce mi dm df cs a1 a2 a3 a4 a5 a6 a7 a8 a9 a10 := br_c (fun e => br_f (h1 e) h397) (fun _ => h397)
  exact br_c (fun e => br_f (h0 e) h386) (fun _ => h386)
theorem qz_314 {post : Int32 → Prop} {L : Nat} {xs : Nat → Int32} {kc ks : Nat} {wn cv gc rs ce mi dm df cs : Int32} {a1 a2 a3 a4 a5 a6 a7 a8 a9 a10 : Nat → Int32} {J : Int32 → Int32 → Int32 → Int32 → Int32 → Int32 → Int32 → Int32 → Int32 → Int32 → Int32 → Int32 → Int32 → (Nat → Int32) → (Nat → Int32) → (Nat → Int32) → (Nat → Int32) → (Nat → Int32) → (Nat → Int32) → (Nat → Int32) → (Nat → Int32) → (Nat → Int32) → (Nat → Int32) → Prop} {x2 x6 x7 x8 x9 x10 x11 x12 x13 x14 : Int32} {c Lay : Nat} {x16 x17 x18 x19 x20 x21 : Int32} (hF : ((x7 >>> (nI c &&& 31)) &&& 1) = x20) (hS : ((x8 >>> (nI c &&& 31)) &&& 1) = x21) (h20 : x20 = 0 ∨ x20 = 1) (h21 : x21 = 0 ∨ x21 = 1)
    (hun : x16 = 0 → x17 = 0 ∧ x19 = 0) (H : wL_law_371 post L xs J x2 (nI Lay) x6 x7 x8 x9 x10 x11 x12 x13 x14 (nI c) x18 x20 x21 kc ks wn cv gc rs ce mi dm df cs a1 a2 a3 a4 a5 a6 a7 a8 a9 a10) : wL_law_314 post L xs J x2 (nI Lay) x6 x7 x8 x9 x10 x11 x12 x13 x14 (nI c) x16 x17 x18 x19 x20 x21 kc ks wn cv gc rs ce mi dm df cs a1 a2 a3 a4 a5 a6 a7 a8 a9 a10 := by
  have h353 : ∀ z, ((x8 >>> (nI c &&& 31)) &&& 1) = z → wL_law_353 post L xs J x2 (nI Lay) x6 x7 x8 x9 x10 x11 x12 x13 x14 (nI c) x16 x17 x18 x19 x20 x21 z ((x8 >>> (nI c &&& 31)) &&& 1) kc ks wn cv gc rs ce mi dm df cs a1 a2 a3 a4 a5 a6 a7 a8 a9 a10 := fun z hz =>
    br_t hz (br_c (fun e => br_t (hun e).1 (br_t (hun e).2 H)) (fun _ => H))
  have h333 : ∀ z, ((x7 >>> (nI c &&& 31)) &&& 1) = z → wL_law_333 post L xs J x2 (nI Lay) x6 x7 x8 x9 x10 x11 x12 x13 x14 (nI c) x16 x17 x18 x19 x20 x21 z ((x7 >>> (nI c &&& 31)) &&& 1) kc ks wn cv gc rs ce mi dm df cs a1 a2 a3 a4 a5 a6 a7 a8 a9 a10 := fun z hz => by
    refine br_t hz ?_
    rcases h21 with e | e
    · exact br_t e (h353 0 (hS.trans e))
    · exact br_f (by rw [e]; decide) (h353 1 (hS.trans e))
  rcases h20 with e | e
  · exact br_t e (h333 0 (hF.trans e))
  · exact br_f (by rw [e]; decide) (h333 1 (hF.trans e))
theorem qz_290 {post : Int32 → Prop} {L : Nat} {xs : Nat → Int32} {kc ks : Nat} {wn cv gc rs ce mi dm df cs : Int32} {a1 a2 a3 a4 a5 a6 a7 a8 a9 a10 : Nat → Int32} {J : Int32 → Int32 → Int32 → Int32 → Int32 → Int32 → Int32 → Int32 → Int32 → Int32 → Int32 → Int32 → Int32 → (Nat → Int32) → (Nat → Int32) → (Nat → Int32) → (Nat → Int32) → (Nat → Int32) → (Nat → Int32) → (Nat → Int32) → (Nat → Int32) → (Nat → Int32) → (Nat → Int32) → Prop} {x2 x6 x7 x8 x9 x10 x11 x12 x13 x14 : Int32} {c Lay : Nat} {M : Nat} (hc : c < 20) (hL : Lay ≤ 1048576) (hM : M ≤ 1048576) {x16 x18 x19 x20 : Int32} (hF : ((x7 >>> (nI c &&& 31)) &&& 1) = x20) (h20 : x20 = 0 ∨ x20 = 1)
    (hS : qb_t x8 c = true ↔ (¬ x16 = 0 ∧ 0 < Lay ∧ M = Lay)) (hun : x16 = 0 → nI M = 0 ∧ x19 = 0) (hown : 0 < Lay → (x18 = 0 → ¬ x20 = 0) ∧ (x18 = 1 → qb_t x8 c = true) ∧ ¬ x18 = -3)
    (H : J x9 x11 x14 (nI (c + 1)) wn cv gc rs ce mi dm df cs a1 a2 a3 a4 a5 a6 a7 a8 a9 a10) : wL_law_290 post L xs J x2 (nI Lay) x6 x7 x8 x9 x10 x11 x12 x13 x14 (nI c) x16 (nI M) x18 x19 x20 kc ks wn cv gc rs ce mi dm df cs a1 a2 a3 a4 a5 a6 a7 a8 a9 a10 := by
  have h0 : qb_t x8 c = false → wL_law_313 post L xs J x2 (nI Lay) x6 x7 x8 x9 x10 x11 x12 x13 x14 (nI c) x16 (nI M) x18 x19 x20 kc ks wn cv gc rs ce mi dm df cs a1 a2 a3 a4 a5 a6 a7 a8 a9 a10 := fun hb =>
    qz_314 hF (x21 := 0) (by rw [qb_sh1 x8 (by omega), hb]; rfl) h20 (Or.inl rfl) hun (qz_371 hL (fun z => ⟨(hown z).1, fun e => absurd ((hown z).2.1 e) (by rw [hb]; decide), (hown z).2.2⟩) H)
  have h1 : qb_t x8 c = true → wL_law_314 post L xs J x2 (nI Lay) x6 x7 x8 x9 x10 x11 x12 x13 x14 (nI c) x16 (nI M) x18 x19 x20 1 kc ks wn cv gc rs ce mi dm df cs a1 a2 a3 a4 a5 a6 a7 a8 a9 a10 := fun hb =>
    qz_314 hF (x21 := 1) (by rw [qb_sh1 x8 (by omega), hb]; rfl) h20 (Or.inr rfl) hun (qz_371 hL (fun z => ⟨(hown z).1, fun _ => by decide, (hown z).2.2⟩) H)
  refine br_c (fun e => h0 (qb_nt (fun y => (hS.mp y).1 e))) (fun e => pk_le Lay 0 (fun z => h0 (qb_nt (fun y => by have := (hS.mp y).2.1; omega))) (fun z => pk_eq M Lay (fun y => h1 (hS.mpr ⟨e, z, y⟩)) (fun y => h0 (qb_nt (fun w => y (hS.mp w).2.2)))))
theorem qz_252 {post : Int32 → Prop} {L : Nat} {xs : Nat → Int32} {kc ks : Nat} {wn cv gc rs ce mi dm df cs : Int32} {a1 a2 a3 a4 a5 a6 a7 a8 a9 a10 : Nat → Int32} {J : Int32 → Int32 → Int32 → Int32 → Int32 → Int32 → Int32 → Int32 → Int32 → Int32 → Int32 → Int32 → Int32 → (Nat → Int32) → (Nat → Int32) → (Nat → Int32) → (Nat → Int32) → (Nat → Int32) → (Nat → Int32) → (Nat → Int32) → (Nat → Int32) → (Nat → Int32) → (Nat → Int32) → Prop} {x2 x6 x7 x8 x9 x10 x11 x12 x13 x14 : Int32} {c Lay : Nat} {M g : Nat} (hc : c < 20) (hL : Lay ≤ 1048576) (hM : M ≤ 1048576) {x16 x18 : Int32}
    (hF : qb_t x7 c = true ↔ (¬ x16 = 0 ∧ 0 < Lay ∧ M = 0)) (hS : qb_t x8 c = true ↔ (¬ x16 = 0 ∧ 0 < Lay ∧ M = Lay)) (hun : x16 = 0 → M = 0 ∧ g = 0)
    (hown : 0 < Lay → (x18 = 0 → qb_t x7 c = true) ∧ (x18 = 1 → qb_t x8 c = true) ∧ ¬ x18 = -3)
    (H : J x9 x11 (if x18 < 0 then x14 else x14 + 1) (nI (c + 1)) wn cv gc rs ce mi dm df cs a1 a2 a3 a4 a5 a6 a7 a8 a9 a10) : wL_law_252 post L xs J x2 (nI Lay) x6 x7 x8 x9 x10 x12 x13 x14 (nI c) x16 (nI M) x18 (nI g) x11 kc ks wn cv gc rs ce mi dm df cs a1 a2 a3 a4 a5 a6 a7 a8 a9 a10 := by
  have hun' : x16 = 0 → nI M = 0 ∧ nI g = 0 := fun e => by rw [(hun e).1, (hun e).2]; exact ⟨rfl, rfl⟩
  have h268 : ∀ y, J x9 x11 y (nI (c + 1)) wn cv gc rs ce mi dm df cs a1 a2 a3 a4 a5 a6 a7 a8 a9 a10 → wL_law_268 post L xs J x2 (nI Lay) x6 x7 x8 x9 x10 x11 x12 x13 (nI c) x16 (nI M) x18 (nI g) y kc ks wn cv gc rs ce mi dm df cs a1 a2 a3 a4 a5 a6 a7 a8 a9 a10 := by
    intro y hy
    have h0 : qb_t x7 c = false → wL_law_289 post L xs J x2 (nI Lay) x6 x7 x8 x9 x10 x11 x12 x13 y (nI c) x16 (nI M) x18 (nI g) kc ks wn cv gc rs ce mi dm df cs a1 a2 a3 a4 a5 a6 a7 a8 a9 a10 := fun hb =>
      qz_290 hc hL hM (by rw [qb_sh1 x7 (by omega), hb]; rfl) (Or.inl rfl) hS hun' (fun z => ⟨fun e => absurd ((hown z).1 e) (by rw [hb]; decide), (hown z).2⟩) hy
    have h1 : qb_t x7 c = true → wL_law_290 post L xs J x2 (nI Lay) x6 x7 x8 x9 x10 x11 x12 x13 y (nI c) x16 (nI M) x18 (nI g) 1 kc ks wn cv gc rs ce mi dm df cs a1 a2 a3 a4 a5 a6 a7 a8 a9 a10 := fun hb =>
      qz_290 hc hL hM (by rw [qb_sh1 x7 (by omega), hb]; rfl) (Or.inr rfl) hS hun' (fun z => ⟨fun _ => by decide, (hown z).2⟩) hy
    exact br_c (fun e => h0 (qb_nt (fun y => (hF.mp y).1 e))) (fun e => pk_le Lay 0 (fun z => h0 (qb_nt (fun y => by have := (hF.mp y).2.1; omega))) (fun z => pk_eq M 0 (fun y => h1 (hF.mpr ⟨e, z, y⟩)) (fun y => h0 (qb_nt (fun w => y (hF.mp w).2.2)))))
  refine br_c (fun e => h268 _ ?_) (fun e => h268 _ ?_)
  · rw [if_pos e] at H; exact H
  · rw [if_neg e] at H; exact H
end
section
/-! ===== the loop over the cells ===== -/
theorem qz_d0 {dm df : Int32} {c : Nat} : (qv_d dm df 0 c = 0 → qb_t df c = true) ∧ (qv_d dm df 0 c = 1 → qb_t dm c = true) ∧ ¬ qv_d dm df 0 c = -3 ∧ (qv_d dm df 0 c < 0 ↔ qb_t (dm ||| df) c = false) := by
  unfold qv_d
  rw [if_pos rfl, qb_or]
  cases qb_t dm c <;> cases qb_t df c <;> decide
theorem qz_181 {post : Int32 → Prop} {L : Nat} {xs : Nat → Int32} {kc ks : Nat} {wn cv gc rs ce mi dm df cs : Int32} {a1 a2 a3 a4 a5 a6 a7 a8 a9 a10 : Nat → Int32} (hnr : qx_nr a2) (hch : qx_ch a8) (hv : qw_v a1) (hcv : qx_cov a1 cv) {dm1 df1 cs1 dm2 df2 cs2 : Int32} (hI1 : qu_I a1 a2 cv dm1 df1 cs1) (hI2 : qu_I a1 a2 cv dm2 df2 cs2) (hg1 : qb_le dm1 dm2) (hg2 : qb_le df1 df2) (hap : ∀ (post : St1 → Prop) (wn gc rs ce mi dm df cs : Int32) (a3 a4 a5 a6 a7 a8 a9 a10 : Nat → Int32), post (wn, cv, gc, rs, ce, mi, dm2, df2, cs2, a1, a2, a3, a4, a5, a6, a7, a8, a9, a10) → wpX_applyRules post (wn, cv, gc, rs, ce, mi, dm, df, cs, a1, a2, a3, a4, a5, a6, a7, a8, a9, a10) 1) {x2 x7 x8 : Int32} {m : Nat}
    (h7 : ∀ c, c < 20 → qb_t x7 c = (decide (0 < qp_L a1 a2 cv wn) && (qb_t cv c && decide (qp_M a1 a2 cv wn c = 0))))
    (h8 : ∀ c, c < 20 → qb_t x8 c = (decide (0 < qp_L a1 a2 cv wn) && (qb_t cv c && decide (qp_M a1 a2 cv wn c = qp_L a1 a2 cv wn))))
    (hm : m ≤ 20) (hm2 : 0 < m ↔ ∃ i, i < 20 ∧ qb_t (qw_E a1 a2 cv 20) i = true) (H : post 1) :
    ∃ fu, wL_law_181 post L xs x2 (nI (qp_L a1 a2 cv wn)) (nI (qr_s (fun n => n * qk_W wn (qw_T a1 a2 cv 32) n) 21)) x7 x8 (nI m) (qv_n dm1 df1 cs1) (qv_n dm2 df2 cs2) kc ks fu 0 0 0 0 wn cv gc rs ce mi dm df cs a1 a2 a3 a4 a5 a6 a7 a8 a9 a10 := by
  have hL := qp_Lle a1 a2 cv wn
  have hcs : 0 < qp_L a1 a2 cv wn → cs1 = 0 ∧ cs2 = 0 := fun z => ⟨hI1.2.2.2.1 (qp_ex z), hI2.2.2.2.1 (qp_ex z)⟩
  refine pk_loop (σ := Int32 × Int32 × Int32 × qx_Z) (fun n i s => wL_law_181 post L xs x2 (nI (qp_L a1 a2 cv wn)) (nI (qr_s (fun n => n * qk_W wn (qw_T a1 a2 cv 32) n) 21)) x7 x8 (nI m) (qv_n dm1 df1 cs1) (qv_n dm2 df2 cs2) kc ks n s.1 s.2.1 s.2.2.1 (nI i) wn cv s.2.2.2.1 s.2.2.2.2.1 s.2.2.2.2.2.1 s.2.2.2.2.2.2.1 s.2.2.2.2.2.2.2.1 s.2.2.2.2.2.2.2.2.1 s.2.2.2.2.2.2.2.2.2.1 a1 a2 s.2.2.2.2.2.2.2.2.2.2.1 s.2.2.2.2.2.2.2.2.2.2.2.1 s.2.2.2.2.2.2.2.2.2.2.2.2.1 s.2.2.2.2.2.2.2.2.2.2.2.2.2.1 s.2.2.2.2.2.2.2.2.2.2.2.2.2.2.1 a8 s.2.2.2.2.2.2.2.2.2.2.2.2.2.2.2.1 s.2.2.2.2.2.2.2.2.2.2.2.2.2.2.2.2)
    (fun i s => s.1 = nI (qr_s (qp_M a1 a2 cv wn) i) ∧ ((s.2.1 = 1 ∧ ∃ c, c < i ∧ qb_t (qw_E a1 a2 cv 20) c = true) ∨ (s.2.1 = 0 ∧ ∀ c, c < i → qb_t (qw_E a1 a2 cv 20) c = false)) ∧ (0 < qp_L a1 a2 cv wn → s.2.2.1 = nI (qc_n (qb_t (dm2 ||| df2)) i)))
    20 0 (0, 0, 0, gc, rs, ce, mi, dm, df, cs, a3, a4, a5, a6, a7, a9, a10) (by omega) ⟨rfl, Or.inr ⟨rfl, fun c hc => absurd hc (by omega)⟩, fun _ => rfl⟩ ?_ ?_
  · rintro n ⟨x9, x11, x14, gc, rs, ce, mi, dm, df, cs, a3, a4, a5, a6, a7, a9, a10⟩ ⟨k1, k2, k3⟩
    dsimp only at k1 k2 k3 ⊢
    have hx : 0 < qp_L a1 a2 cv wn → ∃ p q : Nat, p ≤ q ∧ q ≤ 20 ∧ qv_n dm1 df1 cs1 = nI p ∧ qv_n dm2 df2 cs2 = nI q ∧ x14 = nI q := fun z => by
      obtain ⟨z1, z2⟩ := hcs z
      refine ⟨qc_p (dm1 ||| df1), qc_p (dm2 ||| df2), qc_pmono (fun i hi => ?_), qc_ple _, ?_, ?_, k3 z⟩
      · rw [qb_or, Bool.or_eq_true] at hi ⊢
        exact hi.imp (hg1 i) (hg2 i)
      · unfold qv_n; rw [if_pos z1]
      · unfold qv_n; rw [if_pos z2]
    refine pk_le 20 20 (fun _ => qy_best hnr hch hv hcv.1 (fun r hr gc' rs' ce' mi' dm' df' cs' a3' a4' a5' a6' a7' a9' a10' => br_t ?_ ?_)) (fun z => absurd z (by omega))
    · rw [k1, qp_all]
    · rcases k2 with ⟨rfl, hE⟩ | ⟨rfl, hE⟩
      · refine pk_le m 0 (fun z => ?_) (fun _ => qz_435 hnr hch hv hcv hr hx H)
        have := hm2.mpr hE
        omega
      · refine pk_le m 0 (fun _ => qz_435 hnr hch hv hcv hr hx H) (fun z => ?_)
        obtain ⟨i, hi, hb⟩ := hm2.mp z
        rw [hE i hi] at hb
        exact absurd hb (by decide)
  · rintro n i ⟨x9, x11, x14, gc, rs, ce, mi, dm, df, cs, a3, a4, a5, a6, a7, a9, a10⟩ hi ⟨k1, k2, k3⟩ hw
    dsimp only at k1 k2 k3 ⊢
    have hM := qp_Mle a1 a2 cv wn i
    have main : ∀ x16 : Int32, ((x16 = 0 ∧ qb_t cv i = false) ∨ (x16 = 1 ∧ qb_t cv i = true)) → wL_law_204 post L xs (wL_law_181 post L xs x2 (nI (qp_L a1 a2 cv wn)) (nI (qr_s (fun n => n * qk_W wn (qw_T a1 a2 cv 32) n) 21)) x7 x8 (nI m) (qv_n dm1 df1 cs1) (qv_n dm2 df2 cs2) kc ks n) x2 (nI (qp_L a1 a2 cv wn)) (nI (qr_s (fun n => n * qk_W wn (qw_T a1 a2 cv 32) n) 21)) x7 x8 x9 (nI m) x11 (qv_n dm1 df1 cs1) (qv_n dm2 df2 cs2) x14 (nI i) x16 kc ks wn cv gc rs ce mi dm df cs a1 a2 a3 a4 a5 a6 a7 a8 a9 a10 := by
      intro x16 h16
      unfold wL_law_204
      refine qy_mined hnr hch hv hcv.1 hi (fun gc rs ce mi dm df cs a3 a4 a5 a6 a7 a9 a10 => ?_)
      refine qx_decided hap hi (fun gc rs ce mi dm df cs a3 a4 a5 a6 a7 a9 a10 => ?_)
      refine qy_groupOf hcv.1 hi (fun g hg hgE gc rs ce mi dm df cs a3 a4 a5 a6 a7 a9 a10 => ?_)
      refine nm_r (e' := nI (qr_s (qp_M a1 a2 cv wn) (i + 1))) (by rw [k1, nI_add]; rfl) ?_
      have h16' : ¬ x16 = 0 ↔ qb_t cv i = true := by
        rcases h16 with ⟨rfl, hb⟩ | ⟨rfl, hb⟩ <;> rw [hb] <;> decide
      have hF : qb_t x7 i = true ↔ (¬ x16 = 0 ∧ 0 < qp_L a1 a2 cv wn ∧ qp_M a1 a2 cv wn i = 0) := by
        rw [h7 i hi, h16', Bool.and_eq_true, Bool.and_eq_true, decide_eq_true_iff, decide_eq_true_iff]
        exact ⟨fun z => ⟨z.2.1, z.1, z.2.2⟩, fun z => ⟨z.2.1, z.1, z.2.2⟩⟩
      have hS : qb_t x8 i = true ↔ (¬ x16 = 0 ∧ 0 < qp_L a1 a2 cv wn ∧ qp_M a1 a2 cv wn i = qp_L a1 a2 cv wn) := by
        rw [h8 i hi, h16', Bool.and_eq_true, Bool.and_eq_true, decide_eq_true_iff, decide_eq_true_iff]
        exact ⟨fun z => ⟨z.2.1, z.1, z.2.2⟩, fun z => ⟨z.2.1, z.1, z.2.2⟩⟩
      have hun : x16 = 0 → qp_M a1 a2 cv wn i = 0 ∧ g = 0 := fun e => by
        have hb : qb_t cv i = false := qb_nt (fun z => h16'.mpr z e)
        refine ⟨qp_M0 hb, ?_⟩
        rcases Nat.eq_zero_or_pos g with z | z
        · exact z
        · have := qw_Ele a1 a2 cv 20 i (hgE.mp z)
          rw [hb] at this
          exact absurd this (by decide)
      have hown : 0 < qp_L a1 a2 cv wn → (qv_d dm2 df2 cs2 i = 0 → qb_t x7 i = true) ∧ (qv_d dm2 df2 cs2 i = 1 → qb_t x8 i = true) ∧ ¬ qv_d dm2 df2 cs2 i = -3 := fun z => by
        rw [(hcs z).2]
        obtain ⟨d1, d2, d3, _⟩ := qz_d0 (dm := dm2) (df := df2) (c := i)
        refine ⟨fun e => hF.mpr ⟨h16'.mpr (hI2.2.1 i (d1 e)), z, qp_free (fun F hFF => (hI2.2.2.1 F hFF).2 i (d1 e))⟩, fun e => hS.mpr ⟨h16'.mpr (hI2.1 i (d2 e)), z, qp_sure (fun F hFF => (hI2.2.2.1 F hFF).1 i (d2 e))⟩, d3⟩
      have k3' : 0 < qp_L a1 a2 cv wn → (if qv_d dm2 df2 cs2 i < 0 then x14 else x14 + 1) = nI (qc_n (qb_t (dm2 ||| df2)) (i + 1)) := fun z => by
        rw [(hcs z).2, k3 z]
        obtain ⟨_, _, _, d4⟩ := qz_d0 (dm := dm2) (df := df2) (c := i)
        show _ = nI (qc_n (qb_t (dm2 ||| df2)) i + (qb_t (dm2 ||| df2) i).toNat)
        cases hb : qb_t (dm2 ||| df2) i
        · rw [if_pos (d4.mpr hb)]; rfl
        · rw [if_neg (fun y => by rw [d4.mp y] at hb; exact absurd hb (by decide)), nI_1]; rfl
      have go : ∀ y, ((y = 1 ∧ ∃ c, c < i + 1 ∧ qb_t (qw_E a1 a2 cv 20) c = true) ∨ (y = 0 ∧ ∀ c, c < i + 1 → qb_t (qw_E a1 a2 cv 20) c = false)) →
          wL_law_252 post L xs (wL_law_181 post L xs x2 (nI (qp_L a1 a2 cv wn)) (nI (qr_s (fun n => n * qk_W wn (qw_T a1 a2 cv 32) n) 21)) x7 x8 (nI m) (qv_n dm1 df1 cs1) (qv_n dm2 df2 cs2) kc ks n) x2 (nI (qp_L a1 a2 cv wn)) (nI (qr_s (fun n => n * qk_W wn (qw_T a1 a2 cv 32) n) 21)) x7 x8 (nI (qr_s (qp_M a1 a2 cv wn) (i + 1))) (nI m) (qv_n dm1 df1 cs1) (qv_n dm2 df2 cs2) x14 (nI i) x16 (nI (qp_M a1 a2 cv wn i)) (qv_d dm2 df2 cs2 i) (nI g) y kc ks wn cv gc rs ce mi dm df cs a1 a2 a3 a4 a5 a6 a7 a8 a9 a10 :=
        fun y hy => qz_252 hi hL hM hF hS hun hown (hw (_, _, _, gc, rs, ce, mi, dm, df, cs, a3, a4, a5, a6, a7, a9, a10) ⟨rfl, hy, k3'⟩)
      rcases k2 with ⟨rfl, c, hc, hE⟩ | ⟨rfl, hE⟩
      · exact br_f (by decide) (go 1 (Or.inl ⟨rfl, c, by omega, hE⟩))
      · refine br_t rfl (pk_le g 0 (fun z => go 0 (Or.inr ⟨rfl, lt_s hE (qb_nt (fun y => by have := hgE.mpr y; omega))⟩)) (fun z => go 1 (Or.inl ⟨rfl, i, by omega, hgE.mp z⟩)))
    refine pk_le 20 i (fun z => absurd z (by omega)) (fun _ => qx_clue hi (fun e => br_t rfl (main 1 (Or.inr ⟨rfl, (hcv.2 i hi).mpr e⟩))) (fun e => br_f (qz_m2 hv hi e) (main 0 (Or.inl ⟨rfl, qb_nt (fun z => e ((hcv.2 i hi).mp z))⟩))))
theorem qz_72 {post : Int32 → Prop} {L : Nat} {xs : Nat → Int32} {kc ks : Nat} {wn cv gc rs ce mi dm df cs : Int32} {a1 a2 a3 a4 a5 a6 a7 a8 a9 a10 : Nat → Int32} (hnr : qx_nr a2) (hch : qx_ch a8) (hv : qw_v a1) (hcv : qx_cov a1 cv) {x2 : Int32} (H : post 1) : wL_law_72 post L xs x2 kc ks wn cv gc rs ce mi dm df cs a1 a2 a3 a4 a5 a6 a7 a8 a9 a10 := by
  have hL := qp_Lle a1 a2 cv wn
  obtain ⟨dm1, df1, cs1, dm2, df2, cs2, hI1, hI2, hg1, hg2, ha0, ha1⟩ := qu_apply (a1 := a1) hnr hcv.1
  have hs1 : qb_s (dm1 ||| df1) := qb_sor (qb_sle hI1.1 hcv.1) (qb_sle hI1.2.1 hcv.1)
  have hs2 : qb_s (dm2 ||| df2) := qb_sor (qb_sle hI2.1 hcv.1) (qb_sle hI2.2.1 hcv.1)
  unfold wL_law_72
  refine qy_layouts hnr hch hv hcv.1 (fun gc rs ce mi dm df cs a3 a4 a5 a6 a7 a9 a10 => ?_)
  refine pk_loop (σ := qx_Z) (fun n i s => wL_law_87 post L xs x2 (nI (qp_L a1 a2 cv wn)) kc ks n (nI (qr_s (qk_W wn (qw_T a1 a2 cv 32)) i)) (nI (qr_s (fun n => n * qk_W wn (qw_T a1 a2 cv 32) n) i)) (nI i) wn cv s.1 s.2.1 s.2.2.1 s.2.2.2.1 s.2.2.2.2.1 s.2.2.2.2.2.1 s.2.2.2.2.2.2.1 a1 a2 s.2.2.2.2.2.2.2.1 s.2.2.2.2.2.2.2.2.1 s.2.2.2.2.2.2.2.2.2.1 s.2.2.2.2.2.2.2.2.2.2.1 s.2.2.2.2.2.2.2.2.2.2.2.1 a8 s.2.2.2.2.2.2.2.2.2.2.2.2.1 s.2.2.2.2.2.2.2.2.2.2.2.2.2) (fun _ _ => True) 21 0 (gc, rs, ce, mi, dm, df, cs, a3, a4, a5, a6, a7, a9, a10) (by omega) trivial ?_ ?_
  · rintro n ⟨gc, rs, ce, mi, dm, df, cs, a3, a4, a5, a6, a7, a9, a10⟩ _
    dsimp only
    refine pk_le 21 21 (fun _ => br_t ?_ (br_t (nI_pos' (by omega)) ?_)) (fun z => absurd z (by omega))
    · exact congrArg nI (qp_L32 a1 a2 cv wn)
    · refine qy_free hnr hch hv hcv.1 (fun x7 h7 gc rs ce mi dm df cs a3 a4 a5 a6 a7 a9 a10 => ?_)
      refine qy_sure hnr hch hv hcv.1 (fun x8 h8 gc rs ce mi dm df cs a3 a4 a5 a6 a7 a9 a10 => ?_)
      refine qy_groups hcv.1 (fun m hm hm2 gc rs ce mi dm df cs a3 a4 a5 a6 a7 a9 a10 => ?_)
      refine qx_simple ha0 hs1 (fun gc rs ce mi dm df cs a3 a4 a5 a6 a7 a9 a10 => ?_)
      refine qx_paired ha1 hs2 (fun gc rs ce mi dm df cs a3 a4 a5 a6 a7 a9 a10 => ?_)
      exact qz_181 hnr hch hv hcv hI1 hI2 hg1 hg2 ha1 h7 h8 hm hm2 H
  · rintro n i ⟨gc, rs, ce, mi, dm, df, cs, a3, a4, a5, a6, a7, a9, a10⟩ hi _ hw
    dsimp only
    refine pk_le 21 i (fun z => absurd z (by omega)) (fun _ => qx_with hnr hch hv hcv.1 (by omega) (fun gc' rs' ce' mi' dm' df' cs' a3' a4' a5' a6' a7' a9' a10' => ?_))
    exact nm_r (e' := nI (qr_s (qk_W wn (qw_T a1 a2 cv 32)) (i + 1))) (by rw [nI_add]; rfl) (nm_r (e' := nI (qr_s (fun n => n * qk_W wn (qw_T a1 a2 cv 32) n) (i + 1))) (by rw [pk_mul, nI_add]; rfl) (nm_r (nI_1 i) (hw (gc', rs', ce', mi', dm', df', cs', a3', a4', a5', a6', a7', a9', a10') trivial)))
/-! ===== the script ===== -/
theorem qz_20 {post : Int32 → Prop} {L : Nat} {xs : Nat → Int32} {kc ks : Nat} (hLL : L ≤ 260) {wn cv gc rs ce mi dm df cs : Int32} {a1 a2 a3 a4 a5 a6 a7 a8 a9 a10 : Nat → Int32} (hnr : qx_nr a2) (hch : qx_ch a8) (hv : qw_v a1) (hcv : qx_cov a1 cv) {z : Int32} (H : post 1) : wL_law_20 post L xs z kc ks wn cv gc rs ce mi dm df cs a1 a2 a3 a4 a5 a6 a7 a8 a9 a10 := by
  unfold wL_law_20
  refine nm_e ?_
  generalize (z &&& (z >>> ((7 : Int32) &&& 31))) &&& 1048575 = x3
  refine pk_loop (σ := Int32 × Int32 × (Nat → Int32)) (fun n i s => wL_law_34 post L xs z x3 kc ks n (nI (2 * i + 1)) s.1 s.2.1 gc rs ce mi dm df cs s.2.2 a2 a3 a4 a5 a6 a7 a8 a9 a10) (fun i s => qw_v s.2.2 ∧ qx_cov s.2.2 s.2.1) 25 0 (wn, cv, a1) (by omega) ⟨hv, hcv⟩ ?_ ?_
  · rintro n ⟨wn, cv, a1⟩ ⟨h1, h2⟩
    dsimp only at h1 h2 ⊢
    exact br_c (fun _ => qz_72 hnr hch h1 h2 H) (fun _ => pk_le 50 51 (fun _ => qz_72 hnr hch h1 h2 H) (fun z => absurd z (by omega)))
  · rintro n i ⟨wn, cv, a1⟩ hi ⟨h1, h2⟩ hw
    dsimp only at h1 h2 ⊢
    refine pk_le L (2 * i + 1 + 1) (fun _ => qz_72 hnr hch h1 h2 H) (fun hlt => pk_le 50 (2 * i + 1) (fun z => absurd z (by omega)) (fun _ => ⟨pk_in (2 * i + 1) L (by omega), pk_in (2 * i + 1 + 1) L (by omega) (nI_1 _), ?_⟩)) rfl (nI_1 _)
    refine qx_turn h1 h2 (fun r wn' cv' a1' h1' h2' => nm_r (e' := nI (2 * (i + 1) + 1)) ?_ (hw (wn', cv', a1') ⟨h1', h2'⟩))
    rw [show (2 : Int32) = nI 2 from rfl, nI_add]
    exact congrArg nI (by omega)
theorem i_vc (xs : Nat → Int32) (L : Nat) (hL : L ≤ 260) : wpL_law (fun r => r = 1) L xs := by
  refine ⟨10, 1424, by omega, by omega, qx_init (fun gc rs ce mi dm df cs a1 a2 a3 a4 a5 a6 a7 a8 a9 a10 h1 h2 h8 => ?_)⟩
  have hv : qw_v a1 := fun c hc => Or.inl (h1 c hc)
  have hcv := qx_cov0 h1
  refine br_c (fun _ => qz_20 hL h2 h8 hv hcv rfl) (fun h => ⟨?_, qz_20 hL h2 h8 hv hcv rfl⟩)
  refine pk_in 0 L ?_
  rcases Nat.eq_zero_or_pos L with z | z
  · subst z; exact absurd (show Int32.ofNat 0 ≤ 0 by decide) h
  · exact z
end
