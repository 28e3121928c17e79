section
/-! polynomials of four idempotent variables as naturals below 65536: bit m is the coefficient of the monomial m -/
def gb_xs (F : Nat → Bool) : Nat → Bool
  | 0 => false
  | n + 1 => gb_xs F n ^^ F n
/-- a divides b -/
def gb_sub (a b : Nat) : Bool := (a &&& b) == a
/-- m without h -/
def gb_df (m h : Nat) : Nat := m ^^^ (m &&& h)
/-- the value at a point -/
def gb_ev (f p : Nat) : Bool := gb_xs (fun m => f.testBit m && gb_sub m p) 16
theorem gb_xs_xor (F G : Nat → Bool) (n : Nat) : gb_xs (fun m => F m ^^ G m) n = (gb_xs F n ^^ gb_xs G n) := by
  induction n with
  | zero => rfl
  | succ n ih =>
    show (gb_xs (fun m => F m ^^ G m) n ^^ (F n ^^ G n)) = ((gb_xs F n ^^ F n) ^^ (gb_xs G n ^^ G n))
    rw [ih]
    cases gb_xs F n <;> cases gb_xs G n <;> cases F n <;> cases G n <;> rfl
theorem gb_xs_congr {F G : Nat → Bool} {n : Nat} (h : ∀ m, m < n → F m = G m) : gb_xs F n = gb_xs G n := by
  induction n with
  | zero => rfl
  | succ n ih =>
    show (gb_xs F n ^^ F n) = (gb_xs G n ^^ G n)
    rw [ih (fun m hm => h m (by omega)), h n (by omega)]
theorem gb_xs_false {F : Nat → Bool} {n : Nat} (h : ∀ m, m < n → F m = false) : gb_xs F n = false := by
  induction n with
  | zero => rfl
  | succ n ih =>
    show (gb_xs F n ^^ F n) = false
    rw [ih (fun m hm => h m (by omega)), h n (by omega)]
    rfl
theorem gb_xs_one {F : Nat → Bool} {n k : Nat} (hk : k < n) (h : ∀ m, m < n → m ≠ k → F m = false) : gb_xs F n = F k := by
  induction n with
  | zero => exact absurd hk (by omega)
  | succ n ih =>
    show (gb_xs F n ^^ F n) = F k
    by_cases e : k = n
    · rw [gb_xs_false (fun m hm => h m (by omega) (by omega)), e]
      cases F n <;> rfl
    · rw [ih (by omega) (fun m hm hne => h m (by omega) hne), h n (by omega) (by omega)]
      cases F k <;> rfl
theorem gb_xs_and (c : Bool) (F : Nat → Bool) (n : Nat) : gb_xs (fun m => c && F m) n = (c && gb_xs F n) := by
  cases c
  · exact gb_xs_false (fun m _ => rfl)
  · exact gb_xs_congr (fun m _ => rfl)
theorem gb_ev_xor (f g p : Nat) : gb_ev (f ^^^ g) p = (gb_ev f p ^^ gb_ev g p) := by
  unfold gb_ev
  rw [← gb_xs_xor]
  apply gb_xs_congr
  intro m _
  rw [Nat.testBit_xor]
  cases f.testBit m <;> cases g.testBit m <;> cases gb_sub m p <;> rfl
theorem gb_ev_pow {k p : Nat} (hk : k < 16) : gb_ev (2 ^ k) p = gb_sub k p := by
  unfold gb_ev
  rw [gb_xs_one (k := k) hk]
  · rw [Nat.testBit_two_pow_self]; rfl
  · intro m hm hne
    rw [Nat.testBit_two_pow_of_ne (Ne.symm hne)]; rfl
theorem gb_ev_0 (p : Nat) : gb_ev 0 p = false := gb_xs_false (fun m _ => by rw [Nat.zero_testBit]; rfl)
theorem gb_hi {f k m : Nat} (h : f < 2 ^ k) (hm : k ≤ m) : f.testBit m = false :=
  Nat.testBit_lt_two_pow (Nat.lt_of_lt_of_le h (Nat.pow_le_pow_right (by omega) hm))
theorem gb_sub_gt {a b : Nat} (h : b < a) : gb_sub a b = false := by
  have h1 : a &&& b ≤ b := Nat.and_le_right
  have h2 : (a &&& b) ≠ a := by omega
  unfold gb_sub
  exact beq_eq_false_iff_ne.mpr h2
theorem gb_sub_self (a : Nat) : gb_sub a a = true := by
  unfold gb_sub
  rw [Nat.and_self]
  exact beq_self_eq_true a
theorem gb_ev_ne0 {f : Nat} (hf : f < 65536) (h : f ≠ 0) : ∃ p, p < 16 ∧ gb_ev f p = true := by
  obtain ⟨k, hk, hl⟩ := pk_least (fun k => f.testBit k = true) (Nat.exists_testBit_of_ne_zero h)
  have hk16 : k < 16 := by
    rcases Nat.lt_or_ge k 16 with z | z
    · exact z
    · have := gb_hi (k := 16) hf z
      exact absurd hk (by rw [this]; decide)
  refine ⟨k, hk16, ?_⟩
  unfold gb_ev
  rw [gb_xs_one (k := k) hk16]
  · show (f.testBit k && gb_sub k k) = true
    rw [hk, gb_sub_self]; rfl
  · intro m hm hne
    rcases Nat.lt_or_ge m k with z | z
    · have : f.testBit m = false := by
        cases hb : f.testBit m
        · rfl
        · exact absurd hb (hl m z)
      show (f.testBit m && gb_sub m k) = false
      rw [this]; rfl
    · show (f.testBit m && gb_sub m k) = false
      rw [gb_sub_gt (show k < m by omega), Bool.and_false]
theorem gb_xor_eq0 {a b : Nat} (h : a ^^^ b = 0) : a = b := by
  have : a ^^^ b ^^^ b = 0 ^^^ b := by rw [h]
  rw [Nat.xor_assoc, Nat.xor_self, Nat.xor_zero, Nat.zero_xor] at this
  exact this
theorem gb_xor_lt {a b : Nat} (ha : a < 65536) (hb : b < 65536) : a ^^^ b < 65536 := Nat.xor_lt_two_pow (n := 16) ha hb
theorem gb_inj {f g : Nat} (hf : f < 65536) (hg : g < 65536) (h : ∀ p, p < 16 → gb_ev f p = gb_ev g p) : f = g := by
  by_cases e : f ^^^ g = 0
  · exact gb_xor_eq0 e
  · obtain ⟨p, hp, he⟩ := gb_ev_ne0 (gb_xor_lt hf hg) e
    rw [gb_ev_xor, h p hp] at he
    exact absurd he (by cases gb_ev g p <;> decide)
theorem gb_pw {k : Nat} (hk : k < 16) : 2 ^ k < 65536 := Nat.pow_lt_pow_right (a := 2) (n := 16) (by decide) hk
theorem gb_or16 {a b : Nat} (ha : a < 16) (hb : b < 16) : a ||| b < 16 := Nat.or_lt_two_pow (n := 4) ha hb
theorem gb_xr16 {a b : Nat} (ha : a < 16) (hb : b < 16) : a ^^^ b < 16 := Nat.xor_lt_two_pow (n := 4) ha hb
theorem gb_df_le (m h : Nat) : gb_df m h ≤ m := by
  apply Nat.le_of_testBit
  intro i hi
  unfold gb_df at hi
  rw [Nat.testBit_xor, Nat.testBit_and] at hi
  revert hi
  cases m.testBit i <;> cases h.testBit i <;> decide
theorem gb_df16 {m : Nat} (h : Nat) (hm : m < 16) : gb_df m h < 16 := Nat.lt_of_le_of_lt (gb_df_le m h) hm
theorem gb_sub_or {s t p : Nat} : gb_sub (s ||| t) p = (gb_sub s p && gb_sub t p) := by
  unfold gb_sub
  rw [Bool.eq_iff_iff, Bool.and_eq_true, beq_iff_eq, beq_iff_eq, beq_iff_eq]
  constructor
  · intro h
    constructor
    · apply Nat.eq_of_testBit_eq
      intro i
      have := congrArg (fun z => Nat.testBit z i) h
      simp only [Nat.testBit_and, Nat.testBit_or] at this
      rw [Nat.testBit_and]
      revert this
      cases s.testBit i <;> cases t.testBit i <;> cases p.testBit i <;> decide
    · apply Nat.eq_of_testBit_eq
      intro i
      have := congrArg (fun z => Nat.testBit z i) h
      simp only [Nat.testBit_and, Nat.testBit_or] at this
      rw [Nat.testBit_and]
      revert this
      cases s.testBit i <;> cases t.testBit i <;> cases p.testBit i <;> decide
  · rintro ⟨h1, h2⟩
    rw [Nat.and_or_distrib_right, h1, h2]
/-! the product with a monomial -/
def gb_tmk (f t : Nat) : Nat → Nat
  | 0 => 0
  | k + 1 => if f.testBit k = true then gb_tmk f t k ^^^ 2 ^ (k ||| t) else gb_tmk f t k
def gb_tm (f t : Nat) : Nat := gb_tmk f t 16
theorem gb_tmk_lt (f : Nat) {t : Nat} (ht : t < 16) : ∀ k, k ≤ 16 → gb_tmk f t k < 65536 := by
  intro k
  induction k with
  | zero => intro _; exact (by decide : 0 < 65536)
  | succ k ih =>
    intro hk
    unfold gb_tmk
    split
    · exact gb_xor_lt (ih (by omega)) (gb_pw (gb_or16 (by omega) ht))
    · exact ih (by omega)
theorem gb_tm_lt16 (f : Nat) {t : Nat} (ht : t < 16) : gb_tm f t < 65536 := gb_tmk_lt f ht 16 (by omega)
theorem gb_ev_tmk (f : Nat) {t p : Nat} (ht : t < 16) : ∀ k, k ≤ 16 → gb_ev (gb_tmk f t k) p = (gb_sub t p && gb_xs (fun m => f.testBit m && gb_sub m p) k) := by
  intro k
  induction k with
  | zero => intro _; show gb_ev 0 p = _; rw [gb_ev_0]; cases gb_sub t p <;> rfl
  | succ k ih =>
    intro hk
    have ih := ih (by omega)
    show gb_ev (if f.testBit k = true then gb_tmk f t k ^^^ 2 ^ (k ||| t) else gb_tmk f t k) p = (gb_sub t p && (gb_xs (fun m => f.testBit m && gb_sub m p) k ^^ (f.testBit k && gb_sub k p)))
    by_cases hb : f.testBit k = true
    · rw [if_pos hb, gb_ev_xor, gb_ev_pow (gb_or16 (by omega) ht), ih, gb_sub_or, hb]
      cases gb_sub t p <;> cases gb_sub k p <;> cases gb_xs (fun m => f.testBit m && gb_sub m p) k <;> rfl
    · rw [if_neg hb, ih, eq_false_of_ne_true hb]
      cases gb_sub t p <;> cases gb_sub k p <;> cases gb_xs (fun m => f.testBit m && gb_sub m p) k <;> rfl
theorem gb_ev_tm (f : Nat) {t p : Nat} (ht : t < 16) : gb_ev (gb_tm f t) p = (gb_sub t p && gb_ev f p) := gb_ev_tmk f ht 16 (by omega)
theorem gb_tm_xor (f g : Nat) {t : Nat} (ht : t < 16) : gb_tm (f ^^^ g) t = gb_tm f t ^^^ gb_tm g t :=
  gb_inj (gb_tm_lt16 _ ht) (gb_xor_lt (gb_tm_lt16 _ ht) (gb_tm_lt16 _ ht)) (fun p _ => by
    rw [gb_ev_tm _ ht, gb_ev_xor, gb_ev_xor, gb_ev_tm _ ht, gb_ev_tm _ ht]
    cases gb_sub t p <;> cases gb_ev f p <;> cases gb_ev g p <;> rfl)
theorem gb_tm_tm (f : Nat) {s t : Nat} (hs : s < 16) (ht : t < 16) : gb_tm (gb_tm f s) t = gb_tm f (s ||| t) :=
  gb_inj (gb_tm_lt16 _ ht) (gb_tm_lt16 _ (gb_or16 hs ht)) (fun p _ => by
    rw [gb_ev_tm _ ht, gb_ev_tm _ hs, gb_ev_tm _ (gb_or16 hs ht), gb_sub_or]
    cases gb_sub t p <;> cases gb_sub s p <;> cases gb_ev f p <;> rfl)
theorem gb_tm_pow {k t : Nat} (hk : k < 16) (ht : t < 16) : gb_tm (2 ^ k) t = 2 ^ (k ||| t) :=
  gb_inj (gb_tm_lt16 _ ht) (gb_pw (gb_or16 hk ht)) (fun p _ => by
    rw [gb_ev_tm _ ht, gb_ev_pow hk, gb_ev_pow (gb_or16 hk ht), gb_sub_or]
    cases gb_sub t p <;> cases gb_sub k p <;> rfl)
theorem gb_tm_0 {t : Nat} (ht : t < 16) : gb_tm 0 t = 0 :=
  gb_inj (gb_tm_lt16 _ ht) (by decide) (fun p _ => by rw [gb_ev_tm _ ht, gb_ev_0, Bool.and_false])
theorem gb_tm_one {f : Nat} (hf : f < 65536) : gb_tm f 0 = f :=
  gb_inj (gb_tm_lt16 _ (by decide)) hf (fun p _ => by
    rw [gb_ev_tm _ (by decide)]
    have : gb_sub 0 p = true := by unfold gb_sub; rw [Nat.zero_and]; rfl
    rw [this, Bool.true_and])
theorem gb_tmk_bit {f t j : Nat} : ∀ k, (gb_tmk f t k).testBit j = true → ∃ m, m < k ∧ f.testBit m = true ∧ m ||| t = j := by
  intro k
  induction k with
  | zero => intro h; rw [show gb_tmk f t 0 = 0 from rfl, Nat.zero_testBit] at h; exact absurd h (by decide)
  | succ k ih =>
    intro h
    rw [show gb_tmk f t (k + 1) = if f.testBit k = true then gb_tmk f t k ^^^ 2 ^ (k ||| t) else gb_tmk f t k from rfl] at h
    by_cases hb : f.testBit k = true
    · rw [if_pos hb, Nat.testBit_xor] at h
      by_cases e : (k ||| t) = j
      · exact ⟨k, by omega, hb, e⟩
      · rw [Nat.testBit_two_pow_of_ne e, Bool.xor_false] at h
        obtain ⟨m, h1, h2, h3⟩ := ih h
        exact ⟨m, by omega, h2, h3⟩
    · rw [if_neg hb] at h
      obtain ⟨m, h1, h2, h3⟩ := ih h
      exact ⟨m, by omega, h2, h3⟩
theorem gb_tm_bit {f t j : Nat} (h : (gb_tm f t).testBit j = true) : ∃ m, m < 16 ∧ f.testBit m = true ∧ m ||| t = j := gb_tmk_bit 16 h
theorem gb_ltb {x n : Nat} (h : ∀ j, x.testBit j = true → j < n) : x < 2 ^ n := by
  apply Nat.lt_pow_two_of_testBit
  intro i hi
  cases hb : x.testBit i
  · rfl
  · exact absurd (h i hb) (by omega)
theorem gb_blt {x n j : Nat} (h : x < 2 ^ n) (hb : x.testBit j = true) : j < n := by
  rcases Nat.lt_or_ge j n with z | z
  · exact z
  · rw [gb_hi h z] at hb
    exact absurd hb (by decide)
theorem gb_tab1 : ∀ h, h < 16 → ∀ t, t < 16 → t &&& h = 0 → ∀ m, m < h → (m ||| t) < (h ||| t) := by decide +kernel
theorem gb_tm_lt {f h t : Nat} (hf : f < 2 ^ h) (hh : h < 16) (ht : t < 16) (hd : t &&& h = 0) : gb_tm f t < 2 ^ (h ||| t) :=
  gb_ltb (fun j hj => by
    obtain ⟨m, _, h2, h3⟩ := gb_tm_bit hj
    rw [← h3]
    exact gb_tab1 h hh t ht hd m (gb_blt hf h2))
/-- the head of f is h -/
def gb_hd (f h : Nat) : Prop := 2 ^ h ≤ f ∧ f < 2 ^ (h + 1)
theorem gb_hd_bit {f h : Nat} (hf : gb_hd f h) : f.testBit h = true := Nat.testBit_of_two_pow_le_and_two_pow_add_one_gt hf.1 hf.2
theorem gb_hd_down {f h : Nat} (hf : gb_hd f h) : f ^^^ 2 ^ h < 2 ^ h := by
  apply gb_ltb
  intro j hj
  rw [Nat.testBit_xor] at hj
  by_cases e : h = j
  · subst e
    rw [gb_hd_bit hf, Nat.testBit_two_pow_self] at hj
    exact absurd hj (by decide)
  · rw [Nat.testBit_two_pow_of_ne e, Bool.xor_false] at hj
    have := gb_blt hf.2 hj
    omega
theorem gb_hd_up {f h : Nat} (hf : f < 2 ^ h) : gb_hd (f ^^^ 2 ^ h) h := by
  have h1 : 2 ^ h < 2 ^ (h + 1) := Nat.pow_lt_pow_right (by omega) (by omega)
  refine ⟨Nat.ge_two_pow_of_testBit ?_, Nat.xor_lt_two_pow (by omega) h1⟩
  rw [Nat.testBit_xor, gb_hi hf (Nat.le_refl h), Nat.testBit_two_pow_self]
  rfl
theorem gb_hd_ne0 {f h : Nat} (hf : gb_hd f h) : f ≠ 0 := by
  intro e
  have := hf.1
  have h2 : 0 < 2 ^ h := Nat.pow_pos (by omega)
  omega
theorem gb_hd_ex {f : Nat} (hf : f < 65536) (h0 : f ≠ 0) : ∃ h, h < 16 ∧ gb_hd f h := by
  refine ⟨f.log2, ?_, Nat.log2_self_le h0, Nat.lt_log2_self⟩
  exact gb_blt (n := 16) hf (Nat.testBit_log2 h0)
theorem gb_hd_lt {f h : Nat} (hf : gb_hd f h) (hh : h < 16) : f < 65536 :=
  Nat.lt_of_lt_of_le hf.2 (Nat.pow_le_pow_right (n := 2) (i := h + 1) (j := 16) (by decide) (by omega))
theorem gb_xx (a b : Nat) : a ^^^ b ^^^ b = a := by rw [Nat.xor_assoc, Nat.xor_self, Nat.xor_zero]
theorem gb_tm_hd {f h t : Nat} (hf : gb_hd f h) (hh : h < 16) (ht : t < 16) (hd : t &&& h = 0) : gb_hd (gb_tm f t) (h ||| t) := by
  have e : f = (f ^^^ 2 ^ h) ^^^ 2 ^ h := (gb_xx f (2 ^ h)).symm
  rw [e, gb_tm_xor _ _ ht, gb_tm_pow hh ht]
  exact gb_hd_up (gb_tm_lt (gb_hd_down hf) hh ht hd)
/-! the product -/
def gb_prk (f g : Nat) : Nat → Nat
  | 0 => 0
  | k + 1 => if g.testBit k = true then gb_prk f g k ^^^ gb_tm f k else gb_prk f g k
def gb_pr (f g : Nat) : Nat := gb_prk f g 16
theorem gb_prk_lt (f g : Nat) : ∀ k, k ≤ 16 → gb_prk f g k < 65536 := by
  intro k
  induction k with
  | zero => intro _; exact (by decide : 0 < 65536)
  | succ k ih =>
    intro hk
    unfold gb_prk
    split
    · exact gb_xor_lt (ih (by omega)) (gb_tm_lt16 f (by omega))
    · exact ih (by omega)
theorem gb_pr_lt (f g : Nat) : gb_pr f g < 65536 := gb_prk_lt f g 16 (by omega)
theorem gb_ev_prk (f g : Nat) {p : Nat} : ∀ k, k ≤ 16 → gb_ev (gb_prk f g k) p = (gb_ev f p && gb_xs (fun m => g.testBit m && gb_sub m p) k) := by
  intro k
  induction k with
  | zero => intro _; show gb_ev 0 p = _; rw [gb_ev_0]; cases gb_ev f p <;> rfl
  | succ k ih =>
    intro hk
    have ih := ih (by omega)
    show gb_ev (if g.testBit k = true then gb_prk f g k ^^^ gb_tm f k else gb_prk f g k) p = (gb_ev f p && (gb_xs (fun m => g.testBit m && gb_sub m p) k ^^ (g.testBit k && gb_sub k p)))
    by_cases hb : g.testBit k = true
    · rw [if_pos hb, gb_ev_xor, gb_ev_tm f (by omega), ih, hb]
      cases gb_ev f p <;> cases gb_sub k p <;> cases gb_xs (fun m => g.testBit m && gb_sub m p) k <;> rfl
    · rw [if_neg hb, ih, eq_false_of_ne_true hb]
      cases gb_ev f p <;> cases gb_sub k p <;> cases gb_xs (fun m => g.testBit m && gb_sub m p) k <;> rfl
theorem gb_ev_pr (f g : Nat) {p : Nat} : gb_ev (gb_pr f g) p = (gb_ev f p && gb_ev g p) := gb_ev_prk f g 16 (by omega)
end
section
/-! the shift of the variables by a mask -/
def gb_ik (m b : Nat) : Nat → Nat
  | 0 => 0
  | k + 1 => if gb_sub k b = true then gb_ik m b k ^^^ 2 ^ (gb_df m k) else gb_ik m b k
def gb_shk (f a : Nat) : Nat → Nat
  | 0 => 0
  | k + 1 => if f.testBit k = true then gb_shk f a k ^^^ gb_ik k (k &&& a) 16 else gb_shk f a k
def gb_sh (f a : Nat) : Nat := gb_shk f a 16
theorem gb_ik_lt (m b : Nat) : ∀ k, gb_ik m b k < 2 ^ (m + 1) := by
  intro k
  induction k with
  | zero => exact Nat.pow_pos (by omega)
  | succ k ih =>
    unfold gb_ik
    split
    · exact Nat.xor_lt_two_pow ih (Nat.pow_lt_pow_right (by omega) (Nat.lt_succ_of_le (gb_df_le m k)))
    · exact ih
theorem gb_ev_ik {m b p : Nat} (hm : m < 16) : ∀ k, gb_ev (gb_ik m b k) p = gb_xs (fun s => gb_sub s b && gb_sub (gb_df m s) p) k := by
  intro k
  induction k with
  | zero => exact gb_ev_0 p
  | succ k ih =>
    show gb_ev (if gb_sub k b = true then gb_ik m b k ^^^ 2 ^ (gb_df m k) else gb_ik m b k) p = (gb_xs (fun s => gb_sub s b && gb_sub (gb_df m s) p) k ^^ (gb_sub k b && gb_sub (gb_df m k) p))
    by_cases hb : gb_sub k b = true
    · rw [if_pos hb, gb_ev_xor, gb_ev_pow (gb_df16 k hm), ih, hb, Bool.true_and]
    · rw [if_neg hb, ih, eq_false_of_ne_true hb, Bool.false_and, Bool.xor_false]
theorem gb_tab2 : ∀ m, m < 16 → ∀ a, a < 16 → ∀ p, p < 16 → gb_xs (fun s => gb_sub s (m &&& a) && gb_sub (gb_df m s) p) 16 = gb_sub m (p ^^^ a) := by decide +kernel
theorem gb_shk_lt {f a n : Nat} (hf : f < 2 ^ n) : ∀ k, gb_shk f a k < 2 ^ n := by
  intro k
  induction k with
  | zero => exact Nat.pow_pos (by omega)
  | succ k ih =>
    unfold gb_shk
    split
    · next hb => exact Nat.xor_lt_two_pow ih (Nat.lt_of_lt_of_le (gb_ik_lt k (k &&& a) 16) (Nat.pow_le_pow_right (by omega) (gb_blt hf hb)))
    · exact ih
theorem gb_sh_lt {f n : Nat} (a : Nat) (hf : f < 2 ^ n) : gb_sh f a < 2 ^ n := gb_shk_lt hf 16
theorem gb_sh_lt16 {f : Nat} (a : Nat) (hf : f < 65536) : gb_sh f a < 65536 := gb_sh_lt (n := 16) a hf
theorem gb_ev_shk (f : Nat) {a p : Nat} (ha : a < 16) (hp : p < 16) : ∀ k, k ≤ 16 → gb_ev (gb_shk f a k) p = gb_xs (fun m => f.testBit m && gb_sub m (p ^^^ a)) k := by
  intro k
  induction k with
  | zero => intro _; exact gb_ev_0 p
  | succ k ih =>
    intro hk
    have ih := ih (by omega)
    show gb_ev (if f.testBit k = true then gb_shk f a k ^^^ gb_ik k (k &&& a) 16 else gb_shk f a k) p = (gb_xs (fun m => f.testBit m && gb_sub m (p ^^^ a)) k ^^ (f.testBit k && gb_sub k (p ^^^ a)))
    by_cases hb : f.testBit k = true
    · rw [if_pos hb, gb_ev_xor, gb_ev_ik (by omega), gb_tab2 k (by omega) a ha p hp, ih, hb, Bool.true_and]
    · rw [if_neg hb, ih, eq_false_of_ne_true hb, Bool.false_and, Bool.xor_false]
theorem gb_ev_sh (f : Nat) {a p : Nat} (ha : a < 16) (hp : p < 16) : gb_ev (gb_sh f a) p = gb_ev f (p ^^^ a) := gb_ev_shk f ha hp 16 (by omega)
theorem gb_sh_sh {f a : Nat} (hf : f < 65536) (ha : a < 16) : gb_sh (gb_sh f a) a = f :=
  gb_inj (gb_sh_lt16 a (gb_sh_lt16 a hf)) hf (fun p hp => by
    rw [gb_ev_sh _ ha hp, gb_ev_sh _ ha (gb_xr16 hp ha), gb_xx])
theorem gb_sh_hd {f a h : Nat} (hf : gb_hd f h) (hh : h < 16) (ha : a < 16) : gb_hd (gb_sh f a) h := by
  refine ⟨?_, gb_sh_lt a hf.2⟩
  rcases Nat.lt_or_ge (gb_sh f a) (2 ^ h) with z | z
  · have := gb_sh_lt a z
    rw [gb_sh_sh (gb_hd_lt hf hh) ha] at this
    have := hf.1
    omega
  · exact z
theorem gb_sh_pr {f g a : Nat} (ha : a < 16) : gb_pr (gb_sh f a) (gb_sh g a) = gb_sh (gb_pr f g) a :=
  gb_inj (gb_pr_lt _ _) (gb_sh_lt16 a (gb_pr_lt _ _)) (fun p hp => by
    rw [gb_ev_pr, gb_ev_sh _ ha hp, gb_ev_sh _ ha hp, gb_ev_sh _ ha hp, gb_ev_pr])
theorem gb_sh_0 {a : Nat} (ha : a < 16) : gb_sh 0 a = 0 :=
  gb_inj (gb_sh_lt16 a (by decide)) (by decide) (fun p hp => by
    rw [gb_ev_sh _ ha hp, gb_ev_0, gb_ev_0])
/-! points moved by a mask -/
def gb_mvk (z a : Nat) : Nat → Nat
  | 0 => 0
  | k + 1 => if z.testBit k = true then gb_mvk z a k ||| 2 ^ (k ^^^ a) else gb_mvk z a k
def gb_mv (z a : Nat) : Nat := gb_mvk z a 16
theorem gb_mvk_lt (z : Nat) {a : Nat} (ha : a < 16) : ∀ k, k ≤ 16 → gb_mvk z a k < 65536 := by
  intro k
  induction k with
  | zero => intro _; exact (by decide : 0 < 65536)
  | succ k ih =>
    intro hk
    unfold gb_mvk
    split
    · exact Nat.or_lt_two_pow (n := 16) (ih (by omega)) (gb_pw (gb_xr16 (by omega) ha))
    · exact ih (by omega)
theorem gb_mv_lt (z : Nat) {a : Nat} (ha : a < 16) : gb_mv z a < 65536 := gb_mvk_lt z ha 16 (by omega)
theorem gb_mvk_bit (z a q : Nat) : ∀ k, (gb_mvk z a k).testBit q = true ↔ ∃ p, p < k ∧ z.testBit p = true ∧ p ^^^ a = q := by
  intro k
  induction k with
  | zero =>
    rw [show gb_mvk z a 0 = 0 from rfl, Nat.zero_testBit]
    exact ⟨fun h => absurd h (by decide), fun ⟨p, hp, _⟩ => absurd hp (by omega)⟩
  | succ k ih =>
    rw [show gb_mvk z a (k + 1) = if z.testBit k = true then gb_mvk z a k ||| 2 ^ (k ^^^ a) else gb_mvk z a k from rfl]
    by_cases hb : z.testBit k = true
    · rw [if_pos hb, Nat.testBit_or, Bool.or_eq_true, ih]
      constructor
      · rintro (⟨p, h1, h2, h3⟩ | h)
        · exact ⟨p, by omega, h2, h3⟩
        · by_cases e : (k ^^^ a) = q
          · exact ⟨k, by omega, hb, e⟩
          · rw [Nat.testBit_two_pow_of_ne e] at h
            exact absurd h (by decide)
      · rintro ⟨p, h1, h2, h3⟩
        by_cases e : p = k
        · right
          rw [← h3, e]
          exact Nat.testBit_two_pow_self
        · exact Or.inl ⟨p, by omega, h2, h3⟩
    · rw [if_neg hb, ih]
      constructor
      · rintro ⟨p, h1, h2, h3⟩
        exact ⟨p, by omega, h2, h3⟩
      · rintro ⟨p, h1, h2, h3⟩
        by_cases e : p = k
        · rw [e] at h2
          exact absurd h2 hb
        · exact ⟨p, by omega, h2, h3⟩
theorem gb_mv_bit (z : Nat) {a q : Nat} (ha : a < 16) (hq : q < 16) : (gb_mv z a).testBit q = true ↔ z.testBit (q ^^^ a) = true := by
  unfold gb_mv
  rw [gb_mvk_bit]
  constructor
  · rintro ⟨p, _, h2, h3⟩
    rw [← h3, gb_xx]
    exact h2
  · intro h
    exact ⟨q ^^^ a, gb_xr16 hq ha, h, gb_xx q a⟩
/-- naturals below 65536 by their sixteen bits -/
theorem gb_bext {x y : Nat} (hx : x < 65536) (hy : y < 65536) (h : ∀ p, p < 16 → (x.testBit p = true ↔ y.testBit p = true)) : x = y := by
  apply Nat.eq_of_testBit_eq
  intro i
  rcases Nat.lt_or_ge i 16 with z | z
  · exact Bool.eq_iff_iff.mpr (h i z)
  · rw [gb_hi (k := 16) hx z, gb_hi (k := 16) hy z]
/-! how many points -/
def gb_cn (F : Nat → Bool) : Nat → Nat
  | 0 => 0
  | n + 1 => gb_cn F n + (F n).toNat
theorem gb_cn_congr {F G : Nat → Bool} {n : Nat} (h : ∀ m, m < n → F m = G m) : gb_cn F n = gb_cn G n := by
  induction n with
  | zero => rfl
  | succ n ih =>
    show gb_cn F n + (F n).toNat = gb_cn G n + (G n).toNat
    rw [ih (fun m hm => h m (by omega)), h n (by omega)]
theorem gb_cn_le (F : Nat → Bool) (n : Nat) : gb_cn F n ≤ n := by
  induction n with
  | zero => exact Nat.le_refl 0
  | succ n ih =>
    show gb_cn F n + (F n).toNat ≤ n + 1
    have : (F n).toNat ≤ 1 := Bool.toNat_le (F n)
    omega
def gb_sm (g : Nat → Nat) : Nat := g 0 + g 1 + g 2 + g 3 + g 4 + g 5 + g 6 + g 7 + g 8 + g 9 + g 10 + g 11 + g 12 + g 13 + g 14 + g 15
theorem gb_cn_sm (F : Nat → Bool) : gb_cn F 16 = gb_sm (fun m => (F m).toNat) := by
  show 0 + (F 0).toNat + (F 1).toNat + (F 2).toNat + (F 3).toNat + (F 4).toNat + (F 5).toNat + (F 6).toNat + (F 7).toNat + (F 8).toNat + (F 9).toNat + (F 10).toNat + (F 11).toNat + (F 12).toNat + (F 13).toNat + (F 14).toNat + (F 15).toNat = (F 0).toNat + (F 1).toNat + (F 2).toNat + (F 3).toNat + (F 4).toNat + (F 5).toNat + (F 6).toNat + (F 7).toNat + (F 8).toNat + (F 9).toNat + (F 10).toNat + (F 11).toNat + (F 12).toNat + (F 13).toNat + (F 14).toNat + (F 15).toNat
  rw [Nat.zero_add]
theorem gb_sm_1 (g : Nat → Nat) : gb_sm (fun m => g (m ^^^ 1)) = gb_sm g := by
  show g 1 + g 0 + g 3 + g 2 + g 5 + g 4 + g 7 + g 6 + g 9 + g 8 + g 11 + g 10 + g 13 + g 12 + g 15 + g 14 = g 0 + g 1 + g 2 + g 3 + g 4 + g 5 + g 6 + g 7 + g 8 + g 9 + g 10 + g 11 + g 12 + g 13 + g 14 + g 15
  omega
theorem gb_sm_2 (g : Nat → Nat) : gb_sm (fun m => g (m ^^^ 2)) = gb_sm g := by
  show g 2 + g 3 + g 0 + g 1 + g 6 + g 7 + g 4 + g 5 + g 10 + g 11 + g 8 + g 9 + g 14 + g 15 + g 12 + g 13 = g 0 + g 1 + g 2 + g 3 + g 4 + g 5 + g 6 + g 7 + g 8 + g 9 + g 10 + g 11 + g 12 + g 13 + g 14 + g 15
  omega
theorem gb_sm_4 (g : Nat → Nat) : gb_sm (fun m => g (m ^^^ 4)) = gb_sm g := by
  show g 4 + g 5 + g 6 + g 7 + g 0 + g 1 + g 2 + g 3 + g 12 + g 13 + g 14 + g 15 + g 8 + g 9 + g 10 + g 11 = g 0 + g 1 + g 2 + g 3 + g 4 + g 5 + g 6 + g 7 + g 8 + g 9 + g 10 + g 11 + g 12 + g 13 + g 14 + g 15
  omega
theorem gb_sm_8 (g : Nat → Nat) : gb_sm (fun m => g (m ^^^ 8)) = gb_sm g := by
  show g 8 + g 9 + g 10 + g 11 + g 12 + g 13 + g 14 + g 15 + g 0 + g 1 + g 2 + g 3 + g 4 + g 5 + g 6 + g 7 = g 0 + g 1 + g 2 + g 3 + g 4 + g 5 + g 6 + g 7 + g 8 + g 9 + g 10 + g 11 + g 12 + g 13 + g 14 + g 15
  omega
theorem gb_tab3 : ∀ a, a < 16 → a = (a &&& 1) ^^^ (a &&& 2) ^^^ (a &&& 4) ^^^ (a &&& 8) ∧ ((a &&& 1) = 0 ∨ (a &&& 1) = 1) ∧ ((a &&& 2) = 0 ∨ (a &&& 2) = 2) ∧ ((a &&& 4) = 0 ∨ (a &&& 4) = 4) ∧ ((a &&& 8) = 0 ∨ (a &&& 8) = 8) := by decide +kernel
theorem gb_sm_0 (g : Nat → Nat) : gb_sm (fun m => g (m ^^^ 0)) = gb_sm g := by
  have e : (fun m => g (m ^^^ 0)) = g := by
    funext m
    rw [Nat.xor_zero]
  rw [e]
theorem gb_sm_x (g : Nat → Nat) {a : Nat} (ha : a < 16) : gb_sm (fun m => g (m ^^^ a)) = gb_sm g := by
  obtain ⟨e, h1, h2, h4, h8⟩ := gb_tab3 a ha
  have k1 : ∀ g : Nat → Nat, gb_sm (fun m => g (m ^^^ (a &&& 1))) = gb_sm g := fun g => by
    rcases h1 with z | z <;> rw [z]
    · exact gb_sm_0 g
    · exact gb_sm_1 g
  have k2 : ∀ g : Nat → Nat, gb_sm (fun m => g (m ^^^ (a &&& 2))) = gb_sm g := fun g => by
    rcases h2 with z | z <;> rw [z]
    · exact gb_sm_0 g
    · exact gb_sm_2 g
  have k4 : ∀ g : Nat → Nat, gb_sm (fun m => g (m ^^^ (a &&& 4))) = gb_sm g := fun g => by
    rcases h4 with z | z <;> rw [z]
    · exact gb_sm_0 g
    · exact gb_sm_4 g
  have k8 : ∀ g : Nat → Nat, gb_sm (fun m => g (m ^^^ (a &&& 8))) = gb_sm g := fun g => by
    rcases h8 with z | z <;> rw [z]
    · exact gb_sm_0 g
    · exact gb_sm_8 g
  have e2 : (fun m => g (m ^^^ a)) = (fun m => g (m ^^^ (a &&& 1) ^^^ (a &&& 2) ^^^ (a &&& 4) ^^^ (a &&& 8))) := by
    funext m
    congr 1
    rw [Nat.xor_assoc, Nat.xor_assoc, Nat.xor_assoc]
    rw [Nat.xor_assoc, Nat.xor_assoc] at e
    rw [← e]
  rw [e2]
  rw [k1 (fun m => g (m ^^^ (a &&& 2) ^^^ (a &&& 4) ^^^ (a &&& 8))), k2 (fun m => g (m ^^^ (a &&& 4) ^^^ (a &&& 8))), k4 (fun m => g (m ^^^ (a &&& 8))), k8 g]
theorem gb_cn_x (F : Nat → Bool) {a : Nat} (ha : a < 16) : gb_cn (fun m => F (m ^^^ a)) 16 = gb_cn F 16 := by
  rw [gb_cn_sm, gb_cn_sm]
  exact gb_sm_x (fun m => (F m).toNat) ha
end
section
/-! taking monomials away from the greatest down, by a family of polynomials -/
def gb_rk (bs : Nat → Nat) : Nat → Nat → Nat
  | 0, r => r
  | k + 1, r => gb_rk bs k (if r.testBit k = true then r ^^^ bs k else r)
def gb_good (bs : Nat → Nat) : Prop := ∀ m, m < 16 → bs m = 0 ∨ gb_hd (bs m) m
theorem gb_rk_xor (bs : Nat → Nat) : ∀ k a b, gb_rk bs k (a ^^^ b) = gb_rk bs k a ^^^ gb_rk bs k b := by
  intro k
  induction k with
  | zero => intro a b; rfl
  | succ k ih =>
    intro a b
    show gb_rk bs k (if (a ^^^ b).testBit k = true then (a ^^^ b) ^^^ bs k else (a ^^^ b)) = gb_rk bs k (if a.testBit k = true then a ^^^ bs k else a) ^^^ gb_rk bs k (if b.testBit k = true then b ^^^ bs k else b)
    rw [← ih]
    congr 1
    rw [Nat.testBit_xor]
    cases a.testBit k <;> cases b.testBit k
    · rfl
    · show a ^^^ b ^^^ bs k = a ^^^ (b ^^^ bs k)
      exact Nat.xor_assoc a b (bs k)
    · show a ^^^ b ^^^ bs k = a ^^^ bs k ^^^ b
      rw [Nat.xor_assoc, Nat.xor_comm b, Nat.xor_assoc]
    · show a ^^^ b = a ^^^ bs k ^^^ (b ^^^ bs k)
      rw [Nat.xor_comm b, Nat.xor_assoc, ← Nat.xor_assoc (bs k), Nat.xor_self, Nat.zero_xor]
theorem gb_rk_0 (bs : Nat → Nat) : ∀ k, gb_rk bs k 0 = 0 := by
  intro k
  induction k with
  | zero => rfl
  | succ k ih =>
    show gb_rk bs k (if (0 : Nat).testBit k = true then 0 ^^^ bs k else 0) = 0
    rw [Nat.zero_testBit, if_neg (by decide)]
    exact ih
theorem gb_rk_cl {bs : Nat → Nat} {Q : Nat → Prop} (h0 : Q 0) (hx : ∀ a b, Q a → Q b → Q (a ^^^ b)) : ∀ k a, (∀ m, m < k → Q (bs m)) → Q (a ^^^ gb_rk bs k a) := by
  intro k
  induction k with
  | zero => intro a _; show Q (a ^^^ a); rw [Nat.xor_self]; exact h0
  | succ k ih =>
    intro a h
    show Q (a ^^^ gb_rk bs k (if a.testBit k = true then a ^^^ bs k else a))
    by_cases hb : a.testBit k = true
    · rw [if_pos hb]
      have h1 := ih (a ^^^ bs k) (fun m hm => h m (by omega))
      have h2 := hx _ _ (h k (by omega)) h1
      rw [← Nat.xor_assoc, Nat.xor_comm a, ← Nat.xor_assoc, Nat.xor_self, Nat.zero_xor] at h2
      rw [Nat.xor_comm (bs k)] at h2
      exact h2
    · rw [if_neg hb]
      exact ih a (fun m hm => h m (by omega))
theorem gb_rk_cut {bs : Nat → Nat} {a k : Nat} (h : a < 2 ^ k) : ∀ K, k ≤ K → gb_rk bs K a = gb_rk bs k a := by
  intro K
  induction K with
  | zero => intro hk; rw [show k = 0 by omega]
  | succ K ih =>
    intro hk
    by_cases e : k = K + 1
    · rw [e]
    · show gb_rk bs K (if a.testBit K = true then a ^^^ bs K else a) = _
      rw [gb_hi h (show k ≤ K by omega), if_neg (by decide)]
      exact ih (by omega)
theorem gb_rk_keep {bs : Nat → Nat} (hg : gb_good bs) : ∀ k a m, k ≤ 16 → k ≤ m → (gb_rk bs k a).testBit m = a.testBit m := by
  intro k
  induction k with
  | zero => intro a m _ _; rfl
  | succ k ih =>
    intro a m hk hm
    show (gb_rk bs k (if a.testBit k = true then a ^^^ bs k else a)).testBit m = _
    rw [ih _ m (by omega) (by omega)]
    by_cases hb : a.testBit k = true
    · rw [if_pos hb, Nat.testBit_xor]
      rcases hg k (by omega) with z | z
      · rw [z, Nat.zero_testBit, Bool.xor_false]
      · rw [gb_hi z.2 hm, Bool.xor_false]
    · rw [if_neg hb]
theorem gb_rk_no {bs : Nat → Nat} (hg : gb_good bs) : ∀ k a m, k ≤ 16 → m < k → bs m ≠ 0 → (gb_rk bs k a).testBit m = false := by
  intro k
  induction k with
  | zero => intro a m _ h; exact absurd h (by omega)
  | succ k ih =>
    intro a m hk hm h0
    show (gb_rk bs k (if a.testBit k = true then a ^^^ bs k else a)).testBit m = false
    by_cases e : m = k
    · subst e
      rw [gb_rk_keep hg m _ m (by omega) (Nat.le_refl m)]
      by_cases hb : a.testBit m = true
      · rw [if_pos hb, Nat.testBit_xor, hb]
        rcases hg m (by omega) with z | z
        · exact absurd z h0
        · rw [gb_hd_bit z]; rfl
      · rw [if_neg hb]
        exact eq_false_of_ne_true hb
    · exact ih _ m (by omega) (by omega) h0
theorem gb_rk_lt {bs : Nat → Nat} (hg : gb_good bs) {a n : Nat} {k : Nat} (hk : k ≤ 16) (hn : k ≤ n) (ha : a < 2 ^ n) : gb_rk bs k a < 2 ^ n := by
  apply gb_ltb
  intro j hj
  rcases Nat.lt_or_ge j n with z | z
  · exact z
  · rw [gb_rk_keep hg k a j hk (by omega)] at hj
    exact gb_blt ha hj
theorem gb_rk_lt16 {bs : Nat → Nat} (hg : gb_good bs) {a : Nat} (ha : a < 65536) : gb_rk bs 16 a < 65536 := gb_rk_lt (n := 16) hg (by omega) (by omega) ha
/-- what is taken away whole -/
def gb_B (bs : Nat → Nat) (f : Nat) : Prop := gb_rk bs 16 f = 0
theorem gb_B_0 (bs : Nat → Nat) : gb_B bs 0 := gb_rk_0 bs 16
theorem gb_B_xor {bs : Nat → Nat} (a b : Nat) (ha : gb_B bs a) (hb : gb_B bs b) : gb_B bs (a ^^^ b) := by
  unfold gb_B at *
  rw [gb_rk_xor, ha, hb, Nat.xor_self]
theorem gb_B_bs {bs : Nat → Nat} (hg : gb_good bs) {m : Nat} (hm : m < 16) : gb_B bs (bs m) := by
  rcases hg m hm with z | z
  · rw [z]; exact gb_B_0 bs
  · unfold gb_B
    rw [gb_rk_cut z.2 16 (by omega)]
    show gb_rk bs m (if (bs m).testBit m = true then bs m ^^^ bs m else bs m) = 0
    rw [if_pos (gb_hd_bit z), Nat.xor_self]
    exact gb_rk_0 bs m
theorem gb_B_hd {bs : Nat → Nat} (hg : gb_good bs) {f h : Nat} (hB : gb_B bs f) (hh : h < 16) (hf : gb_hd f h) : bs h ≠ 0 := by
  intro e
  unfold gb_B at hB
  rw [gb_rk_cut hf.2 16 (by omega)] at hB
  have h1 : gb_rk bs (h + 1) f = gb_rk bs h f := by
    show gb_rk bs h (if f.testBit h = true then f ^^^ bs h else f) = _
    rw [e, Nat.xor_zero, ite_self]
  have h2 := gb_rk_keep hg h f h (by omega) (Nat.le_refl h)
  rw [← h1, hB, Nat.zero_testBit, gb_hd_bit hf] at h2
  exact absurd h2 (by decide)
theorem gb_B_ind {bs : Nat → Nat} {Q : Nat → Prop} (h0 : Q 0) (hx : ∀ a b, Q a → Q b → Q (a ^^^ b)) {f : Nat} (hf : f < 65536) (hB : gb_B bs f) (D : Nat → Prop) (hD : ∀ m m', m' ≤ m → m < 16 → D m → D m') (hb : ∀ j, f.testBit j = true → D j) (hq : ∀ m, m < 16 → D m → Q (bs m)) : Q f := by
  by_cases e : f = 0
  · rw [e]; exact h0
  · obtain ⟨h, hh, hd⟩ := gb_hd_ex hf e
    have h1 := gb_rk_cl (bs := bs) h0 hx (h + 1) f (fun m hm => hq m (by omega) (hD h m (by omega) hh (hb h (gb_hd_bit hd))))
    rw [← gb_rk_cut hd.2 16 (by omega), show gb_rk bs 16 f = 0 from hB, Nat.xor_zero] at h1
    exact h1
theorem gb_B_all {bs : Nat → Nat} {Q : Nat → Prop} (h0 : Q 0) (hx : ∀ a b, Q a → Q b → Q (a ^^^ b)) {f : Nat} (hf : f < 65536) (hB : gb_B bs f) (hq : ∀ m, m < 16 → Q (bs m)) : Q f :=
  gb_B_ind h0 hx hf hB (fun _ => True) (fun _ _ _ _ _ => trivial) (fun _ _ => trivial) (fun m hm _ => hq m hm)
theorem gb_B_rest {bs : Nat → Nat} (hg : gb_good bs) (f : Nat) : gb_B bs (f ^^^ gb_rk bs 16 f) :=
  gb_rk_cl (gb_B_0 bs) gb_B_xor 16 f (fun m hm => gb_B_bs hg hm)
/-! the family of a list of polynomials with their heads: for every monomial the first whose head divides it -/
def gb_dv (H : Nat → Nat) (m : Nat) : Nat → Nat
  | 0 => 0
  | n + 1 => if gb_dv H m n < n then gb_dv H m n else if gb_sub (H n) m = true then n else n + 1
theorem gb_dv_le (H : Nat → Nat) (m : Nat) : ∀ n, gb_dv H m n ≤ n := by
  intro n
  induction n with
  | zero => exact Nat.le_refl 0
  | succ n ih =>
    unfold gb_dv
    split
    · omega
    · split
      · omega
      · omega
theorem gb_dv_sub (H : Nat → Nat) (m : Nat) : ∀ n, gb_dv H m n < n → gb_sub (H (gb_dv H m n)) m = true := by
  intro n
  induction n with
  | zero => intro h; exact absurd h (by omega)
  | succ n ih =>
    unfold gb_dv
    by_cases h1 : gb_dv H m n < n
    · rw [if_pos h1]
      intro _
      exact ih h1
    · rw [if_neg h1]
      by_cases h2 : gb_sub (H n) m = true
      · rw [if_pos h2]
        intro _
        exact h2
      · rw [if_neg h2]
        intro h
        exact absurd h (by omega)
theorem gb_dv_min (H : Nat → Nat) (m : Nat) : ∀ n i, i < gb_dv H m n → gb_sub (H i) m = false := by
  intro n
  induction n with
  | zero => intro i h; exact absurd h (Nat.not_lt_zero i)
  | succ n ih =>
    intro i
    have hle := gb_dv_le H m n
    unfold gb_dv
    by_cases h1 : gb_dv H m n < n
    · rw [if_pos h1]
      exact ih i
    · rw [if_neg h1]
      by_cases h2 : gb_sub (H n) m = true
      · rw [if_pos h2]
        intro h
        exact ih i (by omega)
      · rw [if_neg h2]
        intro h
        by_cases e : i = n
        · rw [e]; exact eq_false_of_ne_true h2
        · exact ih i (by omega)
theorem gb_dv_of {H : Nat → Nat} {m n i : Nat} (hs : gb_sub (H i) m = true) : gb_dv H m n ≤ i := by
  rcases Nat.lt_or_ge i (gb_dv H m n) with z | z
  · rw [gb_dv_min H m n i z] at hs
    exact absurd hs (by decide)
  · exact z
theorem gb_dv_uq {H : Nat → Nat} {m n j : Nat} (hj : j ≤ n) (hs : j < n → gb_sub (H j) m = true) (hm : ∀ i, i < j → gb_sub (H i) m = false) : gb_dv H m n = j := by
  have h1 := gb_dv_le H m n
  rcases Nat.lt_trichotomy (gb_dv H m n) j with z | z | z
  · have h2 := gb_dv_sub H m n (by omega)
    rw [hm _ z] at h2
    exact absurd h2 (by decide)
  · exact z
  · have h2 := gb_dv_min H m n j z
    rw [hs (by omega)] at h2
    exact absurd h2 (by decide)
def gb_bs (P H : Nat → Nat) (n m : Nat) : Nat := if gb_dv H m n < n then gb_tm (P (gb_dv H m n)) (gb_df m (H (gb_dv H m n))) else 0
def gb_Inv (P H : Nat → Nat) (n : Nat) : Prop := ∀ i, i < n → H i < 16 ∧ gb_hd (P i) (H i) ∧ ∀ j, j < i → gb_sub (H j) (H i) = false
theorem gb_tab4 : ∀ h, h < 16 → ∀ m, m < 16 → gb_sub h m = true → gb_df m h &&& h = 0 ∧ h ||| gb_df m h = m := by decide +kernel
theorem gb_bs_hd {P H : Nat → Nat} {n m : Nat} (hI : gb_Inv P H n) (hm : m < 16) (hd : gb_dv H m n < n) : gb_hd (gb_bs P H n m) m := by
  unfold gb_bs
  rw [if_pos hd]
  obtain ⟨h1, h2, _⟩ := hI _ hd
  obtain ⟨t1, t2⟩ := gb_tab4 _ h1 m hm (gb_dv_sub H m n hd)
  have := gb_tm_hd h2 h1 (gb_df16 (H (gb_dv H m n)) hm) t1
  rw [t2] at this
  exact this
theorem gb_bs_good {P H : Nat → Nat} {n : Nat} (hI : gb_Inv P H n) : gb_good (gb_bs P H n) := by
  intro m hm
  by_cases hd : gb_dv H m n < n
  · exact Or.inr (gb_bs_hd hI hm hd)
  · left
    unfold gb_bs
    rw [if_neg hd]
theorem gb_bs_iff {P H : Nat → Nat} {n m : Nat} (hI : gb_Inv P H n) (hm : m < 16) : gb_bs P H n m ≠ 0 ↔ gb_dv H m n < n := by
  constructor
  · intro h
    by_cases hd : gb_dv H m n < n
    · exact hd
    · unfold gb_bs at h
      rw [if_neg hd] at h
      exact absurd rfl h
  · intro h
    exact gb_hd_ne0 (gb_bs_hd hI hm h)
/-- an invariant of the family's members -/
theorem gb_bs_Q {P H : Nat → Nat} {n m : Nat} {Q : Nat → Prop} (h0 : Q 0) (h : ∀ i, i < n → gb_sub (H i) m = true → Q (gb_tm (P i) (gb_df m (H i)))) : Q (gb_bs P H n m) := by
  unfold gb_bs
  by_cases hd : gb_dv H m n < n
  · rw [if_pos hd]
    exact h _ hd (gb_dv_sub H m n hd)
  · rw [if_neg hd]
    exact h0
def gb_Ext (P H : Nat → Nat) (n : Nat) (P' H' : Nat → Nat) (n' : Nat) : Prop := n ≤ n' ∧ ∀ i, i < n → P' i = P i ∧ H' i = H i
theorem gb_Ext_refl (P H : Nat → Nat) (n : Nat) : gb_Ext P H n P H n := ⟨Nat.le_refl n, fun _ _ => ⟨rfl, rfl⟩⟩
theorem gb_Ext_trans {P H P' H' P2 H2 : Nat → Nat} {n n' n2 : Nat} (h : gb_Ext P H n P' H' n') (h' : gb_Ext P' H' n' P2 H2 n2) : gb_Ext P H n P2 H2 n2 := by
  refine ⟨Nat.le_trans h.1 h'.1, fun i hi => ?_⟩
  have h1 := h.1
  obtain ⟨a, b⟩ := h.2 i hi
  obtain ⟨c, d⟩ := h'.2 i (by omega)
  exact ⟨c.trans a, d.trans b⟩
theorem gb_Ext_bs {P H P' H' : Nat → Nat} {n n' m : Nat} (h : gb_Ext P H n P' H' n') (hd : gb_dv H m n < n) : gb_bs P' H' n' m = gb_bs P H n m := by
  have h1 := h.1
  have e : gb_dv H' m n' = gb_dv H m n := by
    apply gb_dv_uq (by omega)
    · intro _
      rw [(h.2 _ hd).2]
      exact gb_dv_sub H m n hd
    · intro i hi
      rw [(h.2 i (by omega)).2]
      exact gb_dv_min H m n i hi
  unfold gb_bs
  rw [e, if_pos hd, if_pos (by omega), (h.2 _ hd).1, (h.2 _ hd).2]
theorem gb_Ext_B {P H P' H' : Nat → Nat} {n n' f : Nat} (hI' : gb_Inv P' H' n') (h : gb_Ext P H n P' H' n') (hf : f < 65536) (hB : gb_B (gb_bs P H n) f) : gb_B (gb_bs P' H' n') f := by
  refine gb_B_all (Q := gb_B (gb_bs P' H' n')) (gb_B_0 _) gb_B_xor hf hB (fun m hm => ?_)
  by_cases hd : gb_dv H m n < n
  · rw [← gb_Ext_bs h hd]
    exact gb_B_bs (gb_bs_good hI') hm
  · rw [show gb_bs P H n m = 0 by unfold gb_bs; rw [if_neg hd]]
    exact gb_B_0 _
def gb_up (P : Nat → Nat) (n r : Nat) : Nat → Nat := fun j => if j = n then r else P j
theorem gb_up_s (P : Nat → Nat) (n r : Nat) : gb_up P n r n = r := if_pos rfl
theorem gb_up_n {P : Nat → Nat} {n r j : Nat} (h : j ≠ n) : gb_up P n r j = P j := if_neg h
def gb_Va (P : Nat → Nat) (n p : Nat) : Prop := ∀ i, i < n → gb_ev (P i) p = false
theorem gb_ev_x0 {p : Nat} (a b : Nat) (ha : gb_ev a p = false) (hb : gb_ev b p = false) : gb_ev (a ^^^ b) p = false := by
  rw [gb_ev_xor, ha, hb]; rfl
theorem gb_Va_bs {P H : Nat → Nat} {n p m : Nat} (hV : gb_Va P n p) (hm : m < 16) : gb_ev (gb_bs P H n m) p = false :=
  gb_bs_Q (Q := fun x => gb_ev x p = false) (gb_ev_0 p) (fun i hi _ => by rw [gb_ev_tm _ (gb_df16 (H i) hm), hV i hi, Bool.and_false])
theorem gb_Va_rk {P H : Nat → Nat} {n p f : Nat} (hV : gb_Va P n p) : gb_ev (gb_rk (gb_bs P H n) 16 f) p = gb_ev f p := by
  have := gb_rk_cl (bs := gb_bs P H n) (Q := fun x => gb_ev x p = false) (gb_ev_0 p) gb_ev_x0 16 f (fun m hm => gb_Va_bs hV hm)
  rw [gb_ev_xor] at this
  revert this
  cases gb_ev f p <;> cases gb_ev (gb_rk (gb_bs P H n) 16 f) p <;> decide
theorem gb_Va_B {P H : Nat → Nat} {n p f : Nat} (hV : gb_Va P n p) (hB : gb_B (gb_bs P H n) f) : gb_ev f p = false := by
  rw [← gb_Va_rk (H := H) hV, show gb_rk (gb_bs P H n) 16 f = 0 from hB]
  exact gb_ev_0 p
/-- a rest is taken in -/
theorem gb_take {P H : Nat → Nat} {n f r h : Nat} (hI : gb_Inv P H n) (hf : f < 65536) (hr : r = gb_rk (gb_bs P H n) 16 f) (hh : h < 16) (hd : gb_hd r h) :
    gb_Inv (gb_up P n r) (gb_up H n h) (n + 1) ∧ gb_Ext P H n (gb_up P n r) (gb_up H n h) (n + 1) ∧ gb_B (gb_bs (gb_up P n r) (gb_up H n h) (n + 1)) f ∧ ∀ p, gb_Va P n p → gb_ev f p = false → gb_Va (gb_up P n r) (n + 1) p := by
  have hg := gb_bs_good hI
  have hn : ∀ j, j < n → gb_sub (H j) h = false := by
    intro j hj
    cases hs : gb_sub (H j) h
    · rfl
    · have h1 : gb_dv H h n < n := by
        have := gb_dv_of (n := n) hs
        omega
      have h2 := gb_rk_no hg 16 f h (by omega) hh ((gb_bs_iff hI hh).mpr h1)
      rw [← hr, gb_hd_bit hd] at h2
      exact absurd h2 (by decide)
  have hI' : gb_Inv (gb_up P n r) (gb_up H n h) (n + 1) := by
    intro i hi
    by_cases e : i = n
    · subst e
      rw [gb_up_s, gb_up_s]
      refine ⟨hh, hd, fun j hj => ?_⟩
      rw [gb_up_n (by omega)]
      exact hn j hj
    · rw [gb_up_n e, gb_up_n e]
      obtain ⟨h1, h2, h3⟩ := hI i (by omega)
      refine ⟨h1, h2, fun j hj => ?_⟩
      rw [gb_up_n (by omega)]
      exact h3 j hj
  have hE : gb_Ext P H n (gb_up P n r) (gb_up H n h) (n + 1) := ⟨by omega, fun i hi => ⟨gb_up_n (by omega), gb_up_n (by omega)⟩⟩
  have hr16 : r < 65536 := gb_hd_lt hd hh
  refine ⟨hI', hE, ?_, ?_⟩
  · have h1 : gb_B (gb_bs (gb_up P n r) (gb_up H n h) (n + 1)) (f ^^^ r) := by
      refine gb_Ext_B hI' hE (gb_xor_lt hf hr16) ?_
      rw [hr]
      exact gb_B_rest hg f
    have h2 : gb_B (gb_bs (gb_up P n r) (gb_up H n h) (n + 1)) r := by
      have e : gb_dv (gb_up H n h) h (n + 1) = n := by
        apply gb_dv_uq (by omega)
        · intro _
          rw [gb_up_s]
          exact gb_sub_self h
        · intro i hi
          rw [gb_up_n (by omega)]
          exact hn i hi
      have e2 : gb_bs (gb_up P n r) (gb_up H n h) (n + 1) h = r := by
        unfold gb_bs
        rw [e, if_pos (by omega), gb_up_s, gb_up_s]
        have : gb_df h h = 0 := by unfold gb_df; rw [Nat.and_self, Nat.xor_self]
        rw [this]
        exact gb_tm_one hr16
      have := gb_B_bs (gb_bs_good hI') hh
      rw [e2] at this
      exact this
    have h3 := gb_B_xor _ _ h1 h2
    rw [gb_xx] at h3
    exact h3
  · intro p hV he i hi
    by_cases e : i = n
    · rw [e, gb_up_s, hr, gb_Va_rk hV]
      exact he
    · rw [gb_up_n e]
      exact hV i (by omega)
/-! at most sixteen are ever taken in -/
theorem gb_pig : ∀ N n (H : Nat → Nat), (∀ i, i < n → H i < N) → (∀ i j, i < n → j < i → H j ≠ H i) → n ≤ N := by
  intro N
  induction N with
  | zero =>
    intro n H h _
    rcases Nat.eq_zero_or_pos n with z | z
    · omega
    · exact absurd (h 0 z) (by omega)
  | succ N ih =>
    intro n H h hi
    rcases Nat.eq_zero_or_pos n with z | z
    · omega
    · by_cases hx : ∃ k, k < n ∧ H k = N
      · obtain ⟨k, hk, hkN⟩ := hx
        have hu : ∀ i, i < n → i ≠ k → H i < N := by
          intro i hin hne
          have h1 := h i hin
          have h2 : H i ≠ N := by
            intro e
            rcases Nat.lt_or_gt_of_ne hne with w | w
            · exact hi k i hk w (e.trans hkN.symm)
            · exact hi i k hin w (hkN.trans e.symm)
          omega
        have := ih (n - 1) (fun i => if i < k then H i else H (i + 1)) (fun i hin => by
          show (if i < k then H i else H (i + 1)) < N
          by_cases w : i < k
          · rw [if_pos w]; exact hu i (by omega) (by omega)
          · rw [if_neg w]; exact hu (i + 1) (by omega) (by omega)) (fun i j hin hji => by
          show (if j < k then H j else H (j + 1)) ≠ (if i < k then H i else H (i + 1))
          by_cases w : i < k
          · rw [if_pos w, if_pos (by omega)]; exact hi i j (by omega) hji
          · rw [if_neg w]
            by_cases w2 : j < k
            · rw [if_pos w2]; exact hi (i + 1) j (by omega) (by omega)
            · rw [if_neg w2]; exact hi (i + 1) (j + 1) (by omega) (by omega))
        omega
      · have := ih n H (fun i hin => by
          have h1 := h i hin
          have h2 : H i ≠ N := fun e => hx ⟨i, hin, e⟩
          omega) hi
        omega
theorem gb_Inv_le {P H : Nat → Nat} {n : Nat} (hI : gb_Inv P H n) : n ≤ 16 :=
  gb_pig 16 n H (fun i hi => (hI i hi).1) (fun i j hi hj e => by
    have h1 := (hI i hi).2.2 j hj
    rw [e, gb_sub_self] at h1
    exact absurd h1 (by decide))
end
section
/-! the completed list: what is taken away whole is an ideal -/
def gb_sp (m : Nat) : Nat := (m &&& 1) + 2 * (m &&& 2) + 4 * (m &&& 4) + 8 * (m &&& 8)
theorem gb_tab5 : ∀ a, a < 16 → ∀ b, b < 16 → gb_sp (a ||| b) ≤ gb_sp a + gb_sp b ∧ (a &&& b = 0 → gb_sp (a ||| b) = gb_sp a + gb_sp b) ∧ (a < b → gb_sp a < gb_sp b) := by decide +kernel
theorem gb_tab6 : ∀ w, w < 16 → ∀ v, v < 4 → w.testBit v = true → (w ^^^ 2 ^ v) < 16 ∧ 2 ^ v ||| (w ^^^ 2 ^ v) = w ∧ gb_sp (w ^^^ 2 ^ v) + gb_sp (2 ^ v) = gb_sp w ∧ w ||| 2 ^ v = w ∧ 0 < gb_sp (2 ^ v) ∧ 2 ^ v < 16 := by decide +kernel
theorem gb_tab7 : ∀ w, w < 16 → ∀ h, h < 16 → w &&& h = 0 ∨ ∃ v, v < 4 ∧ w.testBit v = true ∧ h.testBit v = true := by decide +kernel
theorem gb_tab8a : ∀ a, a < 16 → ∀ b, b < 16 → ∀ w, w < 16 → (w &&& a = 0 ∧ gb_sub b (w ||| a) = true) → gb_df (a ||| b) a ||| gb_df (w ||| a) (a ||| b) = w := by decide +kernel
theorem gb_tab8b : ∀ a, a < 16 → ∀ b, b < 16 → ∀ w, w < 16 → (w &&& a = 0 ∧ gb_sub b (w ||| a) = true) → gb_df (a ||| b) b ||| gb_df (w ||| a) (a ||| b) = gb_df (w ||| a) b := by decide +kernel
theorem gb_tab8c : ∀ a, a < 16 → ∀ b, b < 16 → ∀ w, w < 16 → (w &&& a = 0 ∧ gb_sub b (w ||| a) = true) → gb_sp (a ||| b) + gb_sp (gb_df (w ||| a) (a ||| b)) = gb_sp w + gb_sp a := by decide +kernel
theorem gb_tab8 {a b w : Nat} (ha : a < 16) (hb : b < 16) (hw : w < 16) (h1 : w &&& a = 0) (h2 : gb_sub b (w ||| a) = true) :
    gb_df (a ||| b) a ||| gb_df (w ||| a) (a ||| b) = w ∧ gb_df (a ||| b) b ||| gb_df (w ||| a) (a ||| b) = gb_df (w ||| a) b ∧ gb_sp (a ||| b) + gb_sp (gb_df (w ||| a) (a ||| b)) = gb_sp w + gb_sp a :=
  ⟨gb_tab8a a ha b hb w hw ⟨h1, h2⟩, gb_tab8b a ha b hb w hw ⟨h1, h2⟩, gb_tab8c a ha b hb w hw ⟨h1, h2⟩⟩
theorem gb_tab9 : ∀ a, a < 16 → ∀ b, b < 16 → gb_sub a (a ||| b) = true ∧ gb_sub b (a ||| b) = true ∧ gb_sub a (b ||| a) = true ∧ (b &&& a = 0 → gb_df (b ||| a) a = b) := by decide +kernel
theorem gb_tab10 : ∀ h, h < 16 → ∀ m, m < 16 → gb_sub h m = true → gb_sp (gb_df m h) + gb_sp h = gb_sp m := by decide +kernel
theorem gb_sp_le {a b : Nat} (ha : a < 16) (hb : b < 16) (h : a ≤ b) : gb_sp a ≤ gb_sp b := by
  rcases Nat.lt_or_eq_of_le h with z | z
  · have := (gb_tab5 a ha b hb).2.2 z
    omega
  · rw [z]; exact Nat.le_refl _
theorem gb_hd_xor {a b h : Nat} (ha : gb_hd a h) (hb : gb_hd b h) : a ^^^ b < 2 ^ h := by
  have h1 := gb_hd_down ha
  have h2 := gb_hd_down hb
  have e : a ^^^ b = (a ^^^ 2 ^ h) ^^^ (b ^^^ 2 ^ h) := by
    rw [Nat.xor_comm b, Nat.xor_assoc a, ← Nat.xor_assoc (2 ^ h), Nat.xor_self, Nat.zero_xor]
  rw [e]
  exact Nat.xor_lt_two_pow h1 h2
def gb_Done (P H : Nat → Nat) (n : Nat) : Prop :=
  gb_Inv P H n ∧ (∀ i, i < n → ∀ v, v < 4 → (H i).testBit v = true → gb_B (gb_bs P H n) (gb_tm (P i) (2 ^ v) ^^^ P i)) ∧
  (∀ i, i < n → ∀ j, j < i → gb_B (gb_bs P H n) (gb_tm (P i) (gb_df (H i ||| H j) (H i)) ^^^ gb_tm (P j) (gb_df (H i ||| H j) (H j))))
theorem gb_buch {P H : Nat → Nat} {n : Nat} (hD : gb_Done P H n) : ∀ k w i, w < 16 → i < n → gb_sp w + gb_sp (H i) = k → gb_B (gb_bs P H n) (gb_tm (P i) w) := by
  obtain ⟨hI, hS, hP⟩ := hD
  intro k
  induction k using Nat.strongRecOn with
  | ind k ih =>
    intro w i hw hi hk
    obtain ⟨hh, hhd, hnd⟩ := hI i hi
    have hP16 : P i < 65536 := gb_hd_lt hhd hh
    -- a multiple of what is taken away whole, one level down
    have down : ∀ S u c, S < 65536 → u < 16 → gb_B (gb_bs P H n) S → (∀ j, S.testBit j = true → gb_sp j < c) → c + gb_sp u ≤ k → gb_B (gb_bs P H n) (gb_tm S u) := by
      intro S u c hS16 hu hB hbit hc
      refine gb_B_ind (Q := fun x => gb_B (gb_bs P H n) (gb_tm x u)) (by show gb_B _ (gb_tm 0 u); rw [gb_tm_0 hu]; exact gb_B_0 _) (fun a b ha hb => by show gb_B _ (gb_tm (a ^^^ b) u); rw [gb_tm_xor _ _ hu]; exact gb_B_xor _ _ ha hb) hS16 hB (fun m => gb_sp m < c) (fun m m' h1 h2 h3 => Nat.lt_of_le_of_lt (gb_sp_le (by omega) h2 h1) h3) hbit (fun m hm hlt => ?_)
      refine gb_bs_Q (Q := fun x => gb_B (gb_bs P H n) (gb_tm x u)) (by show gb_B _ (gb_tm 0 u); rw [gb_tm_0 hu]; exact gb_B_0 _) (fun j hj hs => ?_)
      show gb_B _ (gb_tm (gb_tm (P j) (gb_df m (H j))) u)
      have hdf := gb_df16 (H j) hm
      rw [gb_tm_tm _ hdf hu]
      have h1 := (gb_tab5 _ hdf u hu).1
      have h2 := gb_tab10 _ (hI j hj).1 m hm hs
      exact ih _ (by omega) _ j (gb_or16 hdf hu) hj rfl
    rcases gb_tab7 w hw (H i) hh with hdis | ⟨v, hv, hwv, hhv⟩
    · -- disjoint
      have hm16 : w ||| H i < 16 := gb_or16 hw hh
      have hsub : gb_sub (H i) (w ||| H i) = true := (gb_tab9 (H i) hh w hw).2.2.1
      have hle := gb_dv_of (n := n) hsub
      have hdn : gb_dv H (w ||| H i) n < n := by omega
      have hBm : gb_B (gb_bs P H n) (gb_bs P H n (w ||| H i)) := gb_B_bs (gb_bs_good hI) hm16
      by_cases e : gb_dv H (w ||| H i) n = i
      · unfold gb_bs at hBm
        rw [if_pos hdn, e, (gb_tab9 (H i) hh w hw).2.2.2 hdis] at hBm
        exact hBm
      · have hji : gb_dv H (w ||| H i) n < i := by omega
        have hsj := gb_dv_sub H (w ||| H i) n hdn
        have ebs : gb_bs P H n (w ||| H i) = gb_tm (P (gb_dv H (w ||| H i) n)) (gb_df (w ||| H i) (H (gb_dv H (w ||| H i) n))) := by
          unfold gb_bs
          rw [if_pos hdn]
        rw [ebs] at hBm
        generalize gb_dv H (w ||| H i) n = j at *
        obtain ⟨hj16, hjhd, _⟩ := hI j hdn
        obtain ⟨t1, t2, t3⟩ := gb_tab8 hh hj16 hw hdis hsj
        have hall : H i ||| H j < 16 := gb_or16 hh hj16
        have d1 := gb_df16 (H i) hall
        have d2 := gb_df16 (H j) hall
        have hu := gb_df16 (H i ||| H j) hm16
        obtain ⟨s1, s2, _, _⟩ := gb_tab9 (H i) hh (H j) hj16
        have a1 := gb_tab4 _ hh _ hall s1
        have a2 := gb_tab4 _ hj16 _ hall s2
        have g1 := gb_tm_hd hhd hh d1 a1.1
        have g2 := gb_tm_hd hjhd hj16 d2 a2.1
        rw [a1.2] at g1
        rw [a2.2] at g2
        have hlt := gb_hd_xor g1 g2
        have hS := hP i hi j hji
        have h1 := down _ (gb_df (w ||| H i) (H i ||| H j)) (gb_sp (H i ||| H j)) (gb_xor_lt (gb_tm_lt16 _ d1) (gb_tm_lt16 _ d2)) hu hS (fun b hb => (gb_tab5 b (by have := gb_blt hlt hb; omega) _ hall).2.2 (gb_blt hlt hb)) (by omega)
        rw [gb_tm_xor _ _ hu, gb_tm_tm _ d1 hu, gb_tm_tm _ d2 hu, t1, t2] at h1
        have h2 := gb_B_xor _ _ h1 hBm
        rw [gb_xx] at h2
        exact h2
    · -- a variable of the head
      obtain ⟨w1, w2, w3, _, w5, w6⟩ := gb_tab6 w hw v hv hwv
      obtain ⟨_, _, _, h4, _, _⟩ := gb_tab6 (H i) hh v hv hhv
      have hB1 : gb_B (gb_bs P H n) (gb_tm (P i) (w ^^^ 2 ^ v)) := ih _ (by omega) _ i w1 hi rfl
      have hSq := hS i hi v hv hhv
      have hdn := gb_hd_down hhd
      have eS : gb_tm (P i) (2 ^ v) ^^^ P i = gb_tm (P i ^^^ 2 ^ H i) (2 ^ v) ^^^ (P i ^^^ 2 ^ H i) := by
        rw [gb_tm_xor _ _ w6, gb_tm_pow hh w6, h4, Nat.xor_comm (P i) (2 ^ H i), Nat.xor_assoc (gb_tm (P i) (2 ^ v)), ← Nat.xor_assoc (2 ^ H i) (2 ^ H i), Nat.xor_self, Nat.zero_xor]
      have hbit : ∀ j, (gb_tm (P i) (2 ^ v) ^^^ P i).testBit j = true → gb_sp j < gb_sp (H i) + gb_sp (2 ^ v) := by
        intro j hj
        rw [eS, Nat.testBit_xor] at hj
        by_cases hb : (P i ^^^ 2 ^ H i).testBit j = true
        · have hlt := gb_blt hdn hb
          have := (gb_tab5 j (by omega) (H i) hh).2.2 hlt
          omega
        · rw [eq_false_of_ne_true hb, Bool.xor_false] at hj
          obtain ⟨m, hm, hmb, rfl⟩ := gb_tm_bit hj
          have hlt := gb_blt hdn hmb
          have h5 := (gb_tab5 m (by omega) (H i) hh).2.2 hlt
          have h6 := (gb_tab5 m (by omega) (2 ^ v) w6).1
          omega
      have h1 := down _ (w ^^^ 2 ^ v) (gb_sp (H i) + gb_sp (2 ^ v)) (gb_xor_lt (gb_tm_lt16 _ w6) hP16) w1 hSq hbit (by omega)
      rw [gb_tm_xor _ _ w1, gb_tm_tm _ w6 w1, w2] at h1
      have h2 := gb_B_xor _ _ h1 hB1
      rw [gb_xx] at h2
      exact h2
theorem gb_ideal {P H : Nat → Nat} {n f t : Nat} (hD : gb_Done P H n) (hf : f < 65536) (ht : t < 16) (hB : gb_B (gb_bs P H n) f) : gb_B (gb_bs P H n) (gb_tm f t) := by
  refine gb_B_all (Q := fun x => gb_B (gb_bs P H n) (gb_tm x t)) (by show gb_B _ (gb_tm 0 t); rw [gb_tm_0 ht]; exact gb_B_0 _) (fun a b ha hb => by show gb_B _ (gb_tm (a ^^^ b) t); rw [gb_tm_xor _ _ ht]; exact gb_B_xor _ _ ha hb) hf hB (fun m hm => ?_)
  refine gb_bs_Q (Q := fun x => gb_B (gb_bs P H n) (gb_tm x t)) (by show gb_B _ (gb_tm 0 t); rw [gb_tm_0 ht]; exact gb_B_0 _) (fun i hi _ => ?_)
  show gb_B _ (gb_tm (gb_tm (P i) (gb_df m (H i))) t)
  have hdf := gb_df16 (H i) hm
  rw [gb_tm_tm _ hdf ht]
  exact gb_buch hD _ _ i (gb_or16 hdf ht) hi rfl
theorem gb_idealp {P H : Nat → Nat} {n f : Nat} (hD : gb_Done P H n) (hf : f < 65536) (hB : gb_B (gb_bs P H n) f) (g : Nat) : gb_B (gb_bs P H n) (gb_pr f g) := by
  have : ∀ k, k ≤ 16 → gb_B (gb_bs P H n) (gb_prk f g k) := by
    intro k
    induction k with
    | zero => intro _; exact gb_B_0 _
    | succ k ih =>
      intro hk
      unfold gb_prk
      split
      · exact gb_B_xor _ _ (ih (by omega)) (gb_ideal hD hf (by omega) hB)
      · exact ih (by omega)
  exact this 16 (by omega)
/-- the common zeros of the generators in the set s -/
def gb_InV (s : Nat) (gv : Nat → Nat) (p : Nat) : Prop := ∀ i, i < 6 → s.testBit i = true → gb_ev (gv i) p = false
def gb_Gb (s : Nat) (gv P H : Nat → Nat) (n : Nat) : Prop :=
  gb_Done P H n ∧ (∀ i, i < 6 → s.testBit i = true → gv i < 65536 ∧ gb_B (gb_bs P H n) (gv i)) ∧ ∀ p, p < 16 → gb_InV s gv p → gb_Va P n p
theorem gb_null {s : Nat} {gv P H : Nat → Nat} {n : Nat} (hG : gb_Gb s gv P H n) : ∀ k, k ≤ 6 → ∃ E, E < 65536 ∧ gb_B (gb_bs P H n) E ∧ ∀ p, p < 16 → gb_ev E p = false → ∀ i, i < k → s.testBit i = true → gb_ev (gv i) p = false := by
  intro k
  induction k with
  | zero => intro _; exact ⟨0, by decide, gb_B_0 _, fun p _ _ i hi => absurd hi (by omega)⟩
  | succ k ih =>
    intro hk
    obtain ⟨E, h1, h2, h3⟩ := ih (by omega)
    by_cases hs : s.testBit k = true
    · obtain ⟨g1, g2⟩ := hG.2.1 k (by omega) hs
      refine ⟨(E ^^^ gv k) ^^^ gb_pr E (gv k), gb_xor_lt (gb_xor_lt h1 g1) (gb_pr_lt _ _), gb_B_xor _ _ (gb_B_xor _ _ h2 g2) (gb_idealp hG.1 h1 h2 _), fun p hp he i hi hsi => ?_⟩
      rw [gb_ev_xor, gb_ev_xor, gb_ev_pr] at he
      have ea : gb_ev E p = false ∧ gb_ev (gv k) p = false := by
        revert he
        cases gb_ev E p <;> cases gb_ev (gv k) p <;> decide
      by_cases e : i = k
      · rw [e]; exact ea.2
      · exact h3 p hp ea.1 i (by omega) hsi
    · refine ⟨E, h1, h2, fun p hp he i hi hsi => ?_⟩
      by_cases e : i = k
      · rw [e] at hsi
        exact absurd hsi hs
      · exact h3 p hp he i (by omega) hsi
/-- what is taken away whole is what vanishes at the common zeros -/
theorem gb_mem {s : Nat} {gv P H : Nat → Nat} {n f : Nat} (hG : gb_Gb s gv P H n) (hf : f < 65536) : gb_B (gb_bs P H n) f ↔ ∀ p, p < 16 → gb_InV s gv p → gb_ev f p = false := by
  constructor
  · intro hB p hp hV
    exact gb_Va_B (hG.2.2 p hp hV) hB
  · intro h
    obtain ⟨E, h1, h2, h3⟩ := gb_null hG 6 (by omega)
    have e : f = gb_pr E f := gb_inj hf (gb_pr_lt _ _) (fun p hp => by
      rw [gb_ev_pr]
      cases he : gb_ev E p
      · rw [h p hp (h3 p hp he)]; rfl
      · rfl)
    rw [e]
    exact gb_idealp hG.1 h1 h2 f
/-- which monomials are heads -/
def gb_Bd (s : Nat) (gv : Nat → Nat) (m : Nat) : Prop := ∃ f, f < 65536 ∧ gb_hd f m ∧ ∀ p, p < 16 → gb_InV s gv p → gb_ev f p = false
theorem gb_bound {s : Nat} {gv P H : Nat → Nat} {n m : Nat} (hG : gb_Gb s gv P H n) (hm : m < 16) : gb_dv H m n < n ↔ gb_Bd s gv m := by
  have hI := hG.1.1
  constructor
  · intro h
    have h1 := gb_bs_hd hI hm h
    exact ⟨gb_bs P H n m, gb_hd_lt h1 hm, h1, (gb_mem hG (gb_hd_lt h1 hm)).mp (gb_B_bs (gb_bs_good hI) hm)⟩
  · rintro ⟨f, hf, hd, hv⟩
    exact (gb_bs_iff hI hm).mp (gb_B_hd (gb_bs_good hI) ((gb_mem hG hf).mpr hv) hm hd)
/-- a least head -/
def gb_lst (H : Nat → Nat) (n m : Nat) : Prop := gb_dv H m n < n ∧ ∀ v, v < 4 → gb_df m (2 ^ v) ≠ m → ¬ gb_dv H (gb_df m (2 ^ v)) n < n
theorem gb_sub_tr {a b c : Nat} (h : gb_sub a b = true) (h' : gb_sub b c = true) : gb_sub a c = true := by
  unfold gb_sub at *
  rw [beq_iff_eq] at *
  rw [← h, Nat.and_assoc, h']
theorem gb_df_sub (m h : Nat) : gb_sub (gb_df m h) m = true := by
  unfold gb_sub gb_df
  rw [beq_iff_eq]
  apply Nat.eq_of_testBit_eq
  intro i
  rw [Nat.testBit_and, Nat.testBit_xor, Nat.testBit_and]
  cases m.testBit i <;> cases h.testBit i <;> rfl
theorem gb_lst_ex {H : Nat → Nat} {n : Nat} : ∀ h, h < 16 → gb_dv H h n < n → ∃ m, m < 16 ∧ gb_sub m h = true ∧ gb_lst H n m := by
  intro h
  induction h using Nat.strongRecOn with
  | ind h ih =>
    intro hh hd
    by_cases hl : ∃ v, v < 4 ∧ gb_df h (2 ^ v) ≠ h ∧ gb_dv H (gb_df h (2 ^ v)) n < n
    · obtain ⟨v, _, hne, hdv⟩ := hl
      have hle := gb_df_le h (2 ^ v)
      obtain ⟨m, h1, h2, h3⟩ := ih _ (by omega) (by omega) hdv
      exact ⟨m, h1, gb_sub_tr h2 (gb_df_sub h (2 ^ v)), h3⟩
    · exact ⟨h, hh, gb_sub_self h, hd, fun v hv hne hdv => hl ⟨v, hv, hne, hdv⟩⟩
theorem gb_ge_hd {bs : Nat → Nat} (hg : gb_good bs) {m : Nat} (hm : m < 16) (h0 : bs m ≠ 0) : gb_hd (2 ^ m ^^^ gb_rk bs 16 (2 ^ m)) m := by
  have hlt : 2 ^ m < 2 ^ (m + 1) := Nat.pow_lt_pow_right (by omega) (by omega)
  have e : gb_rk bs 16 (2 ^ m) = gb_rk bs m (2 ^ m ^^^ bs m) := by
    rw [gb_rk_cut hlt 16 (by omega)]
    show gb_rk bs m (if (2 ^ m).testBit m = true then 2 ^ m ^^^ bs m else 2 ^ m) = _
    rw [if_pos Nat.testBit_two_pow_self]
  have hz : gb_hd (bs m) m := by
    rcases hg m hm with z | z
    · exact absurd z h0
    · exact z
  have h1 : gb_rk bs m (2 ^ m ^^^ bs m) < 2 ^ m := by
    apply gb_rk_lt hg (by omega) (Nat.le_refl m)
    rw [Nat.xor_comm]
    exact gb_hd_down hz
  rw [e, Nat.xor_comm]
  exact gb_hd_up h1
theorem gb_zero {s : Nat} {gv P H : Nat → Nat} {n p : Nat} (hG : gb_Gb s gv P H n) (hp : p < 16) : (∀ m, m < 16 → gb_lst H n m → gb_ev (2 ^ m ^^^ gb_rk (gb_bs P H n) 16 (2 ^ m)) p = false) ↔ gb_InV s gv p := by
  have hI := hG.1.1
  have hg := gb_bs_good hI
  constructor
  · intro h
    have key : ∀ f, f < 65536 → gb_B (gb_bs P H n) f → gb_ev f p = false := by
      intro f
      induction f using Nat.strongRecOn with
      | ind f ih =>
        intro hf hB
        by_cases e0 : f = 0
        · rw [e0]; exact gb_ev_0 p
        · obtain ⟨k, hk, hd⟩ := gb_hd_ex hf e0
          have hdv := (gb_bs_iff hI hk).mp (gb_B_hd hg hB hk hd)
          obtain ⟨m, hm, hsub, hl⟩ := gb_lst_ex k hk hdv
          have hgm := gb_ge_hd hg hm ((gb_bs_iff hI hm).mpr hl.1)
          have hBm := gb_B_rest hg (2 ^ m)
          have hem := h m hm hl
          generalize (2 ^ m ^^^ gb_rk (gb_bs P H n) 16 (2 ^ m)) = G at hgm hBm hem
          obtain ⟨t1, t2⟩ := gb_tab4 m hm k hk hsub
          have hdf := gb_df16 m hk
          have h1 := gb_tm_hd hgm hm hdf t1
          rw [t2] at h1
          have h2 := gb_hd_xor hd h1
          have h3 : gb_B (gb_bs P H n) (f ^^^ gb_tm G (gb_df k m)) := gb_B_xor _ _ hB (gb_ideal hG.1 (gb_hd_lt hgm hm) hdf hBm)
          have h4 := hd.1
          have h5 := ih _ (by omega) (gb_xor_lt hf (gb_tm_lt16 _ hdf)) h3
          rw [gb_ev_xor, gb_ev_tm _ hdf, hem, Bool.and_false, Bool.xor_false] at h5
          exact h5
    intro i hi hs
    obtain ⟨g1, g2⟩ := hG.2.1 i hi hs
    exact key _ g1 g2
  · intro hV m hm _
    have h1 : 2 ^ m ^^^ gb_rk (gb_bs P H n) 16 (2 ^ m) < 65536 := gb_xor_lt (gb_pw hm) (gb_rk_lt16 hg (gb_pw hm))
    exact (gb_mem hG h1).mp (gb_B_rest hg (2 ^ m)) p hp hV
/-! the shifted generators -/
theorem gb_InV_sh {s a p : Nat} {gv gw : Nat → Nat} (ha : a < 16) (hp : p < 16) (hw : ∀ i, i < 6 → gw i = gb_sh (gv i) a) : gb_InV s gw p ↔ gb_InV s gv (p ^^^ a) := by
  constructor
  · intro h i hi hs
    have := h i hi hs
    rw [hw i hi, gb_ev_sh _ ha hp] at this
    exact this
  · intro h i hi hs
    rw [hw i hi, gb_ev_sh _ ha hp]
    exact h i hi hs
theorem gb_van_sh {s a f : Nat} {gv gw : Nat → Nat} (ha : a < 16) (hw : ∀ i, i < 6 → gw i = gb_sh (gv i) a) : (∀ p, p < 16 → gb_InV s gv p → gb_ev f p = false) ↔ (∀ p, p < 16 → gb_InV s gw p → gb_ev (gb_sh f a) p = false) := by
  constructor
  · intro h p hp hV
    rw [gb_ev_sh _ ha hp]
    exact h _ (gb_xr16 hp ha) ((gb_InV_sh ha hp hw).mp hV)
  · intro h p hp hV
    have h1 := h (p ^^^ a) (gb_xr16 hp ha) ((gb_InV_sh ha (gb_xr16 hp ha) hw).mpr (by rw [gb_xx]; exact hV))
    rw [gb_ev_sh _ ha (gb_xr16 hp ha), gb_xx] at h1
    exact h1
theorem gb_Bd_sh {s a m : Nat} {gv gw : Nat → Nat} (ha : a < 16) (hm : m < 16) (hw : ∀ i, i < 6 → gw i = gb_sh (gv i) a) : gb_Bd s gv m ↔ gb_Bd s gw m := by
  constructor
  · rintro ⟨f, hf, hd, hv⟩
    exact ⟨gb_sh f a, gb_sh_lt16 a hf, gb_sh_hd hd hm ha, (gb_van_sh ha hw).mp hv⟩
  · rintro ⟨f, hf, hd, hv⟩
    refine ⟨gb_sh f a, gb_sh_lt16 a hf, gb_sh_hd hd hm ha, (gb_van_sh ha hw).mpr ?_⟩
    rw [gb_sh_sh hf ha]
    exact hv
end
section
/-! ints by their naturals -/
theorem gb_nand (a b : Nat) : nI a &&& nI b = nI (a &&& b) := by
  apply Int32.toBitVec_inj.1
  show BitVec.ofNat 32 a &&& BitVec.ofNat 32 b = BitVec.ofNat 32 (a &&& b)
  apply BitVec.eq_of_getLsbD_eq
  intro i hi
  simp [hi]
theorem gb_nxor (a b : Nat) : nI a ^^^ nI b = nI (a ^^^ b) := by
  apply Int32.toBitVec_inj.1
  show BitVec.ofNat 32 a ^^^ BitVec.ofNat 32 b = BitVec.ofNat 32 (a ^^^ b)
  apply BitVec.eq_of_getLsbD_eq
  intro i hi
  simp [hi]
theorem gb_nor (a b : Nat) : nI a ||| nI b = nI (a ||| b) := by
  apply Int32.toBitVec_inj.1
  show BitVec.ofNat 32 a ||| BitVec.ofNat 32 b = BitVec.ofNat 32 (a ||| b)
  apply BitVec.eq_of_getLsbD_eq
  intro i hi
  simp [hi]
theorem gb_cnt : ∀ n, n < 32 → ((nI n &&& 31).toBitVec.smod 32).toNat = n := by decide +kernel
theorem gb_shr {k j : Nat} (hk : k < 2 ^ 31) (hj : j < 32) : nI k >>> (nI j &&& 31) = nI (k / 2 ^ j) := pk_shrN hk _ j (gb_cnt j hj)
theorem gb_bit {k j : Nat} (hk : k < 65536) (hj : j < 16) : (nI k >>> (nI j &&& 31)) &&& 1 = nI (k.testBit j).toNat := by
  have h1 : k / 2 ^ j ≤ k := Nat.div_le_self _ _
  rw [gb_shr (by omega) (by omega), pk_andN (by omega) 1 (by decide), Nat.testBit_eq_decide_div_mod_eq]
  congr 1
  have h2 : k / 2 ^ j % 2 ^ 1 = 0 ∨ k / 2 ^ j % 2 ^ 1 = 1 := by omega
  rcases h2 with e | e
  · rw [e]; rfl
  · rw [e]; rfl
theorem gb_br0 {k j : Nat} {A B : Prop} (hk : k < 65536) (hj : j < 16) (f : k.testBit j = false → A) (g : k.testBit j = true → B) : (((nI k >>> (nI j &&& 31)) &&& 1) = 0 → A) ∧ (¬ ((nI k >>> (nI j &&& 31)) &&& 1) = 0 → B) := by
  rw [gb_bit hk hj]
  cases hb : k.testBit j
  · exact ⟨fun _ => f hb, fun z => absurd nI_0 z⟩
  · exact ⟨fun z => absurd z (by decide), fun _ => g hb⟩
theorem gb_br1 {k j : Nat} {A B : Prop} (hk : k < 65536) (hj : j < 16) (f : k.testBit j = true → A) (g : k.testBit j = false → B) : (((nI k >>> (nI j &&& 31)) &&& 1) = 1 → A) ∧ (¬ ((nI k >>> (nI j &&& 31)) &&& 1) = 1 → B) := by
  rw [gb_bit hk hj]
  cases hb : k.testBit j
  · exact ⟨fun z => absurd z (by decide), fun _ => g hb⟩
  · exact ⟨fun _ => f hb, fun z => absurd rfl z⟩
theorem gb_one : ∀ k, k < 16 → (1 : Int32) <<< (nI k &&& 31) = nI (2 ^ k) := by decide +kernel
theorem gb_dfI : ∀ a, a < 16 → ∀ b, b < 16 → nI a &&& (nI b ^^^ (-1)) = nI (gb_df a b) := by decide +kernel
theorem gb_df0 : ∀ a, a < 16 → ∀ b, b < 16 → (gb_df a b = 0 ↔ gb_sub a b = true) := by decide +kernel
theorem gb_brs {a b : Nat} {A B : Prop} (ha : a < 16) (hb : b < 16) (f : gb_sub a b = true → A) (g : gb_sub a b = false → B) : ((nI a &&& (nI b ^^^ (-1))) = 0 → A) ∧ (¬ (nI a &&& (nI b ^^^ (-1))) = 0 → B) := by
  rw [gb_dfI a ha b hb, ← nI_0, nI_eq (by have := gb_df16 b ha; omega) (by omega), gb_df0 a ha b hb]
  refine ⟨f, fun z => g (eq_false_of_ne_true z)⟩
theorem gb_bx (a b : Bool) : nI a.toNat ^^^ nI b.toNat = nI (a ^^ b).toNat := by
  cases a <;> cases b <;> decide
theorem gb_i8 : ∀ h, h < 16 → (nI h).toInt8.toInt32 = nI h := by decide +kernel
/-! the static methods -/
theorem gb_tmk_t {f t k : Nat} (hb : f.testBit k = true) : gb_tmk f t (k + 1) = gb_tmk f t k ^^^ 2 ^ (k ||| t) := if_pos hb
theorem gb_tmk_f {f t k : Nat} (hb : f.testBit k = false) : gb_tmk f t (k + 1) = gb_tmk f t k := if_neg (by rw [hb]; decide)
theorem gb_w_times {post : Int32 → Prop} {u : St2} {f t : Nat} (hf : f < 65536) (ht : t < 16) (H : post (nI (gb_tm f t))) : wpX_times post u (nI f) (nI t) :=
  pk_loop (σ := Int32) (fun n i s => wX_times_4 post (nI f) (nI t) n s (nI i)) (fun i s => s = nI (gb_tmk f t i)) 16 0 0 (by omega) nI_0.symm
    (fun n s h => pk_le 16 16 (fun _ => by rw [h]; exact H) (fun z => absurd z (by omega)))
    (fun n i s hi h hw => pk_le 16 i (fun z => absurd z (by omega)) (fun _ => gb_br0 hf hi
      (fun hb => nm_r (nI_1 i) (hw _ (by rw [h, gb_tmk_f hb])))
      (fun hb => nm_r (e' := nI (gb_tmk f t (i + 1))) (by rw [h, gb_nor, gb_one _ (gb_or16 hi ht), gb_nxor, gb_tmk_t hb]) (nm_r (nI_1 i) (hw _ rfl)))))
theorem gb_w_poly {post : Int32 → Prop} {u : St2} {f : Nat} (hf : f < 65536) (H : post 1) : wpX_isPolynomial post u (nI f) :=
  pk_lt f 0 (fun z => absurd z (by omega)) (fun _ => pk_lt 65535 f (fun z => absurd z (by omega)) (fun _ => H))
theorem gb_1n0 : ¬ (1 : Int32) = 0 := by decide
theorem gb_prk_t {f g k : Nat} (hb : g.testBit k = true) : gb_prk f g (k + 1) = gb_prk f g k ^^^ gb_tm f k := if_pos hb
theorem gb_prk_f {f g k : Nat} (hb : g.testBit k = false) : gb_prk f g (k + 1) = gb_prk f g k := if_neg (by rw [hb]; decide)
theorem gb_w_product {post : Int32 → Prop} {u : St1} {f g : Nat} (hf : f < 65536) (hg : g < 65536) (H : post (nI (gb_pr f g))) : wpX_product post u (nI f) (nI g) := by
  obtain ⟨f0, f1, f2, f3, f4, f5, a1, a2, a3, a4⟩ := u
  unfold wpX_product
  refine gb_w_poly hf (br_f gb_1n0 (gb_w_poly hg (br_f gb_1n0 ?_)))
  exact pk_loop (σ := Int32) (fun n i s => wX_product_21 post (nI f) (nI g) f0 f1 f2 f3 f4 f5 a1 a2 a3 a4 n s (nI i)) (fun i s => s = nI (gb_prk f g i)) 16 0 0 (by omega) nI_0.symm
    (fun n s h => pk_le 16 16 (fun _ => by rw [h]; exact H) (fun z => absurd z (by omega)))
    (fun n i s hi h hw => pk_le 16 i (fun z => absurd z (by omega)) (fun _ => gb_br0 hg hi
      (fun hb => nm_r (nI_1 i) (hw _ (by rw [h, gb_prk_f hb])))
      (fun hb => gb_w_times hf hi (nm_r (e' := nI (gb_prk f g (i + 1))) (by rw [h, gb_nxor, gb_prk_t hb]) (nm_r (nI_1 i) (hw _ rfl))))))
theorem gb_w_valueAt {post : Int32 → Prop} {u : St2} {f p : Nat} (hf : f < 65536) (hp : p < 16) (H : post (nI (gb_ev f p).toNat)) : wpX_valueAt post u (nI f) (nI p) :=
  pk_loop (σ := Int32) (fun n i s => wX_valueAt_4 post (nI f) (nI p) n s (nI i)) (fun i s => s = nI (gb_xs (fun m => f.testBit m && gb_sub m p) i).toNat) 16 0 0 (by omega) nI_0.symm
    (fun n s h => pk_le 16 16 (fun _ => by rw [h]; exact H) (fun z => absurd z (by omega)))
    (fun n i s hi h hw => pk_le 16 i (fun z => absurd z (by omega)) (fun _ => gb_brs hi hp
      (fun hb => nm_r (e' := nI (gb_xs (fun m => f.testBit m && gb_sub m p) (i + 1)).toNat) (by
        rw [h, gb_bit hf hi, gb_bx]
        show nI (gb_xs (fun m => f.testBit m && gb_sub m p) i ^^ f.testBit i).toNat = nI (gb_xs (fun m => f.testBit m && gb_sub m p) i ^^ (f.testBit i && gb_sub i p)).toNat
        rw [hb, Bool.and_true]) (nm_r (nI_1 i) (hw _ rfl)))
      (fun hb => nm_r (nI_1 i) (hw _ (by
        rw [h]
        show nI (gb_xs (fun m => f.testBit m && gb_sub m p) i).toNat = nI (gb_xs (fun m => f.testBit m && gb_sub m p) i ^^ (f.testBit i && gb_sub i p)).toNat
        rw [hb, Bool.and_false, Bool.xor_false])))))
theorem gb_w_headOf {post : Int32 → Prop} {u : St2} {f h : Nat} (hf : f < 65536) (hh : h < 16) (hd : gb_hd f h) (H : post (nI h)) : wpX_headOf post u (nI f) :=
  pk_loop (σ := Int32) (fun n i s => wX_headOf_4 post (nI f) n s (nI i)) (fun i s => h < i → s = nI h) 16 0 (-1) (by omega) (fun z => absurd z (by omega))
    (fun n s hs => pk_le 16 16 (fun _ => by rw [hs hh]; exact H) (fun z => absurd z (by omega)))
    (fun n i s hi hs hw => pk_le 16 i (fun z => absurd z (by omega)) (fun _ => gb_br0 hf hi
      (fun hb => nm_r (nI_1 i) (hw _ (fun hlt => by
        by_cases e : h = i
        · subst e
          rw [gb_hd_bit hd] at hb
          exact absurd hb (by decide)
        · exact hs (by omega))))
      (fun hb => nm_r (nI_1 i) (hw _ (fun hlt => by
        have := gb_blt hd.2 hb
        rw [show i = h by omega])))))
/-! the law's own static methods -/
theorem gb_shk_t {f a k : Nat} (hb : f.testBit k = true) : gb_shk f a (k + 1) = gb_shk f a k ^^^ gb_ik k (k &&& a) 16 := if_pos hb
theorem gb_shk_f {f a k : Nat} (hb : f.testBit k = false) : gb_shk f a (k + 1) = gb_shk f a k := if_neg (by rw [hb]; decide)
theorem gb_ik_t {m b k : Nat} (hb : gb_sub k b = true) : gb_ik m b (k + 1) = gb_ik m b k ^^^ 2 ^ (gb_df m k) := if_pos hb
theorem gb_ik_f {m b k : Nat} (hb : gb_sub k b = false) : gb_ik m b (k + 1) = gb_ik m b k := if_neg (by rw [hb]; decide)
theorem gb_w_shin {post : Int32 → Prop} {J4 : Int32 → Int32 → Prop} {f a m o : Nat} (hf : f < 65536) (hm : m < 16) (H : J4 (nI (if f.testBit m = true then o ^^^ gb_ik m (m &&& a) 16 else o)) (nI (m + 1))) : ∃ fu, wL_shifted_18 post J4 (nI f) (nI a) (nI m) (nI (m &&& a)) fu (nI o) 0 := by
  have hb16 : m &&& a < 16 := Nat.lt_of_le_of_lt Nat.and_le_left hm
  refine pk_loop (σ := Int32) (fun n i s => wL_shifted_18 post J4 (nI f) (nI a) (nI m) (nI (m &&& a)) n s (nI i)) (fun i s => s = nI (if f.testBit m = true then o ^^^ gb_ik m (m &&& a) i else o)) 16 0 (nI o) (by omega) ?_
    (fun n s h => pk_le 16 16 (fun _ => nm_r (nI_1 m) (by rw [h]; exact H)) (fun z => absurd z (by omega))) ?_
  · show nI o = nI (if f.testBit m = true then o ^^^ 0 else o)
    rw [Nat.xor_zero, ite_self]
  · intro n i s hi h hw
    refine pk_le 16 i (fun z => absurd z (by omega)) (fun _ => gb_brs hi hb16 (fun hb => ?_) (fun hb => ?_))
    · refine gb_br1 hf hm (fun ht => br_f gb_1n0 ?_) (fun ht => nm_r (nI_1 i) (hw _ ?_))
      · refine nm_r (e' := nI (if f.testBit m = true then o ^^^ gb_ik m (m &&& a) (i + 1) else o)) ?_ (nm_r (nI_1 i) (hw _ rfl))
        rw [h, gb_dfI m hm i hi, gb_one _ (gb_df16 i hm), gb_nxor, if_pos ht, if_pos ht, gb_ik_t hb, Nat.xor_assoc]
      · rw [h, ht, if_neg (by decide), if_neg (by decide)]
    · refine gb_br1 hf hm (fun ht => br_t rfl (nm_r (nI_1 i) (hw _ ?_))) (fun ht => nm_r (nI_1 i) (hw _ ?_))
      · rw [h, gb_ik_f hb]
      · rw [h, gb_ik_f hb]
theorem gb_w_shifted {post : Int32 → Prop} {u : St2} {f a : Nat} (hf : f < 65536) (H : post (nI (gb_sh f a))) : wpL_shifted post u (nI f) (nI a) :=
  pk_loop (σ := Int32) (fun n i s => wL_shifted_4 post (nI f) (nI a) n s (nI i)) (fun i s => s = nI (gb_shk f a i)) 16 0 0 (by omega) nI_0.symm
    (fun n s h => pk_le 16 16 (fun _ => by rw [h]; exact H) (fun z => absurd z (by omega)))
    (fun n i s hi h hw => pk_le 16 i (fun z => absurd z (by omega)) (fun _ => nm_r (gb_nand i a) (by
      rw [h]
      exact gb_w_shin hf hi (hw _ (by
        cases hb : f.testBit i
        · rw [if_neg (by decide), gb_shk_f hb]
        · rw [if_pos rfl, gb_shk_t hb])))))
theorem gb_mvk_t {z a k : Nat} (hb : z.testBit k = true) : gb_mvk z a (k + 1) = gb_mvk z a k ||| 2 ^ (k ^^^ a) := if_pos hb
theorem gb_mvk_f {z a k : Nat} (hb : z.testBit k = false) : gb_mvk z a (k + 1) = gb_mvk z a k := if_neg (by rw [hb]; decide)
theorem gb_w_moved {post : Int32 → Prop} {u : St2} {f a : Nat} (hf : f < 65536) (ha : a < 16) (H : post (nI (gb_mv f a))) : wpL_moved post u (nI f) (nI a) :=
  pk_loop (σ := Int32) (fun n i s => wL_moved_4 post (nI f) (nI a) n s (nI i)) (fun i s => s = nI (gb_mvk f a i)) 16 0 0 (by omega) nI_0.symm
    (fun n s h => pk_le 16 16 (fun _ => by rw [h]; exact H) (fun z => absurd z (by omega)))
    (fun n i s hi h hw => pk_le 16 i (fun z => absurd z (by omega)) (fun _ => gb_br1 hf hi
      (fun hb => nm_r (e' := nI (gb_mvk f a (i + 1))) (by rw [h, gb_nxor, gb_one _ (gb_xr16 hi ha), gb_nor, gb_mvk_t hb]) (nm_r (nI_1 i) (hw _ rfl)))
      (fun hb => nm_r (nI_1 i) (hw _ (by rw [h, gb_mvk_f hb])))))
end
section
/-! the object's walks up to the completion -/
def gb_R (a2 a3 : Nat → Int32) (P H : Nat → Nat) (n : Nat) : Prop := ∀ i, i < n → a2 i = nI (P i) ∧ a3 i = nI (H i)
theorem gb_fill {f : Nat → Int32} {P : Nat → Nat} {n k r : Nat} {x : Int32} (hk : k = n) (h : ∀ i, i < n → f i = nI (P i)) (hx : x = nI r) : ∀ i, i < n + 1 → upd f k x i = nI (gb_up P n r i) := by
  intro i hi
  rw [hk]
  by_cases e : i = n
  · rw [e, pk_us, gb_up_s, hx]
  · rw [pk_un e, gb_up_n e]
    exact h i (by omega)
theorem gb_w_divisor {post : Int32 → Prop} {pr kn bc bd zs : Int32} {a1 a2 a3 a4 : Nat → Int32} {P H : Nat → Nat} {n m : Nat} (hI : gb_Inv P H n) (hR : gb_R a2 a3 P H n) (hm : m < 16) (K1 : gb_dv H m n < n → post (nI (gb_dv H m n))) (K0 : ¬ gb_dv H m n < n → post (-1)) : wpX_divisor post (pr, kn, nI n, bc, bd, zs, a1, a2, a3, a4) (nI m) := by
  have hn := gb_Inv_le hI
  have hle := gb_dv_le H m n
  unfold wpX_divisor
  refine pk_loop (σ := Unit) (fun fu i _ => wX_divisor_2 post (nI m) pr kn (nI n) bc bd zs a1 a2 a3 a4 fu (nI i)) (fun _ _ => True) (gb_dv H m n) 0 () (by omega) trivial ?_ ?_
  · intro fu _ _
    refine pk_le n (gb_dv H m n) (fun z => K0 (by omega)) (fun z => ⟨vp_in_nI (by omega) (by omega), ?_⟩)
    rw [nI_clamp (by omega), (hR _ z).2]
    exact gb_brs (hI _ z).1 hm (fun _ => K1 z) (fun hb => absurd (gb_dv_sub H m n z) (by rw [hb]; decide))
  · intro fu i _ hi _ hw
    refine pk_le n i (fun z => absurd z (by omega)) (fun z => ⟨vp_in_nI (by omega) (by omega), ?_⟩)
    rw [nI_clamp (by omega), (hR _ z).2]
    exact gb_brs (hI _ z).1 hm (fun hb => absurd (gb_dv_min H m n i hi) (by rw [hb]; decide)) (fun _ => nm_r (nI_1 i) (hw () trivial))
theorem gb_rk_f {bs : Nat → Nat} {k r : Nat} (hb : r.testBit k = false) : gb_rk bs (k + 1) r = gb_rk bs k r := by
  show gb_rk bs k (if r.testBit k = true then r ^^^ bs k else r) = _
  rw [hb, if_neg (by decide)]
theorem gb_rk_t {bs : Nat → Nat} {k r : Nat} (hb : r.testBit k = true) : gb_rk bs (k + 1) r = gb_rk bs k (r ^^^ bs k) := by
  show gb_rk bs k (if r.testBit k = true then r ^^^ bs k else r) = _
  rw [if_pos hb]
theorem gb_w_reduce {post : Int32 → Prop} {pr kn bc bd zs : Int32} {a1 a2 a3 a4 : Nat → Int32} {P H : Nat → Nat} {n f : Nat} (hI : gb_Inv P H n) (hR : gb_R a2 a3 P H n) (hf : f < 65536) (K : post (nI (gb_rk (gb_bs P H n) 16 f))) : wpX_reduce post (pr, kn, nI n, bc, bd, zs, a1, a2, a3, a4) (nI f) := by
  have hn := gb_Inv_le hI
  unfold wpX_reduce
  refine ⟨17, ?_⟩
  have h : wX_reduce_5 post pr kn (nI n) bc bd zs a1 a2 a3 a4 17 (nI f) (nI 16 + (-1)) := by
    refine pk_loopD (σ := Int32) (fun fu i s => wX_reduce_5 post pr kn (nI n) bc bd zs a1 a2 a3 a4 fu s (nI i + (-1))) (fun i s => i ≤ 16 ∧ ∃ r, s = nI r ∧ r < 65536 ∧ gb_rk (gb_bs P H n) i r = gb_rk (gb_bs P H n) 16 f) ?_ ?_ 16 (nI f) ⟨by omega, f, rfl, hf, rfl⟩
    · rintro fu s ⟨_, r, rfl, hr, e⟩
      refine br_t (by decide) ?_
      have e' : r = gb_rk (gb_bs P H n) 16 f := e
      rw [e']
      exact K
    · rintro fu i s ⟨hi, r, rfl, hr, e⟩ hw
      show wX_reduce_5 post pr kn (nI n) bc bd zs a1 a2 a3 a4 (fu + 1) (nI r) (nI (i + 1) + (-1))
      rw [pk_m1]
      refine br_f (nI_pos (by omega)) (gb_br0 hr (by omega) (fun hb => ?_) (fun hb => ?_))
      · refine br_t (by decide) (nm_e (hw (nI r) ⟨by omega, r, rfl, hr, ?_⟩))
        rw [← e, gb_rk_f hb]
      · refine gb_w_divisor hI hR (by omega) (fun hd => ?_) (fun hd => ?_)
        · have hd16 := gb_df16 (H (gb_dv H i n)) (show i < 16 by omega)
          have ebs : gb_bs P H n i = gb_tm (P (gb_dv H i n)) (gb_df i (H (gb_dv H i n))) := by
            unfold gb_bs
            rw [if_pos hd]
          have hx : r ^^^ gb_tm (P (gb_dv H i n)) (gb_df i (H (gb_dv H i n))) < 65536 := gb_xor_lt hr (gb_tm_lt16 _ hd16)
          refine br_f (nI_pos (by omega)) ⟨vp_in_nI (by omega) (by omega), vp_in_nI (by omega) (by omega), ?_⟩
          rw [nI_clamp (by omega), (hR _ hd).1, (hR _ hd).2, gb_dfI i (by omega) _ (hI _ hd).1]
          refine gb_w_times (gb_hd_lt (hI _ hd).2.1 (hI _ hd).1) hd16 (nm_r (gb_nxor r _) (nm_e (hw _ ⟨by omega, _, rfl, hx, ?_⟩)))
          rw [← e, gb_rk_t hb, ebs]
        · refine br_t (by decide) (nm_e (hw (nI r) ⟨by omega, r, rfl, hr, ?_⟩))
          have ebs : gb_bs P H n i = 0 := by
            unfold gb_bs
            rw [if_neg hd]
          rw [← e, gb_rk_t hb, ebs, Nat.xor_zero]
  rw [show nI 16 + (-1 : Int32) = 15 by decide] at h
  exact h
theorem gb_w_takeIn {post : Int32 → St1 → Prop} {pr kn bc bd zs : Int32} {a1 a2 a3 a4 : Nat → Int32} {P H : Nat → Nat} {n f : Nat} (hI : gb_Inv P H n) (hR : gb_R a2 a3 P H n) (hf : f < 65536)
    (K : ∀ r a2' a3' P' H' n', gb_Inv P' H' n' → gb_R a2' a3' P' H' n' → gb_Ext P H n P' H' n' → gb_B (gb_bs P' H' n') f → (∀ p, gb_Va P n p → gb_ev f p = false → gb_Va P' n' p) → post r (pr, kn, nI n', bc, bd, zs, a1, a2', a3', a4)) :
    wpX_takeIn post (pr, kn, nI n, bc, bd, zs, a1, a2, a3, a4) (nI f) := by
  have hn := gb_Inv_le hI
  unfold wpX_takeIn
  refine gb_w_reduce hI hR hf ?_
  have hr16 := gb_rk_lt16 (gb_bs_good hI) hf
  obtain ⟨r, hr⟩ : ∃ r, r = gb_rk (gb_bs P H n) 16 f := ⟨_, rfl⟩
  rw [← hr] at hr16 ⊢
  refine pk_eq r 0 (fun z => ?_) (fun z => ?_)
  · exact K 0 a2 a3 P H n hI hR (gb_Ext_refl P H n) (by unfold gb_B; rw [← hr, z]) (fun p hV _ => hV)
  · obtain ⟨h, hh, hd⟩ := gb_hd_ex hr16 z
    obtain ⟨t1, t2, t3, t4⟩ := gb_take hI hf hr hh hd
    refine pk_lt n 32 (fun _ => ⟨vp_in_nI (by omega) (by omega), nm_e (gb_w_headOf hr16 hh hd ⟨vp_in_nI (by omega) (by omega), nm_e (nm_r (nI_1 n) ?_)⟩)⟩) (fun z => absurd z (by omega))
    refine K 1 _ _ _ _ (n + 1) t1 (fun i hi => ⟨?_, ?_⟩) t2 t3 t4
    · exact gb_fill (nI_clamp (by omega)) (fun i hi => (hR i hi).1) rfl i hi
    · exact gb_fill (nI_clamp (by omega)) (fun i hi => (hR i hi).2) (gb_i8 h hh) i hi
theorem gb_w_takeSquares {post : St1 → Prop} {pr kn bc bd zs : Int32} {a1 a2 a3 a4 : Nat → Int32} {P H : Nat → Nat} {n i : Nat} (hI : gb_Inv P H n) (hR : gb_R a2 a3 P H n) (hi : i < n)
    (K : ∀ a2' a3' P' H' n', gb_Inv P' H' n' → gb_R a2' a3' P' H' n' → gb_Ext P H n P' H' n' → (∀ v, v < 4 → (H i).testBit v = true → gb_B (gb_bs P' H' n') (gb_tm (P i) (2 ^ v) ^^^ P i)) → (∀ p, gb_Va P n p → gb_Va P' n' p) → post (pr, kn, nI n', bc, bd, zs, a1, a2', a3', a4)) :
    wpX_takeSquares post (pr, kn, nI n, bc, bd, zs, a1, a2, a3, a4) (nI i) := by
  have hn := gb_Inv_le hI
  obtain ⟨hh, hhd, _⟩ := hI i hi
  have hP16 := gb_hd_lt hhd hh
  unfold wpX_takeSquares
  refine pk_loop (σ := Int32 × (Nat → Int32) × (Nat → Int32)) (fun fu v s => wX_takeSquares_2 post (nI i) fu (nI v) pr kn s.1 bc bd zs a1 s.2.1 s.2.2 a4)
    (fun v s => ∃ P' H' n', s.1 = nI n' ∧ gb_Inv P' H' n' ∧ gb_R s.2.1 s.2.2 P' H' n' ∧ gb_Ext P H n P' H' n' ∧ (∀ u, u < v → (H i).testBit u = true → gb_B (gb_bs P' H' n') (gb_tm (P i) (2 ^ u) ^^^ P i)) ∧ (∀ p, gb_Va P n p → gb_Va P' n' p)) 4 0 (nI n, a2, a3) (by omega)
    ⟨P, H, n, rfl, hI, hR, gb_Ext_refl P H n, fun u hu => absurd hu (by omega), fun p h => h⟩ ?_ ?_
  · rintro fu ⟨sz, b2, b3⟩ ⟨P', H', n', e, hI', hR', hE, hS, hV⟩
    have e' : sz = nI n' := e
    subst e'
    exact pk_le 4 4 (fun _ => K b2 b3 P' H' n' hI' hR' hE hS hV) (fun z => absurd z (by omega))
  · rintro fu v ⟨sz, b2, b3⟩ hv ⟨P', H', n', e, hI', hR', hE, hS, hV⟩ hw
    have e' : sz = nI n' := e
    subst e'
    have hin : i < n' := by have := hE.1; omega
    have eP : b2 i = nI (P i) := (hR' i hin).1.trans (by rw [(hE.2 i hi).1])
    have eH : b3 i = nI (H i) := (hR' i hin).2.trans (by rw [(hE.2 i hi).2])
    have hpv : 2 ^ v < 16 := Nat.pow_lt_pow_right (a := 2) (n := 4) (by decide) hv
    have hq16 : gb_tm (P i) (2 ^ v) ^^^ P i < 65536 := gb_xor_lt (gb_tm_lt16 _ hpv) hP16
    refine pk_le 4 v (fun z => absurd z (by omega)) (fun _ => ⟨vp_in_nI (by omega) (by omega), ?_⟩)
    dsimp only
    rw [nI_clamp (show i < 2 ^ 31 by omega), eP, eH]
    refine gb_br0 (by omega) (by omega) (fun hb => nm_r (nI_1 v) (hw (nI n', b2, b3) ⟨P', H', n', rfl, hI', hR', hE, ?_, hV⟩)) (fun hb => ⟨vp_in_nI (by omega) (by omega), ?_⟩)
    · intro u hu hub
      by_cases e : u = v
      · rw [e, hb] at hub
        exact absurd hub (by decide)
      · exact hS u (by omega) hub
    · rw [gb_one v (by omega)]
      refine gb_w_times hP16 hpv ⟨vp_in_nI (by omega) (by omega), ?_⟩
      rw [gb_nxor]
      refine gb_w_takeIn hI' hR' hq16 (fun r c2 c3 P2 H2 n2 hI2 hR2 hE2 hB2 hV2 => nm_r (nI_1 v) (hw (nI n2, c2, c3) ⟨P2, H2, n2, rfl, hI2, hR2, gb_Ext_trans hE hE2, ?_, ?_⟩))
      · intro u hu hub
        by_cases e : u = v
        · rw [e]; exact hB2
        · have hpu : 2 ^ u < 16 := Nat.pow_lt_pow_right (a := 2) (n := 4) (by decide) (by omega)
          exact gb_Ext_B hI2 hE2 (gb_xor_lt (gb_tm_lt16 _ hpu) hP16) (hS u (by omega) hub)
      · intro p hp
        refine hV2 p (hV p hp) ?_
        rw [gb_ev_xor, gb_ev_tm _ hpv, hp i hi, Bool.and_false]
        rfl
/-- the difference of two multiples -/
def gb_Df (P H : Nat → Nat) (i j : Nat) : Nat := gb_tm (P i) (gb_df (H i ||| H j) (H i)) ^^^ gb_tm (P j) (gb_df (H i ||| H j) (H j))
theorem gb_Df_lt {P H : Nat → Nat} {n i j : Nat} (hI : gb_Inv P H n) (hi : i < n) (hj : j < n) : gb_Df P H i j < 65536 := by
  have h := gb_or16 (hI i hi).1 (hI j hj).1
  exact gb_xor_lt (gb_tm_lt16 _ (gb_df16 _ h)) (gb_tm_lt16 _ (gb_df16 _ h))
theorem gb_Df_ext {P H P' H' : Nat → Nat} {n n' i j : Nat} (hE : gb_Ext P H n P' H' n') (hi : i < n) (hj : j < n) : gb_Df P' H' i j = gb_Df P H i j := by
  unfold gb_Df
  rw [(hE.2 i hi).1, (hE.2 i hi).2, (hE.2 j hj).1, (hE.2 j hj).2]
theorem gb_w_takeDifference {post : St1 → Prop} {pr kn bc bd zs : Int32} {a1 a2 a3 a4 : Nat → Int32} {P H : Nat → Nat} {n i j : Nat} (hI : gb_Inv P H n) (hR : gb_R a2 a3 P H n) (hi : i < n) (hj : j < n)
    (K : ∀ a2' a3' P' H' n', gb_Inv P' H' n' → gb_R a2' a3' P' H' n' → gb_Ext P H n P' H' n' → gb_B (gb_bs P' H' n') (gb_Df P H i j) → (∀ p, gb_Va P n p → gb_Va P' n' p) → post (pr, kn, nI n', bc, bd, zs, a1, a2', a3', a4)) :
    wpX_takeDifference post (pr, kn, nI n, bc, bd, zs, a1, a2, a3, a4) (nI i) (nI j) := by
  have hn := gb_Inv_le hI
  obtain ⟨hh, hhd, _⟩ := hI i hi
  obtain ⟨gh, ghd, _⟩ := hI j hj
  have hall := gb_or16 hh gh
  have d1 := gb_df16 (H i) hall
  have d2 := gb_df16 (H j) hall
  unfold wpX_takeDifference
  dsimp only
  rw [nI_clamp (show i < 2 ^ 31 by omega), nI_clamp (show j < 2 ^ 31 by omega), (hR i hi).1, (hR i hi).2, (hR j hj).1, (hR j hj).2]
  refine ⟨vp_in_nI (by omega) (by omega), vp_in_nI (by omega) (by omega), nm_r (gb_nor (H i) (H j)) ⟨vp_in_nI (by omega) (by omega), vp_in_nI (by omega) (by omega), ?_⟩⟩
  rw [gb_dfI _ hall _ hh]
  refine gb_w_times (gb_hd_lt hhd hh) d1 ⟨vp_in_nI (by omega) (by omega), vp_in_nI (by omega) (by omega), ?_⟩
  rw [gb_dfI _ hall _ gh]
  refine gb_w_times (gb_hd_lt ghd gh) d2 ?_
  rw [gb_nxor]
  refine gb_w_takeIn hI hR (gb_xor_lt (gb_tm_lt16 _ d1) (gb_tm_lt16 _ d2)) (fun r c2 c3 P2 H2 n2 hI2 hR2 hE2 hB2 hV2 => K c2 c3 P2 H2 n2 hI2 hR2 hE2 hB2 (fun p hp => hV2 p hp ?_))
  rw [gb_ev_xor, gb_ev_tm _ d1, gb_ev_tm _ d2, hp i hi, hp j hj, Bool.and_false, Bool.and_false]
  rfl
end
section
/-! the completion -/
/-- the generators are taken in, and of the polynomials below i all squares and differences -/
def gb_C (s : Nat) (gv P H : Nat → Nat) (n i : Nat) : Prop :=
  gb_Inv P H n ∧ (∀ k, k < 6 → s.testBit k = true → gv k < 65536 ∧ gb_B (gb_bs P H n) (gv k)) ∧ (∀ p, p < 16 → gb_InV s gv p → gb_Va P n p) ∧
  (∀ k, k < i → ∀ v, v < 4 → (H k).testBit v = true → gb_B (gb_bs P H n) (gb_tm (P k) (2 ^ v) ^^^ P k)) ∧ (∀ k, k < i → ∀ j, j < k → gb_B (gb_bs P H n) (gb_Df P H k j))
theorem gb_C_ext {s : Nat} {gv P H P' H' : Nat → Nat} {n n' i : Nat} (h : gb_C s gv P H n i) (hi : i ≤ n) (hI' : gb_Inv P' H' n') (hE : gb_Ext P H n P' H' n') (hV : ∀ p, gb_Va P n p → gb_Va P' n' p) : gb_C s gv P' H' n' i := by
  obtain ⟨hI, h1, h2, h3, h4⟩ := h
  refine ⟨hI', fun k hk hs => ⟨(h1 k hk hs).1, gb_Ext_B hI' hE (h1 k hk hs).1 (h1 k hk hs).2⟩, fun p hp hv => hV p (h2 p hp hv), fun k hk v hv hb => ?_, fun k hk j hj => ?_⟩
  · have hpv : 2 ^ v < 16 := Nat.pow_lt_pow_right (a := 2) (n := 4) (by decide) hv
    have hk' : k < n := by omega
    rw [(hE.2 k hk').2] at hb
    rw [(hE.2 k hk').1]
    exact gb_Ext_B hI' hE (gb_xor_lt (gb_tm_lt16 _ hpv) (gb_hd_lt (hI k hk').2.1 (hI k hk').1)) (h3 k hk v hv hb)
  · rw [gb_Df_ext hE (by omega) (by omega)]
    exact gb_Ext_B hI' hE (gb_Df_lt hI (by omega) (by omega)) (h4 k hk j hj)
theorem gb_C_done {s : Nat} {gv P H : Nat → Nat} {n : Nat} (h : gb_C s gv P H n n) : gb_Gb s gv P H n := by
  obtain ⟨hI, h1, h2, h3, h4⟩ := h
  exact ⟨⟨hI, h3, h4⟩, h1, h2⟩
theorem gb_w_c55 {post : St1 → Prop} {J : Int32 → Int32 → Int32 → Int32 → Int32 → Int32 → Int32 → (Nat → Int32) → (Nat → Int32) → (Nat → Int32) → (Nat → Int32) → Prop} {pr kn bc bd zs : Int32} {a1 a2 a3 a4 : Nat → Int32} {s : Nat} {gv P H : Nat → Nat} {n i : Nat}
    (hC : gb_C s gv P H n i) (hR : gb_R a2 a3 P H n) (hi : i < n) (hS : ∀ v, v < 4 → (H i).testBit v = true → gb_B (gb_bs P H n) (gb_tm (P i) (2 ^ v) ^^^ P i))
    (K : ∀ a2' a3' P' H' n', gb_C s gv P' H' n' (i + 1) → gb_R a2' a3' P' H' n' → i + 1 ≤ n' → J (nI (i + 1)) pr kn (nI n') bc bd zs a1 a2' a3' a4) :
    ∃ fu, wX_complete_55 post J (nI i) fu 0 pr kn (nI n) bc bd zs a1 a2 a3 a4 := by
  have hn := gb_Inv_le hC.1
  obtain ⟨hh, hhd, _⟩ := hC.1 i hi
  have hP16 := gb_hd_lt hhd hh
  refine pk_loop (σ := Int32 × (Nat → Int32) × (Nat → Int32)) (fun fu j t => wX_complete_55 post J (nI i) fu (nI j) pr kn t.1 bc bd zs a1 t.2.1 t.2.2 a4)
    (fun j t => ∃ P' H' n', t.1 = nI n' ∧ gb_C s gv P' H' n' i ∧ gb_R t.2.1 t.2.2 P' H' n' ∧ i < n' ∧ (∀ v, v < 4 → (H' i).testBit v = true → gb_B (gb_bs P' H' n') (gb_tm (P' i) (2 ^ v) ^^^ P' i)) ∧ (∀ k, k < j → gb_B (gb_bs P' H' n') (gb_Df P' H' i k))) i 0 (nI n, a2, a3) (by omega)
    ⟨P, H, n, rfl, hC, hR, hi, hS, fun k hk => absurd hk (by omega)⟩ ?_ ?_
  · rintro fu ⟨sz, b2, b3⟩ ⟨P', H', n', e, hC', hR', hi', hS', hD'⟩
    have e' : sz = nI n' := e
    subst e'
    refine pk_le i i (fun _ => nm_r (nI_1 i) (K b2 b3 P' H' n' ?_ hR' (by omega))) (fun z => absurd z (by omega))
    obtain ⟨c1, c2, c3, c4, c5⟩ := hC'
    refine ⟨c1, c2, c3, fun k hk => ?_, fun k hk => ?_⟩
    · by_cases e : k = i
      · rw [e]; exact hS'
      · exact c4 k (by omega)
    · by_cases e : k = i
      · rw [e]; exact hD'
      · exact c5 k (by omega)
  · rintro fu j ⟨sz, b2, b3⟩ hj ⟨P', H', n', e, hC', hR', hi', hS', hD'⟩ hw
    have e' : sz = nI n' := e
    subst e'
    have hI' := hC'.1
    have hn' := gb_Inv_le hI'
    have hP' := gb_hd_lt (hI' i hi').2.1 (hI' i hi').1
    refine pk_le i j (fun z => absurd z (by omega)) (fun _ => ?_)
    refine gb_w_takeDifference hI' hR' hi' (by omega) (fun c2 c3 P2 H2 n2 hI2 hR2 hE2 hB2 hV2 => nm_r (nI_1 j) (hw (nI n2, c2, c3) ⟨P2, H2, n2, rfl, gb_C_ext hC' (by omega) hI2 hE2 hV2, hR2, ?_, ?_, ?_⟩))
    · have := hE2.1
      omega
    · intro v hv hb
      have hpv : 2 ^ v < 16 := Nat.pow_lt_pow_right (a := 2) (n := 4) (by decide) hv
      rw [(hE2.2 i hi').2] at hb
      rw [(hE2.2 i hi').1]
      exact gb_Ext_B hI2 hE2 (gb_xor_lt (gb_tm_lt16 _ hpv) hP') (hS' v hv hb)
    · intro k hk
      rw [gb_Df_ext hE2 hi' (by omega)]
      by_cases e : k = j
      · rw [e]; exact hB2
      · exact gb_Ext_B hI2 hE2 (gb_Df_lt hI' hi' (by omega)) (hD' k (by omega))
theorem gb_w_c40 {post : St1 → Prop} {pr kn bc bd zs : Int32} {a1 a4 : Nat → Int32} {s : Nat} {gv : Nat → Nat}
    (K : ∀ a2' a3' P' H' n', gb_Gb s gv P' H' n' → gb_R a2' a3' P' H' n' → post (pr, kn, nI n', bc, bd, zs, a1, a2', a3', a4)) :
    ∀ (fu i n : Nat) (a2 a3 : Nat → Int32) (P H : Nat → Nat), gb_C s gv P H n i → gb_R a2 a3 P H n → i ≤ n → 17 - i < fu → wX_complete_40 post fu (nI i) pr kn (nI n) bc bd zs a1 a2 a3 a4 := by
  intro fu
  induction fu with
  | zero => intro i n a2 a3 P H _ _ _ h; exact absurd h (by omega)
  | succ fu ih =>
    intro i n a2 a3 P H hC hR hi hf
    have hn := gb_Inv_le hC.1
    refine pk_le n i (fun z => ?_) (fun z => ?_)
    · have e : i = n := by omega
      subst e
      exact K a2 a3 P H i (gb_C_done hC) hR
    · refine gb_w_takeSquares hC.1 hR z (fun b2 b3 P' H' n' hI' hR' hE hS hV => ?_)
      have hz : i < n' := by have := hE.1; omega
      refine gb_w_c55 (gb_C_ext hC hi hI' hE hV) hR' hz ?_ (fun c2 c3 P2 H2 n2 hC2 hR2 hi2 => ih (i + 1) n2 c2 c3 P2 H2 hC2 hR2 hi2 (by omega))
      rw [(hE.2 i z).1, (hE.2 i z).2]
      exact hS
theorem gb_w_complete {post : St1 → Prop} {pr kn sz bc bd zs : Int32} {a1 a2 a3 a4 : Nat → Int32} {s : Nat} {gv : Nat → Nat} (hs : s < 64) (hg : ∀ i, i < 6 → a1 i = nI (gv i) ∧ gv i < 65536)
    (K : ∀ a2' a3' P' H' n', gb_Gb s gv P' H' n' → gb_R a2' a3' P' H' n' → post (pr, kn, nI n', bc, bd, zs, a1, a2', a3', a4)) :
    wpX_complete post (pr, kn, sz, bc, bd, zs, a1, a2, a3, a4) (nI s) := by
  unfold wpX_complete
  refine pk_loop (σ := Int32 × (Nat → Int32) × (Nat → Int32)) (fun fu j t => wX_complete_7 post (nI s) fu (nI j) pr kn t.1 bc bd zs a1 t.2.1 t.2.2 a4)
    (fun j t => ∃ P' H' n', t.1 = nI n' ∧ gb_Inv P' H' n' ∧ gb_R t.2.1 t.2.2 P' H' n' ∧ (∀ k, k < j → s.testBit k = true → gb_B (gb_bs P' H' n') (gv k)) ∧ (∀ p, gb_InV s gv p → gb_Va P' n' p)) 6 0 (0, a2, a3) (by omega)
    ⟨fun _ => 0, fun _ => 0, 0, nI_0.symm, fun i hi => absurd hi (by omega), fun i hi => absurd hi (by omega), fun k hk => absurd hk (by omega), fun p _ i hi => absurd hi (by omega)⟩ ?_ ?_
  · rintro fu ⟨sz, b2, b3⟩ ⟨P', H', n', e, hI', hR', hB', hV'⟩
    have e' : sz = nI n' := e
    subst e'
    refine pk_le 6 6 (fun _ => ⟨18, ?_⟩) (fun z => absurd z (by omega))
    exact gb_w_c40 K 18 0 n' b2 b3 P' H' ⟨hI', fun k hk hsk => ⟨(hg k hk).2, hB' k hk hsk⟩, fun p _ => hV' p, fun k hk => absurd hk (by omega), fun k hk => absurd hk (by omega)⟩ hR' (by omega) (by omega)
  · rintro fu j ⟨sz, b2, b3⟩ hj ⟨P', H', n', e, hI', hR', hB', hV'⟩ hw
    have e' : sz = nI n' := e
    subst e'
    refine pk_le 6 j (fun z => absurd z (by omega)) (fun _ => gb_br0 (by omega) (by omega) (fun hb => nm_r (nI_1 j) (hw (nI n', b2, b3) ⟨P', H', n', rfl, hI', hR', ?_, hV'⟩)) (fun hb => ⟨vp_in_nI hj (by omega), ?_⟩))
    · intro k hk hsk
      by_cases e : k = j
      · rw [e, hb] at hsk
        exact absurd hsk (by decide)
      · exact hB' k (by omega) hsk
    · rw [nI_clamp (show j < 2 ^ 31 by omega), (hg j hj).1]
      refine gb_w_takeIn hI' hR' (hg j hj).2 (fun r c2 c3 P2 H2 n2 hI2 hR2 hE2 hB2 hV2 => nm_r (nI_1 j) (hw (nI n2, c2, c3) ⟨P2, H2, n2, rfl, hI2, hR2, ?_, ?_⟩))
      · intro k hk hsk
        by_cases e : k = j
        · rw [e]; exact hB2
        · exact gb_Ext_B hI2 hE2 (hg k (by omega)).2 (hB' k (by omega) hsk)
      · intro p hp
        exact hV2 p (hV' p hp) (hp j hj hb)
end
section
/-! what is learnt of the completed list -/
theorem gb_w_leastBound {post : Int32 → Prop} {pr kn bc bd zs : Int32} {a1 a2 a3 a4 : Nat → Int32} {P H : Nat → Nat} {n m : Nat} (hI : gb_Inv P H n) (hR : gb_R a2 a3 P H n) (hm : m < 16) (K1 : gb_lst H n m → post 1) (K0 : ¬ gb_lst H n m → post 0) : wpX_leastBound post (pr, kn, nI n, bc, bd, zs, a1, a2, a3, a4) (nI m) := by
  have hn := gb_Inv_le hI
  unfold wpX_leastBound
  refine gb_w_divisor hI hR hm (fun hd => br_t (nI_pos' (by omega)) ?_) (fun hd => br_f (by decide) (K0 (fun h => hd h.1)))
  refine pk_loop (σ := Unit) (fun fu v _ => wX_leastBound_12 post (nI m) pr kn (nI n) bc bd zs a1 a2 a3 a4 fu (nI v)) (fun v _ => ∀ u, u < v → gb_df m (2 ^ u) ≠ m → ¬ gb_dv H (gb_df m (2 ^ u)) n < n) 4 0 () (by omega) (fun u hu => absurd hu (by omega)) ?_ ?_
  · intro fu _ h
    exact pk_le 4 4 (fun _ => K1 ⟨hd, h⟩) (fun z => absurd z (by omega))
  · intro fu v _ hv h hw
    have hpv : 2 ^ v < 16 := Nat.pow_lt_pow_right (a := 2) (n := 4) (by decide) hv
    have hd16 := gb_df16 (2 ^ v) hm
    refine pk_le 4 v (fun z => absurd z (by omega)) (fun _ => nm_r (e' := nI (gb_df m (2 ^ v))) (by rw [gb_one v (by omega), gb_dfI m hm _ hpv]) ?_)
    refine pk_eq (gb_df m (2 ^ v)) m (fun e => nm_r (nI_1 v) (hw () ?_)) (fun e => ?_)
    · intro u hu hne
      by_cases eu : u = v
      · rw [eu] at hne
        exact absurd e hne
      · exact h u (by omega) hne
    · have hle := gb_dv_le H (gb_df m (2 ^ v)) n
      refine gb_w_divisor hI hR hd16 (fun hd2 => br_f (nI_pos (by omega)) (K0 (fun hl => hl.2 v hv e hd2))) (fun hd2 => br_t (by decide) (nm_r (nI_1 v) (hw () ?_)))
      intro u hu hne
      by_cases eu : u = v
      · rw [eu]; exact hd2
      · exact h u (by omega) hne
theorem gb_w_vanishes {post : Int32 → Prop} {pr kn sz bd zs : Int32} {a1 a2 a3 a4 : Nat → Int32} {ba : Nat → Nat} {c p : Nat} (hc : c ≤ 16) (hb : ∀ i, i < c → a4 i = nI (ba i) ∧ ba i < 65536) (hp : p < 16) (K1 : (∀ i, i < c → gb_ev (ba i) p = false) → post 1) (K0 : ¬ (∀ i, i < c → gb_ev (ba i) p = false) → post 0) : wpX_vanishes post (pr, kn, sz, nI c, bd, zs, a1, a2, a3, a4) (nI p) := by
  unfold wpX_vanishes
  refine pk_loop (σ := Unit) (fun fu i _ => wX_vanishes_2 post (nI p) pr kn sz (nI c) bd zs a1 a2 a3 a4 fu (nI i)) (fun i _ => ∀ k, k < i → gb_ev (ba k) p = false) c 0 () (by omega) (fun k hk => absurd hk (by omega)) ?_ ?_
  · intro fu _ h
    exact pk_le c c (fun _ => K1 h) (fun z => absurd z (by omega))
  · intro fu i _ hi h hw
    refine pk_le c i (fun z => absurd z (by omega)) (fun _ => ⟨vp_in_nI (by omega) (by omega), ?_⟩)
    rw [nI_clamp (show i < 2 ^ 31 by omega), (hb i hi).1]
    refine gb_w_valueAt (hb i hi).2 hp ?_
    cases he : gb_ev (ba i) p
    · refine br_t nI_0 (nm_r (nI_1 i) (hw () ?_))
      intro k hk
      by_cases e : k = i
      · rw [e]; exact he
      · exact h k (by omega)
    · refine br_f (by decide) (K0 (fun hl => ?_))
      rw [hl i hi] at he
      exact absurd he (by decide)
theorem gb_set1 {z p : Nat} {X : Nat → Prop} (h : ∀ q, q < 16 → (z.testBit q = true ↔ q < p ∧ X q)) (hx : X p) : ∀ q, q < 16 → ((z ||| 2 ^ p).testBit q = true ↔ q < p + 1 ∧ X q) := by
  intro q hq
  rw [Nat.testBit_or, Bool.or_eq_true, h q hq]
  by_cases e : p = q
  · subst e
    exact ⟨fun _ => ⟨by omega, hx⟩, fun _ => Or.inr Nat.testBit_two_pow_self⟩
  · rw [Nat.testBit_two_pow_of_ne e]
    constructor
    · rintro (z | z)
      · exact ⟨by omega, z.2⟩
      · exact absurd z (by decide)
    · rintro ⟨a, b⟩
      exact Or.inl ⟨by omega, b⟩
theorem gb_set0 {z p : Nat} {X : Nat → Prop} (h : ∀ q, q < 16 → (z.testBit q = true ↔ q < p ∧ X q)) (hx : ¬ X p) : ∀ q, q < 16 → (z.testBit q = true ↔ q < p + 1 ∧ X q) := by
  intro q hq
  rw [h q hq]
  constructor
  · rintro ⟨a, b⟩
    exact ⟨by omega, b⟩
  · rintro ⟨a, b⟩
    by_cases e : q = p
    · rw [e] at b
      exact absurd b hx
    · exact ⟨by omega, b⟩
theorem gb_or0 (z : Nat) : nI z ||| 0 = nI z := by
  rw [← nI_0, gb_nor, Nat.or_zero]
/-- the common zeros as a set of bits -/
def gb_Z (s : Nat) (gv : Nat → Nat) (z : Nat) : Prop := z < 65536 ∧ ∀ p, p < 16 → (z.testBit p = true ↔ gb_InV s gv p)
/-- the heads as a set of bits -/
def gb_Bs (s : Nat) (gv : Nat → Nat) (b : Nat) : Prop := b < 65536 ∧ ∀ m, m < 16 → (b.testBit m = true ↔ gb_Bd s gv m)
theorem gb_w_l114 {post : St1 → Prop} {pr kn sz bd : Int32} {a1 a2 a3 a4 : Nat → Int32} {s : Nat} {gv ba : Nat → Nat} {c : Nat} (hc : c ≤ 16) (hb : ∀ i, i < c → a4 i = nI (ba i) ∧ ba i < 65536) (hz : ∀ p, p < 16 → ((∀ i, i < c → gb_ev (ba i) p = false) ↔ gb_InV s gv p))
    (K : ∀ z, gb_Z s gv z → post (pr, kn, sz, nI c, bd, nI z, a1, a2, a3, a4)) : ∃ fu, wX_learn_114 post pr kn sz (nI c) bd a1 a2 a3 a4 fu 0 0 := by
  refine pk_loop (σ := Int32) (fun fu p t => wX_learn_114 post pr kn sz (nI c) bd a1 a2 a3 a4 fu (nI p) t) (fun p t => ∃ z, t = nI z ∧ z < 65536 ∧ ∀ q, q < 16 → (z.testBit q = true ↔ q < p ∧ gb_InV s gv q)) 16 0 0 (by omega) ⟨0, nI_0.symm, by decide, fun q hq => ?_⟩ ?_ ?_
  · rw [Nat.zero_testBit]
    exact ⟨fun z => absurd z (by decide), fun z => absurd z.1 (by omega)⟩
  · rintro fu t ⟨z, rfl, h1, h2⟩
    refine pk_le 16 16 (fun _ => K z ⟨h1, fun p hp => ?_⟩) (fun z => absurd z (by omega))
    rw [h2 p hp]
    exact ⟨fun w => w.2, fun w => ⟨hp, w⟩⟩
  · rintro fu p t hp ⟨z, rfl, h1, h2⟩ hw
    refine pk_le 16 p (fun z => absurd z (by omega)) (fun _ => gb_w_vanishes hc hb hp (fun hv => br_f gb_1n0 ?_) (fun hv => br_t rfl ?_))
    · exact nm_r (e' := nI (z ||| 2 ^ p)) (by rw [gb_one p hp, gb_nor]) (nm_r (nI_1 p) (hw _ ⟨z ||| 2 ^ p, rfl, Nat.or_lt_two_pow (n := 16) h1 (gb_pw hp), gb_set1 h2 ((hz p hp).mp hv)⟩))
    · exact nm_r (gb_or0 z) (nm_r (nI_1 p) (hw _ ⟨z, rfl, h1, gb_set0 h2 (fun hx => hv ((hz p hp).mpr hx))⟩))
theorem gb_w_l59 {post : St1 → Prop} {J : Int32 → Int32 → Int32 → (Nat → Int32) → (Nat → Int32) → (Nat → Int32) → (Nat → Int32) → Prop} {pr kn bd zs z0 z1 : Int32} {a1 a2 a3 a4 : Nat → Int32} {P H : Nat → Nat} {n m c b' : Nat} (hI : gb_Inv P H n) (hR : gb_R a2 a3 P H n) (hm : m < 16) (hc : c < 16) (e : z1 ||| z0 = nI b')
    (K0 : ¬ gb_lst H n m → J (nI (m + 1)) (nI c) (nI b') a1 a2 a3 a4)
    (K1 : gb_lst H n m → J (nI (m + 1)) (nI (c + 1)) (nI b') a1 a2 a3 (upd a4 c (nI (2 ^ m ^^^ gb_rk (gb_bs P H n) 16 (2 ^ m))))) :
    wX_learn_59 post J (nI m) z0 z1 pr kn (nI n) (nI c) bd zs a1 a2 a3 a4 := by
  unfold wX_learn_59
  refine nm_r e (gb_w_leastBound hI hR hm (fun hl => br_f gb_1n0 ?_) (fun hl => br_t rfl (nm_r (nI_1 m) (K0 hl))))
  rw [gb_one m hm]
  refine gb_w_reduce hI hR (gb_pw hm) ⟨pk_in c 16 hc, ?_⟩
  refine nm_r (e' := upd a4 c (nI (2 ^ m ^^^ gb_rk (gb_bs P H n) 16 (2 ^ m)))) (by rw [nI_clamp (by omega), gb_nxor]) (nm_r (nI_1 c) (nm_r (nI_1 m) (K1 hl)))
theorem gb_w_l33 {post : St1 → Prop} {pr kn zs : Int32} {a1 a2 a3 a4 : Nat → Int32} {s : Nat} {gv P H : Nat → Nat} {n : Nat} (hG : gb_Gb s gv P H n) (hR : gb_R a2 a3 P H n)
    (K : ∀ bc b z a4', gb_Bs s gv b → gb_Z s gv z → post (pr, kn, nI n, bc, nI b, nI z, a1, a2, a3, a4')) : ∃ fu, wX_learn_33 post pr kn (nI n) zs fu 0 0 0 a1 a2 a3 a4 := by
  have hI := hG.1.1
  have hn := gb_Inv_le hI
  have hg := gb_bs_good hI
  refine pk_loop (σ := Int32 × Int32 × (Nat → Int32)) (fun fu m t => wX_learn_33 post pr kn (nI n) zs fu (nI m) t.1 t.2.1 a1 a2 a3 t.2.2)
    (fun m t => ∃ c b ba, t.1 = nI c ∧ t.2.1 = nI b ∧ c ≤ m ∧ b < 65536 ∧ (∀ q, q < 16 → (b.testBit q = true ↔ q < m ∧ gb_dv H q n < n)) ∧ (∀ i, i < c → t.2.2 i = nI (ba i) ∧ ba i < 65536) ∧ (∀ p, p < 16 → ((∀ i, i < c → gb_ev (ba i) p = false) ↔ ∀ q, q < m → gb_lst H n q → gb_ev (2 ^ q ^^^ gb_rk (gb_bs P H n) 16 (2 ^ q)) p = false))) 16 0 (0, 0, a4) (by omega)
    ⟨0, 0, fun _ => 0, nI_0.symm, nI_0.symm, by omega, by decide, fun q hq => ?_, fun i hi => absurd hi (by omega), fun p _ => ⟨fun _ q hq => absurd hq (by omega), fun _ i hi => absurd hi (by omega)⟩⟩ ?_ ?_
  · rw [Nat.zero_testBit]
    exact ⟨fun z => absurd z (by decide), fun z => absurd z.1 (by omega)⟩
  · rintro fu ⟨t1, t2, t3⟩ ⟨c, b, ba, e1, e2, hc, hb, hq, ha, hv⟩
    have e1' : t1 = nI c := e1
    have e2' : t2 = nI b := e2
    subst e1'
    subst e2'
    refine pk_le 16 16 (fun _ => ?_) (fun z => absurd z (by omega))
    refine gb_w_l114 (s := s) (gv := gv) (ba := ba) hc ha (fun p hp => (hv p hp).trans (gb_zero hG hp)) (fun z hz => K (nI c) b z t3 ⟨hb, fun m hm => ?_⟩ hz)
    rw [hq m hm, ← gb_bound hG hm]
    exact ⟨fun w => w.2, fun w => ⟨hm, w⟩⟩
  · rintro fu m ⟨t1, t2, t3⟩ hm ⟨c, b, ba, e1, e2, hc, hb, hq, ha, hv⟩ hw
    have e1' : t1 = nI c := e1
    have e2' : t2 = nI b := e2
    subst e1'
    subst e2'
    have hgm : 2 ^ m ^^^ gb_rk (gb_bs P H n) 16 (2 ^ m) < 65536 := gb_xor_lt (gb_pw hm) (gb_rk_lt16 hg (gb_pw hm))
    have step : ∀ (z0 : Int32) (b' : Nat), nI b ||| z0 = nI b' → b' < 65536 → (∀ q, q < 16 → (b'.testBit q = true ↔ q < m + 1 ∧ gb_dv H q n < n)) → wX_learn_59 post (wX_learn_33 post pr kn (nI n) zs fu) (nI m) z0 (nI b) pr kn (nI n) (nI c) (nI b) zs a1 a2 a3 t3 := by
      intro z0 b' eb hb' hq'
      refine gb_w_l59 hI hR hm (by omega) eb (fun hl => ?_) (fun hl => ?_)
      · refine hw (nI c, nI b', t3) ⟨c, b', ba, rfl, rfl, by omega, hb', hq', ha, fun p hp => (hv p hp).trans ⟨fun h q hq hlq => ?_, fun h q hq hlq => h q (by omega) hlq⟩⟩
        by_cases e : q = m
        · rw [e] at hlq
          exact absurd hlq hl
        · exact h q (by omega) hlq
      · refine hw (nI (c + 1), nI b', upd t3 c (nI (2 ^ m ^^^ gb_rk (gb_bs P H n) 16 (2 ^ m)))) ⟨c + 1, b', gb_up ba c (2 ^ m ^^^ gb_rk (gb_bs P H n) 16 (2 ^ m)), rfl, rfl, by omega, hb', hq', fun i hi => ⟨?_, ?_⟩, fun p hp => ⟨fun h q hq hlq => ?_, fun h i hi => ?_⟩⟩
        · exact gb_fill rfl (fun i hi => (ha i hi).1) rfl i hi
        · by_cases e : i = c
          · rw [e, gb_up_s]; exact hgm
          · rw [gb_up_n e]; exact (ha i (by omega)).2
        · by_cases e : q = m
          · have := h c (by omega)
            rw [gb_up_s] at this
            rw [e]; exact this
          · refine (hv p hp).mp (fun i hi => ?_) q (by omega) hlq
            have := h i (by omega)
            rw [gb_up_n (by omega)] at this
            exact this
        · by_cases e : i = c
          · rw [e, gb_up_s]
            exact h m (by omega) hl
          · rw [gb_up_n e]
            exact (hv p hp).mpr (fun q hq hlq => h q (by omega) hlq) i (by omega)
    refine pk_le 16 m (fun z => absurd z (by omega)) (fun _ => gb_w_divisor hI hR hm (fun hd => br_f (nI_pos (by have := gb_dv_le H m n; omega)) ?_) (fun hd => br_t (by decide) ?_))
    · rw [gb_one m hm]
      exact step (nI (2 ^ m)) (b ||| 2 ^ m) (gb_nor _ _) (Nat.or_lt_two_pow (n := 16) hb (gb_pw hm)) (gb_set1 (X := fun q => gb_dv H q n < n) hq hd)
    · exact step 0 b (gb_or0 b) hb (gb_set0 (X := fun q => gb_dv H q n < n) hq hd)
/-! the pictures of an object: the set s of the generators gv -/
def gb_Lr (s : Nat) (gv P H : Nat → Nat) (n z b : Nat) (u : St1) : Prop :=
  ∃ (bc : Int32) (a1 a2 a3 a4 : Nat → Int32), u = (nI s, 1, nI n, bc, nI b, nI z, a1, a2, a3, a4) ∧ s < 64 ∧ (∀ i, i < 6 → a1 i = nI (gv i) ∧ gv i < 65536) ∧ gb_Gb s gv P H n ∧ gb_R a2 a3 P H n ∧ gb_Z s gv z ∧ gb_Bs s gv b
def gb_Un (s : Nat) (gv : Nat → Nat) (u : St1) : Prop :=
  ∃ (sz bc bd zs : Int32) (a1 a2 a3 a4 : Nat → Int32), u = (nI s, 0, sz, bc, bd, zs, a1, a2, a3, a4) ∧ s < 64 ∧ (∀ i, i < 6 → a1 i = nI (gv i) ∧ gv i < 65536)
def gb_Ok (s : Nat) (gv : Nat → Nat) (u : St1) : Prop := gb_Un s gv u ∨ ∃ P H n z b, gb_Lr s gv P H n z b u
theorem gb_w_learnK {post : St1 → Prop} {s : Nat} {gv P H : Nat → Nat} {n z b : Nat} {u : St1} (h : gb_Lr s gv P H n z b u) (K : post u) : wpX_learn post u := by
  obtain ⟨bc, a1, a2, a3, a4, rfl, _⟩ := h
  exact br_f gb_1n0 K
theorem gb_w_learn {post : St1 → Prop} {s : Nat} {gv : Nat → Nat} {u : St1} (h : gb_Ok s gv u) (K : ∀ u' P H n z b, gb_Lr s gv P H n z b u' → post u') : wpX_learn post u := by
  rcases h with ⟨sz, bc, bd, zs, a1, a2, a3, a4, rfl, hs, hg⟩ | ⟨P, H, n, z, b, h⟩
  · refine br_t rfl (gb_w_complete hs hg (fun b2 b3 P H n hG hR => gb_w_l33 hG hR (fun bc b z a4' hb hz => ?_)))
    exact K _ P H n z b ⟨bc, a1, b2, b3, a4', rfl, hs, hg, hG, hR, hz, hb⟩
  · exact gb_w_learnK h (K u P H n z b h)
end
section
/-! the answers -/
theorem gb_Ok_tup {s : Nat} {gv : Nat → Nat} {u : St1} (h : gb_Ok s gv u) : ∃ (kn sz bc bd zs : Int32) (a1 a2 a3 a4 : Nat → Int32), u = (nI s, kn, sz, bc, bd, zs, a1, a2, a3, a4) ∧ s < 64 ∧ (∀ i, i < 6 → a1 i = nI (gv i) ∧ gv i < 65536) := by
  rcases h with ⟨sz, bc, bd, zs, a1, a2, a3, a4, rfl, hs, hg⟩ | ⟨P, H, n, z, b, bc, a1, a2, a3, a4, rfl, hs, hg, _⟩
  · exact ⟨_, _, _, _, _, _, _, _, _, rfl, hs, hg⟩
  · exact ⟨_, _, _, _, _, _, _, _, _, rfl, hs, hg⟩
theorem gb_w_zeros {post : Int32 → St1 → Prop} {s : Nat} {gv : Nat → Nat} {u : St1} (h : gb_Ok s gv u) (K : ∀ u' P H n z b, gb_Lr s gv P H n z b u' → post (nI z) u') : wpX_zeros post u := by
  obtain ⟨f0, f1, f2, f3, f4, f5, a1, a2, a3, a4⟩ := u
  unfold wpX_zeros
  refine gb_w_learn h (fun u' P H n z b hL => ?_)
  have h2 := hL
  obtain ⟨bc, b1, b2, b3, b4, rfl, _⟩ := h2
  exact K _ P H n z b hL
theorem gb_w_bound {post : Int32 → St1 → Prop} {s : Nat} {gv : Nat → Nat} {u : St1} (h : gb_Ok s gv u) (K : ∀ u' P H n z b, gb_Lr s gv P H n z b u' → post (nI b) u') : wpX_bound post u := by
  obtain ⟨f0, f1, f2, f3, f4, f5, a1, a2, a3, a4⟩ := u
  unfold wpX_bound
  refine gb_w_learn h (fun u' P H n z b hL => ?_)
  have h2 := hL
  obtain ⟨bc, b1, b2, b3, b4, rfl, _⟩ := h2
  exact K _ P H n z b hL
theorem gb_w_zeroCount {post : Int32 → St1 → Prop} {s : Nat} {gv : Nat → Nat} {u : St1} (h : gb_Ok s gv u) (K : ∀ u' P H n z b, gb_Lr s gv P H n z b u' → post (nI (gb_cn (fun p => z.testBit p) 16)) u') : wpX_zeroCount post u := by
  obtain ⟨f0, f1, f2, f3, f4, f5, a1, a2, a3, a4⟩ := u
  unfold wpX_zeroCount
  refine gb_w_learn h (fun u' P H n z b hL => ?_)
  have h2 := hL
  obtain ⟨bc, b1, b2, b3, b4, rfl, _, _, _, _, hz, _⟩ := h2
  have hK := K _ P H n z b hL
  exact pk_loop (σ := Int32) (fun fu i t => wX_zeroCount_8 post (nI s) 1 (nI n) bc (nI b) (nI z) b1 b2 b3 b4 fu t (nI i)) (fun i t => t = nI (gb_cn (fun p => z.testBit p) i)) 16 0 0 (by omega) nI_0.symm
    (fun fu t h => pk_le 16 16 (fun _ => by rw [h]; exact hK) (fun z => absurd z (by omega)))
    (fun fu i t hi h hw => pk_le 16 i (fun z => absurd z (by omega)) (fun _ => nm_r (e' := nI (gb_cn (fun p => z.testBit p) (i + 1))) (by rw [h, gb_bit hz.1 hi, nI_add]; rfl) (nm_r (nI_1 i) (hw _ rfl))))
theorem gb_w_restK {post : Int32 → St1 → Prop} {s : Nat} {gv P H : Nat → Nat} {n z b f : Nat} {u : St1} (h : gb_Lr s gv P H n z b u) (hf : f < 65536) (K : post (nI (gb_rk (gb_bs P H n) 16 f)) u) : wpX_rest post u (nI f) := by
  have h2 := h
  obtain ⟨bc, b1, b2, b3, b4, rfl, _, _, hG, hR, _⟩ := h2
  unfold wpX_rest
  refine gb_w_poly hf (br_f gb_1n0 (gb_w_learnK h ?_))
  exact gb_w_reduce hG.1.1 hR hf K
/-- an answer, true or false -/
def gb_Tr (r : Int32) (V : Prop) : Prop := (r = 1 ∧ V) ∨ (r = 0 ∧ ¬ V)
theorem gb_Tr_eq {r r' : Int32} {V V' : Prop} (h : gb_Tr r V) (h' : gb_Tr r' V') (e : V ↔ V') : r = r' := by
  rcases h with ⟨h1, h2⟩ | ⟨h1, h2⟩
  · rcases h' with ⟨g1, g2⟩ | ⟨g1, g2⟩
    · rw [h1, g1]
    · exact absurd (e.mp h2) g2
  · rcases h' with ⟨g1, g2⟩ | ⟨g1, g2⟩
    · exact absurd (e.mpr g2) h2
    · rw [h1, g1]
theorem gb_w_contains {post : Int32 → St1 → Prop} {s : Nat} {gv : Nat → Nat} {u : St1} {f : Nat} (h : gb_Ok s gv u) (hf : f < 65536) (K : ∀ u' P H n z b r, gb_Lr s gv P H n z b u' → gb_Tr r (∀ p, p < 16 → gb_InV s gv p → gb_ev f p = false) → post r u') : wpX_contains post u (nI f) := by
  obtain ⟨f0, f1, f2, f3, f4, f5, a1, a2, a3, a4⟩ := u
  unfold wpX_contains
  refine gb_w_poly hf (br_f gb_1n0 (gb_w_learn h (fun u' P H n z b hL => ?_)))
  have h2 := hL
  obtain ⟨bc, b1, b2, b3, b4, rfl, _, _, hG, hR, _⟩ := h2
  have hr16 := gb_rk_lt16 (gb_bs_good hG.1.1) hf
  refine gb_w_reduce hG.1.1 hR hf ?_
  exact pk_eq (gb_rk (gb_bs P H n) 16 f) 0 (fun e => K _ P H n z b 1 hL (Or.inl ⟨rfl, (gb_mem hG hf).mp e⟩)) (fun e => K _ P H n z b 0 hL (Or.inr ⟨rfl, fun hv => e ((gb_mem hG hf).mpr hv)⟩))
theorem gb_w_has {post : Int32 → Prop} {kn sz bc bd zs : Int32} {a1 a2 a3 a4 : Nat → Int32} {s i : Nat} (hs : s < 64) (hi : i < 6) (K1 : s.testBit i = true → post 1) (K0 : s.testBit i = false → post 0) : wpX_has post (nI s, kn, sz, bc, bd, zs, a1, a2, a3, a4) (nI i) :=
  pk_lt i 0 (fun z => absurd z (by omega)) (fun _ => pk_le 6 i (fun z => absurd z (by omega)) (fun _ => gb_br0 (by omega) (by omega) K0 K1))
theorem gb_df64 : ∀ s, s < 64 → ∀ i, i < 6 → nI s &&& (nI (2 ^ i) ^^^ (-1)) = nI (gb_df s (2 ^ i)) := by decide +kernel
theorem gb_w_redundant {post : Int32 → St1 → Prop} {s : Nat} {gv : Nat → Nat} {u : St1} {i : Nat} (h : gb_Ok s gv u) (hi : i < 6) (K : ∀ u' r, gb_Ok s gv u' → gb_Tr r (s.testBit i = true ∧ ∀ p, p < 16 → gb_InV (gb_df s (2 ^ i)) gv p → gb_ev (gv i) p = false) → post r u') : wpX_redundant post u (nI i) := by
  obtain ⟨kn, sz, bc, bd, zs, a1, a2, a3, a4, rfl, hs, hg⟩ := gb_Ok_tup h
  have hd64 : gb_df s (2 ^ i) < 64 := Nat.lt_of_le_of_lt (gb_df_le s (2 ^ i)) hs
  unfold wpX_redundant
  refine gb_w_has hs hi (fun hb => br_f gb_1n0 ?_) (fun hb => br_t rfl (K _ 0 h (Or.inr ⟨rfl, fun hc => absurd hc.1 (by rw [hb]; decide)⟩)))
  rw [gb_one i (by omega), gb_df64 s hs i hi]
  refine gb_w_complete hd64 hg (fun b2 b3 P H n hG hR => ⟨pk_in i 6 hi, ?_⟩)
  rw [nI_clamp (show i < 2 ^ 31 by omega), (hg i hi).1]
  have hr16 := gb_rk_lt16 (gb_bs_good hG.1.1) (hg i hi).2
  have hU : gb_Ok s gv (nI s, 0, nI n, bc, bd, zs, a1, b2, b3, a4) := Or.inl ⟨_, _, _, _, _, _, _, _, rfl, hs, hg⟩
  refine gb_w_reduce hG.1.1 hR (hg i hi).2 ?_
  exact pk_eq (gb_rk (gb_bs P H n) 16 (gv i)) 0 (fun e => K _ 1 hU (Or.inl ⟨rfl, hb, (gb_mem hG (hg i hi).2).mp e⟩)) (fun e => K _ 0 hU (Or.inr ⟨rfl, fun hc => e ((gb_mem hG (hg i hi).2).mpr hc.2)⟩))
theorem gb_w_remove0 {post : Int32 → St1 → Prop} {s : Nat} {gv : Nat → Nat} {u : St1} {i : Nat} (h : gb_Ok s gv u) (hi : i < 6) (hb : s.testBit i = false) (K : post 0 u) : wpX_remove post u (nI i) := by
  obtain ⟨kn, sz, bc, bd, zs, a1, a2, a3, a4, rfl, hs, hg⟩ := gb_Ok_tup h
  unfold wpX_remove
  exact gb_w_has hs hi (fun hb2 => absurd hb2 (by rw [hb]; decide)) (fun _ => br_t rfl K)
theorem gb_w_remove1 {post : Int32 → St1 → Prop} {s : Nat} {gv : Nat → Nat} {u : St1} {i : Nat} (h : gb_Ok s gv u) (hi : i < 6) (hb : s.testBit i = true) (K : ∀ u', gb_Ok (gb_df s (2 ^ i)) gv u' → post 1 u') : wpX_remove post u (nI i) := by
  obtain ⟨kn, sz, bc, bd, zs, a1, a2, a3, a4, rfl, hs, hg⟩ := gb_Ok_tup h
  have hd64 : gb_df s (2 ^ i) < 64 := Nat.lt_of_le_of_lt (gb_df_le s (2 ^ i)) hs
  unfold wpX_remove
  refine gb_w_has hs hi (fun _ => br_f gb_1n0 (nm_r (e' := nI (gb_df s (2 ^ i))) (by rw [gb_one i (by omega), gb_df64 s hs i hi]) ?_)) (fun hb2 => absurd hb2 (by rw [hb]; decide))
  exact K _ (Or.inl ⟨_, _, _, _, _, _, _, _, rfl, hd64, hg⟩)
theorem gb_free (s : Nat) : ∀ k, ∃ i, i ≤ k ∧ (∀ j, j < i → s.testBit j = true) ∧ (i < k → s.testBit i = false) := by
  intro k
  induction k with
  | zero => exact ⟨0, by omega, fun j hj => absurd hj (by omega), fun h => absurd h (by omega)⟩
  | succ k ih =>
    obtain ⟨i, h1, h2, h3⟩ := ih
    by_cases hi : i < k
    · exact ⟨i, by omega, h2, fun _ => h3 hi⟩
    · cases hb : s.testBit i
      · exact ⟨i, by omega, h2, fun _ => hb⟩
      · refine ⟨i + 1, by omega, fun j hj => ?_, fun h => absurd h (by omega)⟩
        by_cases e : j = i
        · rw [e]; exact hb
        · exact h2 j (by omega)
theorem gb_w_add {post : Int32 → St1 → Prop} {s : Nat} {gv : Nat → Nat} {u : St1} {f i : Nat} (h : gb_Ok s gv u) (hf : f < 65536) (hi : i ≤ 6) (hlo : ∀ j, j < i → s.testBit j = true) (hfr : i < 6 → s.testBit i = false) (K0 : ¬ i < 6 → post (-2) u) (K1 : i < 6 → ∀ u', gb_Ok (s ||| 2 ^ i) (gb_up gv i f) u' → post (nI i) u') : wpX_add post u (nI f) := by
  obtain ⟨kn, sz, bc, bd, zs, a1, a2, a3, a4, rfl, hs, hg⟩ := gb_Ok_tup h
  unfold wpX_add
  refine gb_w_poly hf (br_f gb_1n0 ?_)
  refine pk_loop (σ := Unit) (fun fu j _ => wX_add_11 post (nI f) (nI s) kn sz bc bd zs a1 a2 a3 a4 fu (nI j)) (fun _ _ => True) i 0 () (by omega) trivial ?_ ?_
  · intro fu _ _
    refine pk_le 6 i (fun z => K0 (by omega)) (fun z => gb_w_has hs z (fun hb => absurd hb (by rw [hfr z]; decide)) (fun hb => br_t rfl ?_))
    refine nm_r (e' := nI (s ||| 2 ^ i)) (by rw [gb_one i (by omega), gb_nor]) ⟨pk_in i 6 z, nm_e (K1 z _ (Or.inl ⟨_, _, _, _, _, _, _, _, rfl, ?_, ?_⟩))⟩
    · exact Nat.or_lt_two_pow (n := 6) hs (Nat.pow_lt_pow_right (by omega) z)
    · intro j hj
      rw [nI_clamp (show i < 2 ^ 31 by omega)]
      by_cases e : j = i
      · rw [e, pk_us, gb_up_s]; exact ⟨rfl, hf⟩
      · rw [pk_un e, gb_up_n e]; exact hg j hj
  · intro fu j _ hj _ hw
    exact pk_le 6 j (fun z => absurd z (by omega)) (fun z => gb_w_has hs z (fun hb => br_f gb_1n0 (nm_r (nI_1 j) (hw () trivial))) (fun hb => absurd (hlo j hj) (by rw [hb]; decide)))
/-! the checks -/
theorem gb_InV_add {s i f p : Nat} {gv : Nat → Nat} (hb : s.testBit i = false) (h : gb_InV (s ||| 2 ^ i) (gb_up gv i f) p) : gb_InV s gv p := by
  intro j hj hs
  have hne : j ≠ i := by
    intro e
    rw [e, hb] at hs
    exact absurd hs (by decide)
  have := h j hj (by rw [Nat.testBit_or, hs, Bool.true_or])
  rw [gb_up_n hne] at this
  exact this
theorem gb_InV_rem {s i p : Nat} {gv : Nat → Nat} (h : gb_InV s gv p) : gb_InV (gb_df s (2 ^ i)) gv p := by
  intro j hj hs
  refine h j hj ?_
  unfold gb_df at hs
  rw [Nat.testBit_xor, Nat.testBit_and] at hs
  revert hs
  cases s.testBit j <;> cases (2 ^ i).testBit j <;> decide
theorem gb_m1 : (-1 : Int32).toBitVec = BitVec.allOnes 32 := by decide
theorem gb_andn {x y : Nat} (hx : x < 65536) (h : ∀ q, q < 16 → x.testBit q = true → y.testBit q = true) : nI x &&& (nI y ^^^ (-1)) = 0 := by
  apply Int32.toBitVec_inj.1
  rw [Int32.toBitVec_and, Int32.toBitVec_xor, gb_m1]
  show BitVec.ofNat 32 x &&& (BitVec.ofNat 32 y ^^^ BitVec.allOnes 32) = 0#32
  apply BitVec.eq_of_getLsbD_eq
  intro i hi
  rw [BitVec.getLsbD_and, BitVec.getLsbD_xor, BitVec.getLsbD_ofNat, BitVec.getLsbD_ofNat, BitVec.getLsbD_allOnes, BitVec.getLsbD_zero]
  rcases Nat.lt_or_ge i 16 with z | z
  · have := h i z
    revert this
    cases x.testBit i <;> cases y.testBit i <;> simp [hi]
  · rw [gb_hi (k := 16) hx z]
    simp
theorem gb_Z_sub {s s' z z' : Nat} {gv gv' : Nat → Nat} (h : gb_Z s gv z) (h' : gb_Z s' gv' z') (hs : ∀ p, gb_InV s gv p → gb_InV s' gv' p) : nI z &&& (nI z' ^^^ (-1)) = 0 :=
  gb_andn h.1 (fun q hq hb => (h'.2 q hq).mpr (hs q ((h.2 q hq).mp hb)))
theorem gb_Z_mv {s z z' a : Nat} {gv gw : Nat → Nat} (ha : a < 16) (hw : ∀ i, i < 6 → gw i = gb_sh (gv i) a) (h : gb_Z s gv z) (h' : gb_Z s gw z') : gb_mv z a = z' :=
  gb_bext (gb_mv_lt z ha) h'.1 (fun p hp => by rw [gb_mv_bit z ha hp, h.2 _ (gb_xr16 hp ha), h'.2 p hp, gb_InV_sh ha hp hw])
theorem gb_Z_cn {s z z' a : Nat} {gv gw : Nat → Nat} (ha : a < 16) (hw : ∀ i, i < 6 → gw i = gb_sh (gv i) a) (h : gb_Z s gv z) (h' : gb_Z s gw z') : gb_cn (fun p => z.testBit p) 16 = gb_cn (fun p => z'.testBit p) 16 := by
  rw [← gb_cn_x (fun p => z.testBit p) ha]
  apply gb_cn_congr
  intro p hp
  rw [Bool.eq_iff_iff, h.2 _ (gb_xr16 hp ha), h'.2 p hp, gb_InV_sh ha hp hw]
theorem gb_Bs_eq {s b b' a : Nat} {gv gw : Nat → Nat} (ha : a < 16) (hw : ∀ i, i < 6 → gw i = gb_sh (gv i) a) (h : gb_Bs s gv b) (h' : gb_Bs s gw b') : b = b' :=
  gb_bext h.1 h'.1 (fun m hm => by rw [h.2 m hm, h'.2 m hm, gb_Bd_sh ha hm hw])
end
section
/-! the law -/
theorem gb_w_l227 {L : Nat} {xs : Nat → Int32} {J : Int32 → Int32 → Int32 → Int32 → Int32 → Int32 → Int32 → (Nat → Int32) → (Nat → Int32) → (Nat → Int32) → (Nat → Int32) → Int32 → Int32 → Int32 → Int32 → Int32 → Int32 → (Nat → Int32) → (Nat → Int32) → (Nat → Int32) → (Nat → Int32) → Prop}
    {a k f i g kc ks s : Nat} {gv gw : Nat → Nat} {o0 o1 o2 o3 o4 o5 : Int32} {b1 b2 b3 b4 : Nat → Int32} {q0 q1 q2 q3 q4 q5 : Int32} {c1 c2 c3 c4 : Nat → Int32}
    (ha : a < 16) (hf : f < 65536) (hg : g < 65536) (hi : i < 6) (hO : gb_Ok s gv (o0, o1, o2, o3, o4, o5, b1, b2, b3, b4)) (hQ : gb_Ok s gw (q0, q1, q2, q3, q4, q5, c1, c2, c3, c4)) (hw : ∀ i, i < 6 → gw i = gb_sh (gv i) a)
    (K : ∀ (o0 o1 o2 o3 o4 o5 : Int32) (b1 b2 b3 b4 : Nat → Int32) (q0 q1 q2 q3 q4 q5 : Int32) (c1 c2 c3 c4 : Nat → Int32), gb_Ok s gv (o0, o1, o2, o3, o4, o5, b1, b2, b3, b4) → gb_Ok s gw (q0, q1, q2, q3, q4, q5, c1, c2, c3, c4) → J (nI (k + 2)) o0 o1 o2 o3 o4 o5 b1 b2 b3 b4 q0 q1 q2 q3 q4 q5 c1 c2 c3 c4) :
    wL_law_227 (fun r => r = 1) L xs J (nI a) (nI k) (nI f) (nI i) (nI g) kc ks o0 o1 o2 o3 o4 o5 b1 b2 b3 b4 q0 q1 q2 q3 q4 q5 c1 c2 c3 c4 := by
  unfold wL_law_227
  refine gb_w_shifted hg (gb_w_zeros hO (fun u1 P H n z b hL => ?_))
  have h2 := hL
  obtain ⟨x0, x1, x2, x3, x4, rfl, _, _, _, _, hz, _⟩ := h2
  refine gb_w_moved hz.1 ha (gb_w_product hf hg (gb_w_shifted (gb_pr_lt f g) (gb_w_shifted hf (gb_w_product (gb_sh_lt16 a hf) (gb_sh_lt16 a hg) ?_))))
  rw [gb_nxor]
  refine gb_w_restK hL (gb_xor_lt hg hf) (gb_w_restK hL hg (gb_w_restK hL hf (nm_e ?_)))
  refine gb_w_zeros hQ (fun u2 P2 H2 n2 z2 b2 hL2 => ?_)
  have h2 := hL2
  obtain ⟨y0, y1, y2, y3, y4, rfl, _, _, _, _, hz2, _⟩ := h2
  refine br_t (congrArg nI (gb_Z_mv ha hw hz hz2)) ?_
  refine gb_w_contains (Or.inr ⟨_, _, _, _, _, hL⟩) hg (fun u3 P3 H3 n3 z3 b3 r3 hL3 hT3 => ?_)
  have h2 := hL3
  obtain ⟨x0, x1, x2, x3, x4, rfl, _⟩ := h2
  refine gb_w_contains (Or.inr ⟨_, _, _, _, _, hL2⟩) (gb_sh_lt16 a hg) (fun u4 P4 H4 n4 z4 b4 r4 hL4 hT4 => ?_)
  have h2 := hL4
  obtain ⟨y0, y1, y2, y3, y4, rfl, _⟩ := h2
  refine br_t (gb_Tr_eq hT3 hT4 (gb_van_sh ha hw)) ?_
  refine gb_w_redundant (Or.inr ⟨_, _, _, _, _, hL3⟩) hi (fun u5 r5 hO5 hT5 => ?_)
  obtain ⟨m0, m1, m2, m3, m4, m5, m6, m7, m8, m9⟩ := u5
  refine gb_w_redundant (Or.inr ⟨_, _, _, _, _, hL4⟩) hi (fun u6 r6 hO6 hT6 => ?_)
  obtain ⟨l0, l1, l2, l3, l4, l5, l6, l7, l8, l9⟩ := u6
  refine br_t (gb_Tr_eq hT5 hT6 (and_congr_right (fun _ => by rw [hw i hi]; exact gb_van_sh ha hw))) ?_
  refine br_t (congrArg nI (gb_sh_pr ha)) ?_
  refine gb_w_zeroCount hO5 (fun u7 P7 H7 n7 z7 b7 hL7 => ?_)
  have h2 := hL7
  obtain ⟨x0, x1, x2, x3, x4, rfl, _, _, _, _, hz7, _⟩ := h2
  refine gb_w_zeroCount hO6 (fun u8 P8 H8 n8 z8 b8 hL8 => ?_)
  have h2 := hL8
  obtain ⟨y0, y1, y2, y3, y4, rfl, _, _, _, _, hz8, _⟩ := h2
  refine br_t (congrArg nI (gb_Z_cn ha hw hz7 hz8)) ?_
  refine br_t (by rw [gb_nxor, gb_rk_xor]) ?_
  refine gb_w_bound (Or.inr ⟨_, _, _, _, _, hL7⟩) (fun u9 P9 H9 n9 z9 b9 hL9 => ?_)
  have h2 := hL9
  obtain ⟨x0, x1, x2, x3, x4, rfl, _, _, _, _, _, hb9⟩ := h2
  refine gb_w_bound (Or.inr ⟨_, _, _, _, _, hL8⟩) (fun uA PA HA nA zA bA hLA => ?_)
  have h2 := hLA
  obtain ⟨y0, y1, y2, y3, y4, rfl, _, _, _, _, _, hbA⟩ := h2
  refine br_t (congrArg nI (gb_Bs_eq ha hw hb9 hbA)) (nm_r (nI_add k 2) ?_)
  exact K _ _ _ _ _ _ _ _ _ _ _ _ _ _ _ _ _ _ _ _ (Or.inr ⟨_, _, _, _, _, hL9⟩) (Or.inr ⟨_, _, _, _, _, hLA⟩)
theorem gb_x8 (y : Int32) : ∃ i, i < 6 ∧ (y &&& 255) - (y &&& 255) / 6 * 6 = nI i := by
  obtain ⟨j, hj, e⟩ := pk_andE y (m := 255) 8 (by decide)
  refine ⟨j % 6, Nat.mod_lt _ (by omega), ?_⟩
  rw [e]
  exact pk_rem (a := j) (d := 6) (by omega) (by omega) (by omega)
theorem gb_w_l93 {L : Nat} {xs : Nat → Int32} {J : Int32 → Int32 → Int32 → Int32 → Int32 → Int32 → Int32 → (Nat → Int32) → (Nat → Int32) → (Nat → Int32) → (Nat → Int32) → Int32 → Int32 → Int32 → Int32 → Int32 → Int32 → (Nat → Int32) → (Nat → Int32) → (Nat → Int32) → (Nat → Int32) → Prop}
    {a k f kc ks s : Nat} {x5 : Int32} {gv gw : Nat → Nat} {o0 o1 o2 o3 o4 o5 : Int32} {b1 b2 b3 b4 : Nat → Int32} {q0 q1 q2 q3 q4 q5 : Int32} {c1 c2 c3 c4 : Nat → Int32}
    (hL : L ≤ 260) (hk : k + 1 < L) (ha : a < 16) (hf : f < 65536) (hO : gb_Ok s gv (o0, o1, o2, o3, o4, o5, b1, b2, b3, b4)) (hQ : gb_Ok s gw (q0, q1, q2, q3, q4, q5, c1, c2, c3, c4)) (hw : ∀ i, i < 6 → gw i = gb_sh (gv i) a)
    (K : ∀ (s : Nat) (gv gw : Nat → Nat) (o0 o1 o2 o3 o4 o5 : Int32) (b1 b2 b3 b4 : Nat → Int32) (q0 q1 q2 q3 q4 q5 : Int32) (c1 c2 c3 c4 : Nat → Int32), (∀ i, i < 6 → gw i = gb_sh (gv i) a) → gb_Ok s gv (o0, o1, o2, o3, o4, o5, b1, b2, b3, b4) → gb_Ok s gw (q0, q1, q2, q3, q4, q5, c1, c2, c3, c4) → J (nI (k + 2)) o0 o1 o2 o3 o4 o5 b1 b2 b3 b4 q0 q1 q2 q3 q4 q5 c1 c2 c3 c4) :
    wL_law_93 (fun r => r = 1) L xs J (nI a) (nI k) x5 (nI f) kc ks o0 o1 o2 o3 o4 o5 b1 b2 b3 b4 q0 q1 q2 q3 q4 q5 c1 c2 c3 c4 := by
  unfold wL_law_93
  obtain ⟨i, hi, ei⟩ := gb_x8 ((xs (nI k).toNatClampNeg) >>> ((20 : Int32) &&& 31))
  obtain ⟨g, hg, eg⟩ := pk_andE (xs (nI k + 1).toNatClampNeg) (m := 65535) 16 (by decide)
  refine ⟨pk_in k L (by omega), by decide, nm_r ei ⟨pk_in (k + 1) L hk (nI_1 k), nm_r eg ?_⟩⟩
  refine gb_w_zeros hO (fun u1 P H n z b hL1 => ?_)
  have h2 := hL1
  obtain ⟨x0, x1, x2, x3, x4, rfl, _, _, _, _, hz, _⟩ := h2
  have hO1 : gb_Ok s gv _ := Or.inr ⟨_, _, _, _, _, hL1⟩
  refine br_c (fun _ => ?_) (fun _ => gb_w_shifted hf ?_)
  · cases hb : s.testBit i
    · refine gb_w_remove0 hO1 hi hb (gb_w_remove0 hQ hi hb (gb_w_zeros hO1 (fun u2 P2 H2 n2 z2 b2 hL2 => ?_)))
      have h2 := hL2
      obtain ⟨x0, x1, x2, x3, x4, rfl, _, _, _, _, hz2, _⟩ := h2
      refine br_t rfl (br_t (gb_Z_sub hz hz2 (fun p h => h)) ?_)
      exact gb_w_l227 ha hf hg hi (Or.inr ⟨_, _, _, _, _, hL2⟩) hQ hw (fun _ _ _ _ _ _ _ _ _ _ _ _ _ _ _ _ _ _ _ _ h1 h2 => K s gv gw _ _ _ _ _ _ _ _ _ _ _ _ _ _ _ _ _ _ _ _ hw h1 h2)
    · refine gb_w_remove1 hO1 hi hb (fun v1 hV1 => ?_)
      obtain ⟨m0, m1, m2, m3, m4, m5, m6, m7, m8, m9⟩ := v1
      refine gb_w_remove1 hQ hi hb (fun v2 hV2 => ?_)
      obtain ⟨l0, l1, l2, l3, l4, l5, l6, l7, l8, l9⟩ := v2
      refine gb_w_zeros hV1 (fun u2 P2 H2 n2 z2 b2 hL2 => ?_)
      have h2 := hL2
      obtain ⟨x0, x1, x2, x3, x4, rfl, _, _, _, _, hz2, _⟩ := h2
      refine br_t rfl (br_t (gb_Z_sub hz hz2 (fun p h => gb_InV_rem h)) ?_)
      exact gb_w_l227 ha hf hg hi (Or.inr ⟨_, _, _, _, _, hL2⟩) hV2 hw (fun _ _ _ _ _ _ _ _ _ _ _ _ _ _ _ _ _ _ _ _ h1 h2 => K _ gv gw _ _ _ _ _ _ _ _ _ _ _ _ _ _ _ _ _ _ _ _ hw h1 h2)
  · obtain ⟨e, he, hlo, hfr⟩ := gb_free s 6
    by_cases h6 : e < 6
    · refine gb_w_add hO1 hf he hlo hfr (fun z => absurd h6 z) (fun _ v1 hV1 => ?_)
      obtain ⟨m0, m1, m2, m3, m4, m5, m6, m7, m8, m9⟩ := v1
      refine gb_w_add hQ (gb_sh_lt16 a hf) he hlo hfr (fun z => absurd h6 z) (fun _ v2 hV2 => ?_)
      obtain ⟨l0, l1, l2, l3, l4, l5, l6, l7, l8, l9⟩ := v2
      refine gb_w_zeros hV1 (fun u2 P2 H2 n2 z2 b2 hL2 => ?_)
      have h2 := hL2
      obtain ⟨x0, x1, x2, x3, x4, rfl, _, _, _, _, hz2, _⟩ := h2
      have hw' : ∀ j, j < 6 → gb_up gw e (gb_sh f a) j = gb_sh (gb_up gv e f j) a := by
        intro j hj
        by_cases ej : j = e
        · rw [ej, gb_up_s, gb_up_s]
        · rw [gb_up_n ej, gb_up_n ej]; exact hw j hj
      refine br_t rfl (br_t (gb_Z_sub hz2 hz (fun p h => gb_InV_add (hfr h6) h)) ?_)
      exact gb_w_l227 ha hf hg hi (Or.inr ⟨_, _, _, _, _, hL2⟩) hV2 hw' (fun _ _ _ _ _ _ _ _ _ _ _ _ _ _ _ _ _ _ _ _ h1 h2 => K _ _ _ _ _ _ _ _ _ _ _ _ _ _ _ _ _ _ _ _ _ _ _ hw' h1 h2)
    · refine gb_w_add hO1 hf he hlo hfr (fun _ => ?_) (fun z => absurd z h6)
      refine gb_w_add hQ (gb_sh_lt16 a hf) he hlo hfr (fun _ => ?_) (fun z => absurd z h6)
      refine gb_w_zeros hO1 (fun u2 P2 H2 n2 z2 b2 hL2 => ?_)
      have h2 := hL2
      obtain ⟨x0, x1, x2, x3, x4, rfl, _, _, _, _, hz2, _⟩ := h2
      refine br_t rfl (br_t (gb_Z_sub hz2 hz (fun p h => h)) ?_)
      exact gb_w_l227 ha hf hg hi (Or.inr ⟨_, _, _, _, _, hL2⟩) hQ hw (fun _ _ _ _ _ _ _ _ _ _ _ _ _ _ _ _ _ _ _ _ h1 h2 => K s gv gw _ _ _ _ _ _ _ _ _ _ _ _ _ _ _ _ _ _ _ _ hw h1 h2)
theorem gb_f3 {x : Nat} (hx : x < 65536) : ∃ f, f < 65536 ∧ (nI x &&& (nI x >>> ((2 : Int32) &&& 31))) &&& (nI x >>> ((5 : Int32) &&& 31)) = nI f := by
  refine ⟨x &&& (x / 2 ^ 2) &&& (x / 2 ^ 5), ?_, ?_⟩
  · have h1 : x &&& (x / 2 ^ 2) &&& (x / 2 ^ 5) ≤ x &&& (x / 2 ^ 2) := Nat.and_le_left
    have h2 : x &&& (x / 2 ^ 2) ≤ x := Nat.and_le_left
    omega
  · rw [pk_shrN (by omega) _ 2 (by decide), pk_shrN (by omega) _ 5 (by decide), gb_nand, gb_nand]
theorem gb_w_l35 {L : Nat} {xs : Nat → Int32} {a kc ks : Nat} (hL : L ≤ 260) (ha : a < 16) : ∀ (fu k s : Nat) (gv gw : Nat → Nat) (o0 o1 o2 o3 o4 o5 : Int32) (b1 b2 b3 b4 : Nat → Int32) (q0 q1 q2 q3 q4 q5 : Int32) (c1 c2 c3 c4 : Nat → Int32), k ≤ L + 1 → L + 2 - k < fu → (∀ i, i < 6 → gw i = gb_sh (gv i) a) → gb_Ok s gv (o0, o1, o2, o3, o4, o5, b1, b2, b3, b4) → gb_Ok s gw (q0, q1, q2, q3, q4, q5, c1, c2, c3, c4) →
    wL_law_35 (fun r => r = 1) L xs (nI a) kc ks fu (nI k) o0 o1 o2 o3 o4 o5 b1 b2 b3 b4 q0 q1 q2 q3 q4 q5 c1 c2 c3 c4 := by
  intro fu
  induction fu with
  | zero => intros; omega
  | succ fu ih =>
    intro k s gv gw o0 o1 o2 o3 o4 o5 b1 b2 b3 b4 q0 q1 q2 q3 q4 q5 c1 c2 c3 c4 hk hfu hw hO hQ
    refine pk_le L (k + 1) (fun _ => rfl) (fun hlt => ?_) rfl (nI_1 k)
    obtain ⟨x, hx, ex⟩ := pk_andE ((xs (nI k).toNatClampNeg) >>> ((3 : Int32) &&& 31)) (m := 65535) 16 (by decide)
    obtain ⟨f, hf, ef⟩ := gb_f3 hx
    refine ⟨pk_in k L (by omega), nm_e ⟨pk_in k L (by omega), nm_r ex ⟨pk_in k L (by omega), br_c (fun _ => ?_) (fun _ => ?_)⟩⟩⟩
    · rw [ef]
      exact gb_w_l93 hL hlt ha hf hO hQ hw (fun s gv gw o0 o1 o2 o3 o4 o5 b1 b2 b3 b4 q0 q1 q2 q3 q4 q5 c1 c2 c3 c4 hw h1 h2 => ih (k + 2) s gv gw o0 o1 o2 o3 o4 o5 b1 b2 b3 b4 q0 q1 q2 q3 q4 q5 c1 c2 c3 c4 (by omega) (by omega) hw h1 h2)
    · exact gb_w_l93 hL hlt ha hx hO hQ hw (fun s gv gw o0 o1 o2 o3 o4 o5 b1 b2 b3 b4 q0 q1 q2 q3 q4 q5 c1 c2 c3 c4 hw h1 h2 => ih (k + 2) s gv gw o0 o1 o2 o3 o4 o5 b1 b2 b3 b4 q0 q1 q2 q3 q4 q5 c1 c2 c3 c4 (by omega) (by omega) hw h1 h2)
theorem gb_w_l15 {L : Nat} {xs : Nat → Int32} {a : Nat} (hL : L ≤ 260) (ha : a < 16) : wL_law_15 (fun r => r = 1) L xs (nI a) 0 0 := by
  unfold wL_law_15
  have h0 : gb_Ok 0 (fun _ => 0) (0, 0, 0, 0, 0, 0, (fun _ => 0), (fun _ => 0), (fun _ => 0), (fun _ => 0)) := Or.inl ⟨_, _, _, _, _, _, _, _, rfl, by decide, fun i _ => ⟨nI_0.symm, (by decide : 0 < 65536)⟩⟩
  refine ⟨by omega, by omega, 4, 86, by omega, by omega, ?_⟩
  refine ⟨by omega, by omega, by omega, by omega, by omega, by omega, by omega, by omega, ?_⟩
  refine ⟨by omega, by omega, 4, 86, by omega, by omega, ?_⟩
  refine ⟨by omega, by omega, by omega, by omega, by omega, by omega, by omega, by omega, ?_⟩
  exact ⟨L + 3, gb_w_l35 hL ha (L + 3) 1 0 (fun _ => 0) (fun _ => 0) _ _ _ _ _ _ _ _ _ _ _ _ _ _ _ _ _ _ _ _ (by omega) (by omega) (fun i _ => (gb_sh_0 ha).symm) h0 h0⟩
theorem i_vc (xs : Nat → Int32) (L : Nat) (hL : L ≤ 260) : wpL_law (fun r => r = 1) L xs := by
  unfold wpL_law
  refine pk_le L 0 (fun _ => gb_w_l15 (a := 5) hL (by decide)) (fun h => ⟨pk_in 0 L h, ?_⟩)
  obtain ⟨a, ha, ea⟩ := pk_andE (xs (0 : Int32).toNatClampNeg) (m := 15) 4 (by decide)
  rw [ea]
  exact gb_w_l15 hL ha
end
