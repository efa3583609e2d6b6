section
/-! ===== Int32 by its bits ===== -/
def gb_t (x : Int32) (i : Nat) : Bool := x.toBitVec.getLsbD i
theorem gb_ext {x y : Int32} (h : ∀ i, i < 32 → gb_t x i = gb_t y i) : x = y := Int32.toBitVec_inj.mp (BitVec.eq_of_getLsbD_eq (fun i hi => h i hi))
theorem gb_or (x y : Int32) (i : Nat) : gb_t (x ||| y) i = (gb_t x i || gb_t y i) := by unfold gb_t; rw [Int32.toBitVec_or, BitVec.getLsbD_or]
theorem gb_and (x y : Int32) (i : Nat) : gb_t (x &&& y) i = (gb_t x i && gb_t y i) := by unfold gb_t; rw [Int32.toBitVec_and, BitVec.getLsbD_and]
theorem gb_xor (x y : Int32) (i : Nat) : gb_t (x ^^^ y) i = (gb_t x i ^^ gb_t y i) := by unfold gb_t; rw [Int32.toBitVec_xor, BitVec.getLsbD_xor]
theorem gb_big {x : Int32} {i : Nat} (h : 32 ≤ i) : gb_t x i = false := BitVec.getLsbD_of_ge _ _ h
theorem gb_m1 : ∀ i, i < 32 → gb_t (-1) i = true := by decide +kernel
theorem gb_0 (i : Nat) : gb_t 0 i = false := BitVec.getLsbD_zero
theorem gb_1 : ∀ i, i < 32 → gb_t 1 i = decide (i = 0) := by decide +kernel
theorem gb_sl : ∀ n, n < 32 → ((nI n &&& 31).toBitVec.smod 32).toNat = n := by decide +kernel
theorem gb_shl (n : Nat) (hn : n < 32) (x : Int32) {i : Nat} (hi : i < 32) : gb_t (x <<< (nI n &&& 31)) i = (decide (n ≤ i) && gb_t x (i - n)) := by
  unfold gb_t
  rw [Int32.toBitVec_shiftLeft]
  show (x.toBitVec <<< ((nI n &&& 31).toBitVec.smod 32).toNat).getLsbD i = _
  rw [gb_sl n hn, BitVec.getLsbD_shiftLeft]
  rcases Nat.lt_or_ge i n with h | h
  · simp [h, Nat.not_le.mpr h]
  · simp [hi, h, Nat.not_lt.mpr h]
theorem gb_sshr (n : Nat) (hn : n < 32) (x : Int32) {i : Nat} (hi : i < 32) : gb_t (x >>> (nI n &&& 31)) i = if n + i < 32 then gb_t x (n + i) else gb_t x 31 := by
  unfold gb_t
  rw [Int32.toBitVec_shiftRight]
  show (x.toBitVec.sshiftRight ((nI n &&& 31).toBitVec.smod 32).toNat).getLsbD i = _
  rw [gb_sl n hn, BitVec.getLsbD_sshiftRight, BitVec.msb_eq_getLsbD_last]
  simp [hi]
/-- bit x of v, as the code takes it -/
theorem gb_at (v : Int32) (x : Nat) (hx : x < 32) : ((v >>> (nI x &&& 31)) &&& 1) = if gb_t v x = true then 1 else 0 := by
  apply gb_ext
  intro i hi
  rw [gb_and, gb_sshr x hx v hi, gb_1 i hi]
  by_cases e : i = 0
  · subst e
    rw [if_pos (by omega), Nat.add_zero]
    cases hv : gb_t v x
    · decide
    · decide
  · rw [decide_eq_false e, Bool.and_false]
    cases hv : gb_t v x
    · exact (gb_0 i).symm
    · show false = gb_t 1 i
      rw [gb_1 i hi, decide_eq_false e]
theorem gb_at0 {v : Int32} {x : Nat} (hx : x < 32) (h : gb_t v x = false) : ((v >>> (nI x &&& 31)) &&& 1) = 0 := by
  rw [gb_at v x hx, h]
  rfl
theorem gb_at1 {v : Int32} {x : Nat} (hx : x < 32) (h : gb_t v x = true) : ((v >>> (nI x &&& 31)) &&& 1) = 1 := by
  rw [gb_at v x hx, h]
  rfl
theorem gb_nI {n p x : Nat} (hn : n < 2 ^ p) (h : gb_t (nI n) x = true) : x < p := by
  rcases Nat.lt_or_ge x p with z | z
  · exact z
  · have h1 : (BitVec.ofNat 32 n).getLsbD x = true := h
    rw [BitVec.getLsbD_ofNat, Nat.testBit_lt_two_pow (Nat.lt_of_lt_of_le hn (Nat.pow_le_pow_right (by omega) z)), Bool.and_false] at h1
    exact absurd h1 (by decide)
theorem gb_set {s : Int32} {i x : Nat} (hi : i < 32) (hx : x < 32) : gb_t (s ||| ((1 : Int32) <<< (nI i &&& 31))) x = (gb_t s x || decide (x = i)) := by
  rw [gb_or, gb_shl i hi 1 hx, gb_1 (x - i) (by omega), ← Bool.decide_and, decide_eq_decide.mpr (show (i ≤ x ∧ x - i = 0) ↔ x = i by omega)]
/-- an int that isn't 0 holds a bit -/
theorem gb_some {v : Int32} (h : ¬ v = 0) : ∃ i, i < 32 ∧ gb_t v i = true := by
  apply Classical.byContradiction
  intro z
  apply h
  apply gb_ext
  intro i hi
  rw [gb_0]
  cases hb : gb_t v i
  · rfl
  · exact absurd ⟨i, hi, hb⟩ z
end
section
/-! ===== the plain law: tables A (at least) and B (at most) that obey their equations ===== -/
def gv_T (c : Nat) (L R : Nat → Nat → Prop) (A B : Nat → Nat → Nat → Prop) : Prop :=
  (∀ p x, p < c → L p x → x < p) ∧ (∀ p x, p < c → R p x → x < p) ∧
  (∀ p q r, p < c → q < c → r < c → (A p q r ↔ ∀ x, x < c → ¬ (R p x ∧ B x q r) ∧ ¬ (R q x ∧ B p x r) ∧ ¬ (L r x ∧ B p q x))) ∧
  (∀ p q r, p < c → q < c → r < c → (B p q r ↔ ∀ x, x < c → ¬ (L p x ∧ A x q r) ∧ ¬ (L q x ∧ A p x r) ∧ ¬ (R r x ∧ A p q x)))
theorem gv_sym1 {c : Nat} {L R : Nat → Nat → Prop} {A B : Nat → Nat → Nat → Prop} (h : gv_T c L R A B) : ∀ n p q r, p + q + r < n → p < c → q < c → r < c → (A p q r → A q p r) ∧ (B p q r → B q p r) := by
  obtain ⟨hL, hR, hA, hB⟩ := h
  intro n
  induction n with
  | zero => intro p q r hn; exact absurd hn (by omega)
  | succ n ih =>
    intro p q r hn hp hq hr
    constructor
    · intro h
      refine (hA q p r hq hp hr).mpr (fun x hx => ?_)
      have t := (hA p q r hp hq hr).mp h x hx
      refine ⟨fun z => ?_, fun z => ?_, fun z => ?_⟩
      · have := hR q x hq z.1
        exact t.2.1 ⟨z.1, (ih x p r (by omega) hx hp hr).2 z.2⟩
      · have := hR p x hp z.1
        exact t.1 ⟨z.1, (ih q x r (by omega) hq hx hr).2 z.2⟩
      · have := hL r x hr z.1
        exact t.2.2 ⟨z.1, (ih q p x (by omega) hq hp hx).2 z.2⟩
    · intro h
      refine (hB q p r hq hp hr).mpr (fun x hx => ?_)
      have t := (hB p q r hp hq hr).mp h x hx
      refine ⟨fun z => ?_, fun z => ?_, fun z => ?_⟩
      · have := hL q x hq z.1
        exact t.2.1 ⟨z.1, (ih x p r (by omega) hx hp hr).1 z.2⟩
      · have := hL p x hp z.1
        exact t.1 ⟨z.1, (ih q x r (by omega) hq hx hr).1 z.2⟩
      · have := hR r x hr z.1
        exact t.2.2 ⟨z.1, (ih q p x (by omega) hq hp hx).1 z.2⟩
theorem gv_symA {c : Nat} {L R : Nat → Nat → Prop} {A B : Nat → Nat → Nat → Prop} (h : gv_T c L R A B) {p q r : Nat} (hp : p < c) (hq : q < c) (hr : r < c) : A p q r ↔ A q p r :=
  ⟨(gv_sym1 h _ p q r (Nat.lt_succ_self _) hp hq hr).1, (gv_sym1 h _ q p r (Nat.lt_succ_self _) hq hp hr).1⟩
theorem gv_symB {c : Nat} {L R : Nat → Nat → Prop} {A B : Nat → Nat → Nat → Prop} (h : gv_T c L R A B) {p q r : Nat} (hp : p < c) (hq : q < c) (hr : r < c) : B p q r ↔ B q p r :=
  ⟨(gv_sym1 h _ p q r (Nat.lt_succ_self _) hp hq hr).2, (gv_sym1 h _ q p r (Nat.lt_succ_self _) hq hp hr).2⟩
theorem gv_dual1 {c : Nat} {L R : Nat → Nat → Prop} {A B : Nat → Nat → Nat → Prop} (h : gv_T c L R A B) : ∀ n p q, p + q < n → p < c → q < c → (A p 0 q → B q 0 p) ∧ (B p 0 q → A q 0 p) := by
  obtain ⟨hL, hR, hA, hB⟩ := h
  intro n
  induction n with
  | zero => intro p q hn; exact absurd hn (by omega)
  | succ n ih =>
    intro p q hn hp hq
    have h0 : 0 < c := by omega
    constructor
    · intro h
      refine (hB q 0 p hq h0 hp).mpr (fun x hx => ?_)
      have t := (hA p 0 q hp h0 hq).mp h x hx
      refine ⟨fun z => ?_, fun z => ?_, fun z => ?_⟩
      · have := hL q x hq z.1
        exact t.2.2 ⟨z.1, (ih x p (by omega) hx hp).1 z.2⟩
      · exact absurd (hL 0 x h0 z.1) (by omega)
      · have := hR p x hp z.1
        exact t.1 ⟨z.1, (ih q x (by omega) hq hx).1 z.2⟩
    · intro h
      refine (hA q 0 p hq h0 hp).mpr (fun x hx => ?_)
      have t := (hB p 0 q hp h0 hq).mp h x hx
      refine ⟨fun z => ?_, fun z => ?_, fun z => ?_⟩
      · have := hR q x hq z.1
        exact t.2.2 ⟨z.1, (ih x p (by omega) hx hp).2 z.2⟩
      · exact absurd (hR 0 x h0 z.1) (by omega)
      · have := hL p x hp z.1
        exact t.1 ⟨z.1, (ih q x (by omega) hq hx).2 z.2⟩
theorem gv_dual {c : Nat} {L R : Nat → Nat → Prop} {A B : Nat → Nat → Nat → Prop} (h : gv_T c L R A B) {p q : Nat} (hp : p < c) (hq : q < c) : A p 0 q ↔ B q 0 p :=
  ⟨(gv_dual1 h _ p q (Nat.lt_succ_self _) hp hq).1, (gv_dual1 h _ q p (Nat.lt_succ_self _) hq hp).2⟩
theorem gv_refl1 {c : Nat} {L R : Nat → Nat → Prop} {A B : Nat → Nat → Nat → Prop} (h : gv_T c L R A B) : ∀ n p, p < n → p < c → A p 0 p ∧ B p 0 p := by
  obtain ⟨hL, hR, hA, hB⟩ := h
  intro n
  induction n with
  | zero => intro p hn; exact absurd hn (by omega)
  | succ n ih =>
    intro p hn hp
    have h0 : 0 < c := by omega
    constructor
    · refine (hA p 0 p hp h0 hp).mpr (fun x hx => ?_)
      refine ⟨fun z => ?_, fun z => ?_, fun z => ?_⟩
      · have := hR p x hp z.1
        exact ((hB x 0 p hx h0 hp).mp z.2 x hx).2.2 ⟨z.1, (ih x (by omega) hx).1⟩
      · exact absurd (hR 0 x h0 z.1) (by omega)
      · have := hL p x hp z.1
        exact ((hB p 0 x hp h0 hx).mp z.2 x hx).1 ⟨z.1, (ih x (by omega) hx).1⟩
    · refine (hB p 0 p hp h0 hp).mpr (fun x hx => ?_)
      refine ⟨fun z => ?_, fun z => ?_, fun z => ?_⟩
      · have := hL p x hp z.1
        exact ((hA x 0 p hx h0 hp).mp z.2 x hx).2.2 ⟨z.1, (ih x (by omega) hx).2⟩
      · exact absurd (hL 0 x h0 z.1) (by omega)
      · have := hR p x hp z.1
        exact ((hA p 0 x hp h0 hx).mp z.2 x hx).1 ⟨z.1, (ih x (by omega) hx).2⟩
theorem gv_refl {c : Nat} {L R : Nat → Nat → Prop} {A B : Nat → Nat → Nat → Prop} (h : gv_T c L R A B) {p : Nat} (hp : p < c) : A p 0 p ∧ B p 0 p := gv_refl1 h _ p (Nat.lt_succ_self _) hp
theorem gv_trans1 {c : Nat} {L R : Nat → Nat → Prop} {A B : Nat → Nat → Nat → Prop} (h : gv_T c L R A B) : ∀ n a b d, a + b + d < n → a < c → b < c → d < c → A a 0 b → A b 0 d → A a 0 d := by
  intro n
  induction n with
  | zero => intro a b d hn; exact absurd hn (by omega)
  | succ n ih =>
    intro a b d hn ha hb hd hab hbd
    have h0 : 0 < c := by omega
    refine (h.2.2.1 a 0 d ha h0 hd).mpr (fun x hx => ?_)
    refine ⟨fun z => ?_, fun z => ?_, fun z => ?_⟩
    · have := h.2.1 a x ha z.1
      have t := ih b d x (by omega) hb hd hx hbd ((gv_dual h hd hx).mpr z.2)
      exact ((h.2.2.1 a 0 b ha h0 hb).mp hab x hx).1 ⟨z.1, (gv_dual h hb hx).mp t⟩
    · exact absurd (h.2.1 0 x h0 z.1) (by omega)
    · have := h.1 d x hd z.1
      have t := ih x a b (by omega) hx ha hb ((gv_dual h hx ha).mpr z.2) hab
      exact ((h.2.2.1 b 0 d hb h0 hd).mp hbd x hx).2.2 ⟨z.1, (gv_dual h hx hb).mp t⟩
theorem gv_trans {c : Nat} {L R : Nat → Nat → Prop} {A B : Nat → Nat → Nat → Prop} (h : gv_T c L R A B) {a b d : Nat} (ha : a < c) (hb : b < c) (hd : d < c) (hab : A a 0 b) (hbd : A b 0 d) : A a 0 d := gv_trans1 h _ a b d (Nat.lt_succ_self _) ha hb hd hab hbd
/-- of the members below k one isn't dominated by another one below k -/
theorem gv_und {c : Nat} {G : Nat → Nat → Prop} {S : Nat → Prop} (tr : ∀ a b d, a < c → b < c → d < c → G a b → G b d → G a d) : ∀ k, k ≤ c → (∃ x, x < k ∧ S x) → ∃ m, m < k ∧ S m ∧ ∀ y, y < k → S y → ¬ y = m → G y m → ¬ (y < m ∨ ¬ G m y) := by
  intro k
  induction k with
  | zero => intro _ h; obtain ⟨x, hx, _⟩ := h; exact absurd hx (by omega)
  | succ k ih =>
    intro hk h
    by_cases hS : S k
    · by_cases he : ∃ x, x < k ∧ S x
      · obtain ⟨m, hm, sm, um⟩ := ih (by omega) he
        by_cases hd : G k m ∧ ¬ G m k
        · refine ⟨k, by omega, hS, fun y hy sy ny gy z => ?_⟩
          have hy' : y < k := by omega
          by_cases e : y = m
          · subst e
            exact hd.2 gy
          · have g1 : G y m := tr y k m (by omega) (by omega) (by omega) gy hd.1
            have u := um y hy' sy e g1
            have g2 : G m y := Classical.byContradiction (fun t => u (Or.inr t))
            exact hd.2 (tr m y k (by omega) (by omega) (by omega) g2 gy)
        · refine ⟨m, by omega, sm, fun y hy sy ny gy => ?_⟩
          by_cases e : y = k
          · subst e
            intro z
            rcases z with z | z
            · omega
            · exact hd ⟨gy, z⟩
          · exact um y (by omega) sy ny gy
      · refine ⟨k, by omega, hS, fun y hy sy ny gy z => ?_⟩
        exact he ⟨y, by omega, sy⟩
    · have he : ∃ x, x < k ∧ S x := by
        obtain ⟨x, hx, sx⟩ := h
        by_cases e : x = k
        · subst e
          exact absurd sx hS
        · exact ⟨x, by omega, sx⟩
      obtain ⟨m, hm, sm, um⟩ := ih (by omega) he
      refine ⟨m, by omega, sm, fun y hy sy ny gy => ?_⟩
      by_cases e : y = k
      · subst e
        exact absurd sy hS
      · exact um y (by omega) sy ny gy
end
section
/-! ===== cells, bits, one place read ===== -/
def gv_c (p q r : Nat) : Nat := (p * 10 + q) * 10 + r
theorem gv_cl {p q r : Nat} (hp : p < 10) (hq : q < 10) (hr : r < 10) : gv_c p q r < 1000 := by
  unfold gv_c
  omega
theorem gv_cell {post : Int32 → Prop} {p q r : Nat} (h : post (nI (gv_c p q r))) : wpX_cell post () (nI p) (nI q) (nI r) := by
  have e : (((nI p * 10) + nI q) * 10) + nI r = nI (gv_c p q r) := by
    show (((nI p * nI 10) + nI q) * nI 10) + nI r = nI (gv_c p q r)
    rw [pk_mul, nI_add, pk_mul, nI_add]
    rfl
  unfold wpX_cell
  rw [e]
  exact h
theorem gv_in {post : Int32 → Prop} {v : Int32} {x : Nat} (hx : x < 32) (h0 : gb_t v x = false → post 0) (h1 : gb_t v x = true → post 1) : wpX_in post () v (nI x) := by
  unfold wpX_in
  cases hb : gb_t v x
  · exact br_t (gb_at0 hx hb) (h0 hb)
  · exact br_f (by rw [gb_at1 hx hb]; decide) (h1 hb)
theorem gv_ina {post : Int32 → Prop} {a : Nat → Int32} {r x : Nat} (hr : r < 2 ^ 31) (hx : x < 32) (h0 : gb_t (a r) x = false → post 0) (h1 : gb_t (a r) x = true → post 1) : wpX_in post () (a (nI r).toNatClampNeg) (nI x) := by
  rw [nI_clamp hr]
  exact gv_in hx h0 h1
theorem gv_rd {a : Nat → Int32} {n : Nat} {A B : Prop} (hn : n < 2 ^ 31) (h0 : a n = 0 → A) (h1 : ¬ a n = 0 → B) : (a (nI n).toNatClampNeg = 0 → A) ∧ (¬ a (nI n).toNatClampNeg = 0 → B) := by
  rw [nI_clamp hn]
  exact ⟨h0, h1⟩
theorem gv_nf {b : Bool} {C : Prop} (h : b = false) : ¬ (b = true ∧ C) := by
  intro z
  rw [h] at z
  exact absurd z.1 (by decide)
theorem gv_n0 {b : Bool} {v : Int32} (h : v = 0) : ¬ (b = true ∧ ¬ v = 0) := fun z => z.2 h
/-- no move x speaks against the cell (p, q, r) of a table: R moves in p and q, L in r, T the other table -/
def gv_e (L R T : Nat → Int32) (p q r x : Nat) : Prop := ¬ (gb_t (R p) x = true ∧ ¬ T (gv_c x q r) = 0) ∧ ¬ (gb_t (R q) x = true ∧ ¬ T (gv_c p x r) = 0) ∧ ¬ (gb_t (L r) x = true ∧ ¬ T (gv_c p q x) = 0)
def gv_E (c : Nat) (L R T : Nat → Int32) (p q r : Nat) : Prop := ∀ x, x < c → gv_e L R T p q r x
/-! ===== staysAbove ===== -/
theorem ga_118 {post J : Int32 → Prop} {x1 x2 x3 x5 x6 z0 f k : Int32} {x : Nat} {a1 a2 a3 a4 : Nat → Int32} (h1 : x5 = 0 ∧ x6 = 0 ∧ z0 = 0 → J (nI (x + 1))) (h0 : ¬ (x5 = 0 ∧ x6 = 0 ∧ z0 = 0) → post 0) : wX_staysAbove_118 post J x1 x2 x3 (nI x) x5 x6 z0 f k a1 a2 a3 a4 :=
  br_c (fun e5 => br_c (fun e6 => br_c (fun e0 => nm_r (nI_1 x) (h1 ⟨e5, e6, e0⟩)) (fun e => h0 (fun z => e z.2.2))) (fun e => h0 (fun z => e z.2.1))) (fun e => h0 (fun z => e z.1))
theorem ga_82 {post J : Int32 → Prop} {x5 z0 f k : Int32} {p q r x : Nat} {a1 a2 a3 a4 : Nat → Int32} (hp : p < 10) (hq : q < 10) (hr : r < 10) (hx : x < 10)
    (h1 : x5 = 0 ∧ z0 = 0 ∧ ¬ (gb_t (a1 r) x = true ∧ ¬ a4 (gv_c p q x) = 0) → J (nI (x + 1)))
    (h0 : ¬ (x5 = 0 ∧ z0 = 0 ∧ ¬ (gb_t (a1 r) x = true ∧ ¬ a4 (gv_c p q x) = 0)) → post 0) : wX_staysAbove_82 post J (nI p) (nI q) (nI r) (nI x) x5 z0 f k a1 a2 a3 a4 := by
  have hc := gv_cl hp hq hx
  unfold wX_staysAbove_82
  refine ⟨pk_in r 10 hr, gv_ina (by omega) (by omega) (fun hb => br_t rfl ?_) (fun hb => br_f (by decide) (gv_cell ⟨pk_in (gv_c p q x) 1000 hc, gv_rd (by omega) (fun e => ?_) (fun e => ?_)⟩))⟩
  · unfold wX_staysAbove_117
    exact ga_118 (fun z => h1 ⟨z.1, z.2.1, gv_nf hb⟩) (fun z => h0 (fun t => z ⟨t.1, t.2.1, rfl⟩))
  · unfold wX_staysAbove_117
    exact ga_118 (fun z => h1 ⟨z.1, z.2.1, gv_n0 e⟩) (fun z => h0 (fun t => z ⟨t.1, t.2.1, rfl⟩))
  · exact ga_118 (fun z => absurd z.2.2 (by decide)) (fun z => h0 (fun t => t.2.2 ⟨hb, e⟩))
theorem ga_46 {post J : Int32 → Prop} {z0 f k : Int32} {p q r x : Nat} {a1 a2 a3 a4 : Nat → Int32} (hp : p < 10) (hq : q < 10) (hr : r < 10) (hx : x < 10)
    (h1 : z0 = 0 ∧ ¬ (gb_t (a2 q) x = true ∧ ¬ a4 (gv_c p x r) = 0) ∧ ¬ (gb_t (a1 r) x = true ∧ ¬ a4 (gv_c p q x) = 0) → J (nI (x + 1)))
    (h0 : ¬ (z0 = 0 ∧ ¬ (gb_t (a2 q) x = true ∧ ¬ a4 (gv_c p x r) = 0) ∧ ¬ (gb_t (a1 r) x = true ∧ ¬ a4 (gv_c p q x) = 0)) → post 0) : wX_staysAbove_46 post J (nI p) (nI q) (nI r) (nI x) z0 f k a1 a2 a3 a4 := by
  have hc := gv_cl hp hx hr
  unfold wX_staysAbove_46
  refine ⟨pk_in q 10 hq, gv_ina (by omega) (by omega) (fun hb => br_t rfl ?_) (fun hb => br_f (by decide) (gv_cell ⟨pk_in (gv_c p x r) 1000 hc, gv_rd (by omega) (fun e => ?_) (fun e => ?_)⟩))⟩
  · unfold wX_staysAbove_81
    exact ga_82 hp hq hr hx (fun z => h1 ⟨z.1, gv_nf hb, z.2.2⟩) (fun z => h0 (fun t => z ⟨t.1, rfl, t.2.2⟩))
  · unfold wX_staysAbove_81
    exact ga_82 hp hq hr hx (fun z => h1 ⟨z.1, gv_n0 e, z.2.2⟩) (fun z => h0 (fun t => z ⟨t.1, rfl, t.2.2⟩))
  · exact ga_82 hp hq hr hx (fun z => absurd z.2.1 (by decide)) (fun z => h0 (fun t => t.2.1 ⟨hb, e⟩))
theorem ga_all {post : Int32 → Prop} {k : Int32} {c p q r : Nat} {a1 a2 a3 a4 : Nat → Int32} (hc : c ≤ 10) (hp : p < c) (hq : q < c) (hr : r < c)
    (H1 : gv_E c a1 a2 a4 p q r → post 1) (H0 : ¬ gv_E c a1 a2 a4 p q r → post 0) : wpX_staysAbove post (nI c, k, a1, a2, a3, a4) (nI p) (nI q) (nI r) := by
  refine pk_loop (σ := Unit) (fun n i _ => wX_staysAbove_3 post (nI p) (nI q) (nI r) (nI c) k a1 a2 a3 a4 n (nI i)) (fun i _ => ∀ x, x < i → gv_e a1 a2 a4 p q r x) c 0 () (by omega) (fun x hx => absurd hx (by omega)) (fun n _ h => pk_le c c (fun _ => H1 h) (fun z => absurd z (by omega))) (fun n i _ hi h hw => pk_le c i (fun z => absurd z (by omega)) (fun _ => ?_))
  have hd : gv_c i q r < 1000 := gv_cl (by omega) (by omega) (by omega)
  have ok : gv_e a1 a2 a4 p q r i → wX_staysAbove_3 post (nI p) (nI q) (nI r) (nI c) k a1 a2 a3 a4 n (nI (i + 1)) := fun z => hw () (lt_s h z)
  have no : ¬ gv_e a1 a2 a4 p q r i → post 0 := fun z => H0 (fun t => z (t i hi))
  refine ⟨pk_in p 10 (by omega), gv_ina (by omega) (by omega) (fun hb => br_t rfl ?_) (fun hb => br_f (by decide) (gv_cell ⟨pk_in (gv_c i q r) 1000 hd, gv_rd (by omega) (fun e => ?_) (fun e => ?_)⟩))⟩
  · unfold wX_staysAbove_45
    exact ga_46 (by omega) (by omega) (by omega) (by omega) (fun z => ok ⟨gv_nf hb, z.2.1, z.2.2⟩) (fun z => no (fun t => z ⟨rfl, t.2.1, t.2.2⟩))
  · unfold wX_staysAbove_45
    exact ga_46 (by omega) (by omega) (by omega) (by omega) (fun z => ok ⟨gv_n0 e, z.2.1, z.2.2⟩) (fun z => no (fun t => z ⟨rfl, t.2.1, t.2.2⟩))
  · exact ga_46 (by omega) (by omega) (by omega) (by omega) (fun z => absurd z.1 (by decide)) (fun z => no (fun t => t.1 ⟨hb, e⟩))
/-! ===== staysBelow ===== -/
theorem gw_118 {post J : Int32 → Prop} {x1 x2 x3 x5 x6 z0 f k : Int32} {x : Nat} {a1 a2 a3 a4 : Nat → Int32} (h1 : x5 = 0 ∧ x6 = 0 ∧ z0 = 0 → J (nI (x + 1))) (h0 : ¬ (x5 = 0 ∧ x6 = 0 ∧ z0 = 0) → post 0) : wX_staysBelow_118 post J x1 x2 x3 (nI x) x5 x6 z0 f k a1 a2 a3 a4 :=
  br_c (fun e5 => br_c (fun e6 => br_c (fun e0 => nm_r (nI_1 x) (h1 ⟨e5, e6, e0⟩)) (fun e => h0 (fun z => e z.2.2))) (fun e => h0 (fun z => e z.2.1))) (fun e => h0 (fun z => e z.1))
theorem gw_82 {post J : Int32 → Prop} {x5 z0 f k : Int32} {p q r x : Nat} {a1 a2 a3 a4 : Nat → Int32} (hp : p < 10) (hq : q < 10) (hr : r < 10) (hx : x < 10)
    (h1 : x5 = 0 ∧ z0 = 0 ∧ ¬ (gb_t (a2 r) x = true ∧ ¬ a3 (gv_c p q x) = 0) → J (nI (x + 1)))
    (h0 : ¬ (x5 = 0 ∧ z0 = 0 ∧ ¬ (gb_t (a2 r) x = true ∧ ¬ a3 (gv_c p q x) = 0)) → post 0) : wX_staysBelow_82 post J (nI p) (nI q) (nI r) (nI x) x5 z0 f k a1 a2 a3 a4 := by
  have hc := gv_cl hp hq hx
  unfold wX_staysBelow_82
  refine ⟨pk_in r 10 hr, gv_ina (by omega) (by omega) (fun hb => br_t rfl ?_) (fun hb => br_f (by decide) (gv_cell ⟨pk_in (gv_c p q x) 1000 hc, gv_rd (by omega) (fun e => ?_) (fun e => ?_)⟩))⟩
  · unfold wX_staysBelow_117
    exact gw_118 (fun z => h1 ⟨z.1, z.2.1, gv_nf hb⟩) (fun z => h0 (fun t => z ⟨t.1, t.2.1, rfl⟩))
  · unfold wX_staysBelow_117
    exact gw_118 (fun z => h1 ⟨z.1, z.2.1, gv_n0 e⟩) (fun z => h0 (fun t => z ⟨t.1, t.2.1, rfl⟩))
  · exact gw_118 (fun z => absurd z.2.2 (by decide)) (fun z => h0 (fun t => t.2.2 ⟨hb, e⟩))
theorem gw_46 {post J : Int32 → Prop} {z0 f k : Int32} {p q r x : Nat} {a1 a2 a3 a4 : Nat → Int32} (hp : p < 10) (hq : q < 10) (hr : r < 10) (hx : x < 10)
    (h1 : z0 = 0 ∧ ¬ (gb_t (a1 q) x = true ∧ ¬ a3 (gv_c p x r) = 0) ∧ ¬ (gb_t (a2 r) x = true ∧ ¬ a3 (gv_c p q x) = 0) → J (nI (x + 1)))
    (h0 : ¬ (z0 = 0 ∧ ¬ (gb_t (a1 q) x = true ∧ ¬ a3 (gv_c p x r) = 0) ∧ ¬ (gb_t (a2 r) x = true ∧ ¬ a3 (gv_c p q x) = 0)) → post 0) : wX_staysBelow_46 post J (nI p) (nI q) (nI r) (nI x) z0 f k a1 a2 a3 a4 := by
  have hc := gv_cl hp hx hr
  unfold wX_staysBelow_46
  refine ⟨pk_in q 10 hq, gv_ina (by omega) (by omega) (fun hb => br_t rfl ?_) (fun hb => br_f (by decide) (gv_cell ⟨pk_in (gv_c p x r) 1000 hc, gv_rd (by omega) (fun e => ?_) (fun e => ?_)⟩))⟩
  · unfold wX_staysBelow_81
    exact gw_82 hp hq hr hx (fun z => h1 ⟨z.1, gv_nf hb, z.2.2⟩) (fun z => h0 (fun t => z ⟨t.1, rfl, t.2.2⟩))
  · unfold wX_staysBelow_81
    exact gw_82 hp hq hr hx (fun z => h1 ⟨z.1, gv_n0 e, z.2.2⟩) (fun z => h0 (fun t => z ⟨t.1, rfl, t.2.2⟩))
  · exact gw_82 hp hq hr hx (fun z => absurd z.2.1 (by decide)) (fun z => h0 (fun t => t.2.1 ⟨hb, e⟩))
theorem gw_all {post : Int32 → Prop} {k : Int32} {c p q r : Nat} {a1 a2 a3 a4 : Nat → Int32} (hc : c ≤ 10) (hp : p < c) (hq : q < c) (hr : r < c)
    (H1 : gv_E c a2 a1 a3 p q r → post 1) (H0 : ¬ gv_E c a2 a1 a3 p q r → post 0) : wpX_staysBelow post (nI c, k, a1, a2, a3, a4) (nI p) (nI q) (nI r) := by
  refine pk_loop (σ := Unit) (fun n i _ => wX_staysBelow_3 post (nI p) (nI q) (nI r) (nI c) k a1 a2 a3 a4 n (nI i)) (fun i _ => ∀ x, x < i → gv_e a2 a1 a3 p q r x) c 0 () (by omega) (fun x hx => absurd hx (by omega)) (fun n _ h => pk_le c c (fun _ => H1 h) (fun z => absurd z (by omega))) (fun n i _ hi h hw => pk_le c i (fun z => absurd z (by omega)) (fun _ => ?_))
  have hd : gv_c i q r < 1000 := gv_cl (by omega) (by omega) (by omega)
  have ok : gv_e a2 a1 a3 p q r i → wX_staysBelow_3 post (nI p) (nI q) (nI r) (nI c) k a1 a2 a3 a4 n (nI (i + 1)) := fun z => hw () (lt_s h z)
  have no : ¬ gv_e a2 a1 a3 p q r i → post 0 := fun z => H0 (fun t => z (t i hi))
  refine ⟨pk_in p 10 (by omega), gv_ina (by omega) (by omega) (fun hb => br_t rfl ?_) (fun hb => br_f (by decide) (gv_cell ⟨pk_in (gv_c i q r) 1000 hd, gv_rd (by omega) (fun e => ?_) (fun e => ?_)⟩))⟩
  · unfold wX_staysBelow_45
    exact gw_46 (by omega) (by omega) (by omega) (by omega) (fun z => ok ⟨gv_nf hb, z.2.1, z.2.2⟩) (fun z => no (fun t => z ⟨rfl, t.2.1, t.2.2⟩))
  · unfold wX_staysBelow_45
    exact gw_46 (by omega) (by omega) (by omega) (by omega) (fun z => ok ⟨gv_n0 e, z.2.1, z.2.2⟩) (fun z => no (fun t => z ⟨rfl, t.2.1, t.2.2⟩))
  · exact gw_46 (by omega) (by omega) (by omega) (by omega) (fun z => absurd z.1 (by decide)) (fun z => no (fun t => t.1 ⟨hb, e⟩))
end
section
/-! ===== the class's state: positions (gv_P), tables (gv_K); gv_ok: any time, gv_Z: learned ===== -/
def gv_P (c : Nat) (a1 a2 : Nat → Int32) : Prop := 1 ≤ c ∧ c ≤ 10 ∧ (∀ p, p < c → ∃ n, n < 2 ^ p ∧ a1 p = nI n) ∧ (∀ p, p < c → ∃ n, n < 2 ^ p ∧ a2 p = nI n)
def gv_row (c : Nat) (a1 a2 a3 a4 : Nat → Int32) (p q r : Nat) : Prop := (a3 (gv_c p q r) = 0 ∨ a3 (gv_c p q r) = 1) ∧ (a4 (gv_c p q r) = 0 ∨ a4 (gv_c p q r) = 1) ∧ (¬ a3 (gv_c p q r) = 0 ↔ gv_E c a1 a2 a4 p q r) ∧ (¬ a4 (gv_c p q r) = 0 ↔ gv_E c a2 a1 a3 p q r)
def gv_K (c : Nat) (a1 a2 a3 a4 : Nat → Int32) : Prop := ∀ p q r, p < c → q < c → r < c → gv_row c a1 a2 a3 a4 p q r
def gv_ok (c : Nat) (k : Int32) (a1 a2 a3 a4 : Nat → Int32) : Prop := gv_P c a1 a2 ∧ (¬ k = 0 → gv_K c a1 a2 a3 a4)
def gv_Z (c : Nat) (k : Int32) (a1 a2 a3 a4 : Nat → Int32) : Prop := gv_P c a1 a2 ∧ ¬ k = 0 ∧ gv_K c a1 a2 a3 a4
def gv_I (c : Nat) (a1 a2 : Nat → Int32) (i : Nat) (a3 a4 : Nat → Int32) : Prop := ∀ p q r, p < c → q < c → r < c → (p * c + q) * c + r < i → gv_row c a1 a2 a3 a4 p q r
theorem gv_b1 {c p x : Nat} {a1 a2 : Nat → Int32} (h : gv_P c a1 a2) (hp : p < c) (hb : gb_t (a1 p) x = true) : x < p := by
  obtain ⟨n, hn, e⟩ := h.2.2.1 p hp
  rw [e] at hb
  exact gb_nI hn hb
theorem gv_b2 {c p x : Nat} {a1 a2 : Nat → Int32} (h : gv_P c a1 a2) (hp : p < c) (hb : gb_t (a2 p) x = true) : x < p := by
  obtain ⟨n, hn, e⟩ := h.2.2.2 p hp
  rw [e] at hb
  exact gb_nI hn hb
/-! ===== the order of the cells ===== -/
theorem gv_ml {a b c : Nat} (h : a < b) : a * c + c ≤ b * c := by
  have t : (a + 1) * c ≤ b * c := Nat.mul_le_mul_right c h
  rw [Nat.add_mul, Nat.one_mul] at t
  exact t
theorem gv_o1 {c x p q r : Nat} (hc : 0 < c) (h : x < p) : (x * c + q) * c + r < (p * c + q) * c + r := by
  have t := gv_ml (c := c) h
  have u := gv_ml (c := c) (show x * c + q < p * c + q by omega)
  omega
theorem gv_o2 {c x p q r : Nat} (hc : 0 < c) (h : x < q) : (p * c + x) * c + r < (p * c + q) * c + r := by
  have u := gv_ml (c := c) (show p * c + x < p * c + q by omega)
  omega
theorem gv_top {c p q r : Nat} (hp : p < c) (hq : q < c) (hr : r < c) : (p * c + q) * c + r < c * c * c := by
  have t := gv_ml (c := c) hp
  have u := gv_ml (c := c) (show p * c + q < c * c by omega)
  omega
theorem gv_dm {c a b x y : Nat} (hx : x < c) (hy : y < c) (h : a * c + x = b * c + y) : a = b ∧ x = y := by
  rcases Nat.lt_trichotomy a b with z | z | z
  · have t := gv_ml (c := c) z
    omega
  · subst z
    exact ⟨rfl, by omega⟩
  · have t := gv_ml (c := c) z
    omega
theorem gv_ix {c i : Nat} (hc : 0 < c) (hi : i < c * c * c) : i / (c * c) < c ∧ i / c % c < c ∧ i % c < c ∧ (i / (c * c) * c + i / c % c) * c + i % c = i := by
  refine ⟨Nat.div_lt_of_lt_mul hi, Nat.mod_lt _ hc, Nat.mod_lt _ hc, ?_⟩
  rw [← Nat.div_div_eq_div_mul, Nat.mul_comm (i / c / c) c, Nat.div_add_mod, Nat.mul_comm (i / c) c, Nat.div_add_mod]
theorem gv_ne {c p q r p' q' r' : Nat} (hp : p < 10) (hq : q < 10) (hr : r < 10) (hp' : p' < 10) (hq' : q' < 10) (hr' : r' < 10) (h : (p' * c + q') * c + r' < (p * c + q) * c + r) : gv_c p' q' r' ≠ gv_c p q r := by
  intro e
  unfold gv_c at e
  have e1 : p' = p := by omega
  have e2 : q' = q := by omega
  have e3 : r' = r := by omega
  subst e1 e2 e3
  exact Nat.lt_irrefl _ h
/-! ===== a table's equation looks at lesser cells alone ===== -/
theorem gv_Ec1 {c p q r : Nat} {L R t t' : Nat → Int32} (bp : ∀ x, gb_t (R p) x = true → x < p) (bq : ∀ x, gb_t (R q) x = true → x < q) (br : ∀ x, gb_t (L r) x = true → x < r)
    (h1 : ∀ x, x < p → t' (gv_c x q r) = t (gv_c x q r)) (h2 : ∀ x, x < q → t' (gv_c p x r) = t (gv_c p x r)) (h3 : ∀ x, x < r → t' (gv_c p q x) = t (gv_c p q x)) (h : gv_E c L R t p q r) : gv_E c L R t' p q r := by
  intro x hx
  refine ⟨fun z => (h x hx).1 ⟨z.1, ?_⟩, fun z => (h x hx).2.1 ⟨z.1, ?_⟩, fun z => (h x hx).2.2 ⟨z.1, ?_⟩⟩
  · rw [← h1 x (bp x z.1)]
    exact z.2
  · rw [← h2 x (bq x z.1)]
    exact z.2
  · rw [← h3 x (br x z.1)]
    exact z.2
theorem gv_Eu {c p q r p' q' r' : Nat} {L R t : Nat → Int32} {v : Int32} (hc : c ≤ 10) (hp : p < c) (hq : q < c) (hr : r < c) (hp' : p' < c) (hq' : q' < c) (hr' : r' < c)
    (hL : ∀ p x, p < c → gb_t (L p) x = true → x < p) (hR : ∀ p x, p < c → gb_t (R p) x = true → x < p) (hle : (p' * c + q') * c + r' ≤ (p * c + q) * c + r) :
    gv_E c L R t p' q' r' ↔ gv_E c L R (upd t (gv_c p q r) v) p' q' r' := by
  have k1 : ∀ x, x < p' → upd t (gv_c p q r) v (gv_c x q' r') = t (gv_c x q' r') := fun x hx => pk_un (gv_ne (by omega) (by omega) (by omega) (by omega) (by omega) (by omega) (Nat.lt_of_lt_of_le (gv_o1 (by omega) hx) hle))
  have k2 : ∀ x, x < q' → upd t (gv_c p q r) v (gv_c p' x r') = t (gv_c p' x r') := fun x hx => pk_un (gv_ne (by omega) (by omega) (by omega) (by omega) (by omega) (by omega) (Nat.lt_of_lt_of_le (gv_o2 (by omega) hx) hle))
  have k3 : ∀ x, x < r' → upd t (gv_c p q r) v (gv_c p' q' x) = t (gv_c p' q' x) := fun x hx => pk_un (gv_ne (by omega) (by omega) (by omega) (by omega) (by omega) (by omega) (Nat.lt_of_lt_of_le (by omega) hle))
  exact ⟨gv_Ec1 (fun x => hR p' x hp') (fun x => hR q' x hq') (fun x => hL r' x hr') k1 k2 k3,
    gv_Ec1 (fun x => hR p' x hp') (fun x => hR q' x hq') (fun x => hL r' x hr') (fun x hx => (k1 x hx).symm) (fun x hx => (k2 x hx).symm) (fun x hx => (k3 x hx).symm)⟩
theorem gv_one {v : Int32} {E : Prop} (h : v = 1 ∧ E ∨ v = 0 ∧ ¬ E) : (v = 0 ∨ v = 1) ∧ (¬ v = 0 ↔ E) := by
  rcases h with ⟨e, h⟩ | ⟨e, h⟩
  · subst e
    exact ⟨Or.inr rfl, fun _ => h, fun _ => by decide⟩
  · subst e
    exact ⟨Or.inl rfl, fun z => absurd rfl z, fun z => absurd z h⟩
theorem gv_step {c p q r : Nat} {a1 a2 a3 a4 : Nat → Int32} {v3 v4 : Int32} (hP : gv_P c a1 a2) (hp : p < c) (hq : q < c) (hr : r < c) (hI : gv_I c a1 a2 ((p * c + q) * c + r) a3 a4)
    (h3 : v3 = 1 ∧ gv_E c a1 a2 a4 p q r ∨ v3 = 0 ∧ ¬ gv_E c a1 a2 a4 p q r)
    (h4 : v4 = 1 ∧ gv_E c a2 a1 (upd a3 (gv_c p q r) v3) p q r ∨ v4 = 0 ∧ ¬ gv_E c a2 a1 (upd a3 (gv_c p q r) v3) p q r) :
    gv_I c a1 a2 ((p * c + q) * c + r + 1) (upd a3 (gv_c p q r) v3) (upd a4 (gv_c p q r) v4) := by
  have hc := hP.2.1
  have B1 : ∀ p x, p < c → gb_t (a1 p) x = true → x < p := fun p x h z => gv_b1 hP h z
  have B2 : ∀ p x, p < c → gb_t (a2 p) x = true → x < p := fun p x h z => gv_b2 hP h z
  intro p' q' r' hp' hq' hr' hi
  have hle : (p' * c + q') * c + r' ≤ (p * c + q) * c + r := Nat.le_of_lt_succ hi
  have E4 := gv_Eu (L := a1) (R := a2) (t := a4) (v := v4) hc hp hq hr hp' hq' hr' B1 B2 hle
  have E3 := gv_Eu (L := a2) (R := a1) (t := a3) (v := v3) hc hp hq hr hp' hq' hr' B2 B1 hle
  by_cases e : (p' * c + q') * c + r' = (p * c + q) * c + r
  · obtain ⟨e1, e2⟩ := gv_dm hr' hr e
    obtain ⟨e3, e4⟩ := gv_dm hq' hq e1
    subst e2 e3 e4
    have g3 := gv_one h3
    have g4 := gv_one h4
    unfold gv_row
    rw [pk_us, pk_us]
    exact ⟨g3.1, g4.1, g3.2.trans E4, g4.2⟩
  · have row := hI p' q' r' hp' hq' hr' (by omega)
    have n0 : gv_c p' q' r' ≠ gv_c p q r := gv_ne (c := c) (by omega) (by omega) (by omega) (by omega) (by omega) (by omega) (by omega)
    unfold gv_row
    rw [pk_un n0, pk_un n0]
    exact ⟨row.1, row.2.1, row.2.2.1.trans E4, row.2.2.2.trans E3⟩
theorem gv_n1 : vp_nar .boolean 1 = 1 := by decide
theorem gv_n00 : vp_nar .boolean 0 = 0 := by decide
theorem gv_u1 {a : Nat → Int32} {n : Nat} (hn : n < 2 ^ 31) : upd a (nI n).toNatClampNeg (vp_nar .boolean 1) = upd a n 1 := by
  rw [nI_clamp hn, gv_n1]
theorem gv_u0 {a : Nat → Int32} {n : Nat} (hn : n < 2 ^ 31) : upd a (nI n).toNatClampNeg (vp_nar .boolean 0) = upd a n 0 := by
  rw [nI_clamp hn, gv_n00]
theorem gv_learn {post : St1 → Prop} {c : Nat} {k : Int32} {a1 a2 a3 a4 : Nat → Int32} (h : gv_ok c k a1 a2 a3 a4) (H : ∀ k' a3' a4', gv_Z c k' a1 a2 a3' a4' → post (nI c, k', a1, a2, a3', a4')) : wpX_learn post (nI c, k, a1, a2, a3, a4) := by
  obtain ⟨hP, hK⟩ := h
  have h1 := hP.1
  have h10 := hP.2.1
  have c2 : c * c ≤ 100 := Nat.mul_le_mul h10 h10
  have c3 : c * c * c ≤ 1000 := Nat.mul_le_mul c2 h10
  have p2 : 0 < c * c := Nat.mul_pos h1 h1
  have ne : ¬ nI c = 0 := nI_ne0 (by omega) (by omega)
  have ne2 : ¬ nI c * nI c = 0 := by
    rw [pk_mul]
    exact nI_ne0 p2 (by omega)
  have ec : nI c * nI c * nI c = nI (c * c * c) := by rw [pk_mul, pk_mul]
  refine br_c (fun e => ?_) (fun e => H k a3 a4 ⟨hP, e, hK e⟩)
  refine pk_loop (σ := (Nat → Int32) × (Nat → Int32)) (fun n i s => wX_learn_15 post (nI c) 1 n (nI i) a1 a2 s.1 s.2) (fun i s => gv_I c a1 a2 i s.1 s.2) (c * c * c) 0 (a3, a4) (by omega) (fun p q r _ _ _ z => absurd z (by omega))
    (fun n s h => pk_le (c * c * c) (c * c * c) (fun _ => H 1 s.1 s.2 ⟨hP, by decide, fun p q r hp hq hr => h p q r hp hq hr (gv_top hp hq hr)⟩) (fun z => absurd z (by omega)) ec)
    (fun n i s hi h hw => pk_le (c * c * c) i (fun z => absurd z (by omega)) (fun _ => ?_) ec)
  obtain ⟨p, q, r, hp, hq, hr, ei, e2, e3, e4⟩ : ∃ p q r, p < c ∧ q < c ∧ r < c ∧ (p * c + q) * c + r = i ∧ nI i / (nI c * nI c) = nI p ∧ (nI i / nI c) - (nI i / nI c) / nI c * nI c = nI q ∧ nI i - nI i / nI c * nI c = nI r := by
    have t := gv_ix (c := c) (by omega) hi
    have d := Nat.div_le_self i c
    refine ⟨i / (c * c), i / c % c, i % c, t.1, t.2.1, t.2.2.1, t.2.2.2, ?_, ?_, ?_⟩
    · rw [pk_mul, pk_div (by omega) p2 (by omega)]
    · rw [pk_div (by omega) h1 (by omega), pk_rem (by omega) h1 (by omega)]
    · exact pk_rem (by omega) h1 (by omega)
  subst ei
  have hd : gv_c p q r < 1000 := gv_cl (by omega) (by omega) (by omega)
  have key : ∀ v3 : Int32, (v3 = 1 ∧ gv_E c a1 a2 s.2 p q r ∨ v3 = 0 ∧ ¬ gv_E c a1 a2 s.2 p q r) →
      wpX_staysBelow (fun r_14 => (vp_in (nI (gv_c p q r)) 1000 ∧ ∀ a4_16 : Nat → Int32, a4_16 = upd s.2 (nI (gv_c p q r)).toNatClampNeg (vp_nar .boolean r_14) → (∀ x1_17 : Int32, x1_17 = nI ((p * c + q) * c + r) + 1 → (wX_learn_15 post (nI c) 1 n x1_17 a1 a2 (upd s.1 (gv_c p q r) v3) a4_16)))) (nI c, 1, a1, a2, upd s.1 (gv_c p q r) v3, s.2) (nI p) (nI q) (nI r) :=
    fun v3 h3 => gw_all h10 hp hq hr
      (fun E4 => ⟨pk_in (gv_c p q r) 1000 hd, nm_r (gv_u1 (by omega)) (nm_r (nI_1 _) (hw (upd s.1 (gv_c p q r) v3, upd s.2 (gv_c p q r) 1) (gv_step hP hp hq hr h h3 (Or.inl ⟨rfl, E4⟩))))⟩)
      (fun E4 => ⟨pk_in (gv_c p q r) 1000 hd, nm_r (gv_u0 (by omega)) (nm_r (nI_1 _) (hw (upd s.1 (gv_c p q r) v3, upd s.2 (gv_c p q r) 0) (gv_step hP hp hq hr h h3 (Or.inr ⟨rfl, E4⟩))))⟩)
  exact ⟨ne2, nm_r e2 ⟨ne, ne, nm_r e3 ⟨ne, nm_r e4 (gv_cell (ga_all h10 hp hq hr
    (fun E => ⟨pk_in (gv_c p q r) 1000 hd, nm_r (gv_u1 (by omega)) (key 1 (Or.inl ⟨rfl, E⟩))⟩)
    (fun E => ⟨pk_in (gv_c p q r) 1000 hd, nm_r (gv_u0 (by omega)) (key 0 (Or.inr ⟨rfl, E⟩))⟩)))⟩⟩⟩
end
section
/-! ===== the answers, in a learned state ===== -/
theorem gv_TK {c : Nat} {k : Int32} {a1 a2 a3 a4 : Nat → Int32} (h : gv_Z c k a1 a2 a3 a4) : gv_T c (fun p x => gb_t (a1 p) x = true) (fun p x => gb_t (a2 p) x = true) (fun p q r => ¬ a3 (gv_c p q r) = 0) (fun p q r => ¬ a4 (gv_c p q r) = 0) :=
  ⟨fun p x hp hb => gv_b1 h.1 hp hb, fun p x hp hb => gv_b2 h.1 hp hb, fun p q r hp hq hr => (h.2.2 p q r hp hq hr).2.2.1, fun p q r hp hq hr => (h.2.2 p q r hp hq hr).2.2.2⟩
theorem gv_rf {c p : Nat} {k : Int32} {a1 a2 a3 a4 : Nat → Int32} (h : gv_Z c k a1 a2 a3 a4) (hp : p < c) : ¬ a3 (gv_c p 0 p) = 0 ∧ ¬ a4 (gv_c p 0 p) = 0 := gv_refl (gv_TK h) hp
theorem gv_du {c p q : Nat} {k : Int32} {a1 a2 a3 a4 : Nat → Int32} (h : gv_Z c k a1 a2 a3 a4) (hp : p < c) (hq : q < c) : ¬ a3 (gv_c p 0 q) = 0 ↔ ¬ a4 (gv_c q 0 p) = 0 := gv_dual (gv_TK h) hp hq
theorem gv_s3 {c p q r : Nat} {k : Int32} {a1 a2 a3 a4 : Nat → Int32} (h : gv_Z c k a1 a2 a3 a4) (hp : p < c) (hq : q < c) (hr : r < c) : ¬ a3 (gv_c p q r) = 0 ↔ ¬ a3 (gv_c q p r) = 0 := gv_symA (gv_TK h) hp hq hr
theorem gv_s4 {c p q r : Nat} {k : Int32} {a1 a2 a3 a4 : Nat → Int32} (h : gv_Z c k a1 a2 a3 a4) (hp : p < c) (hq : q < c) (hr : r < c) : ¬ a4 (gv_c p q r) = 0 ↔ ¬ a4 (gv_c q p r) = 0 := gv_symB (gv_TK h) hp hq hr
theorem gv_tr {c a b d : Nat} {k : Int32} {a1 a2 a3 a4 : Nat → Int32} (h : gv_Z c k a1 a2 a3 a4) (ha : a < c) (hb : b < c) (hd : d < c) (x : ¬ a3 (gv_c a 0 b) = 0) (y : ¬ a3 (gv_c b 0 d) = 0) : ¬ a3 (gv_c a 0 d) = 0 := gv_trans (gv_TK h) ha hb hd x y
theorem gv_zo {c : Nat} {k : Int32} {a1 a2 a3 a4 : Nat → Int32} (h : gv_Z c k a1 a2 a3 a4) : gv_ok c k a1 a2 a3 a4 := ⟨h.1, fun _ => h.2.2⟩
theorem gv_z0 {c : Nat} {k : Int32} {a1 a2 a3 a4 : Nat → Int32} (h : gv_Z c k a1 a2 a3 a4) : 0 < c := h.1.1
theorem gv_z10 {c : Nat} {k : Int32} {a1 a2 a3 a4 : Nat → Int32} (h : gv_Z c k a1 a2 a3 a4) : c ≤ 10 := h.1.2.1
theorem gv_zl {c p q r : Nat} {k : Int32} {a1 a2 a3 a4 : Nat → Int32} (h : gv_Z c k a1 a2 a3 a4) (hp : p < c) (hq : q < c) (hr : r < c) : gv_c p q r < 1000 := by
  have := gv_z10 h
  exact gv_cl (by omega) (by omega) (by omega)
/-- what a comparison answers, of the two tables' cells -/
def gv_cv (a b : Int32) : Int32 := if a = 0 then (if b = 0 then 3 else 2) else (if b = 0 then 1 else 0)
def gv_nv (v : Int32) : Int32 := if v = 0 then 1 else 0
theorem gv_cve {a b a' b' : Int32} (h3 : ¬ a = 0 ↔ ¬ a' = 0) (h4 : ¬ b = 0 ↔ ¬ b' = 0) : gv_cv a b = gv_cv a' b' := by
  have h3' : a = 0 ↔ a' = 0 := ⟨fun z => Classical.byContradiction (fun t => h3.mpr t z), fun z => Classical.byContradiction (fun t => h3.mp t z)⟩
  have h4' : b = 0 ↔ b' = 0 := ⟨fun z => Classical.byContradiction (fun t => h4.mpr t z), fun z => Classical.byContradiction (fun t => h4.mp t z)⟩
  unfold gv_cv
  simp only [h3', h4']
theorem gv_cv0 {a b : Int32} (h3 : ¬ a = 0) (h4 : ¬ b = 0) : gv_cv a b = 0 := by rw [gv_cv, if_neg h3, if_neg h4]
theorem gv_has {post : Int32 → Prop} {c p : Nat} {k : Int32} {a1 a2 a3 a4 : Nat → Int32} (hc : c ≤ 10) (hp : p < c) (h : post 1) : wpX_has post (nI c, k, a1, a2, a3, a4) (nI p) :=
  br_f (nI_pos (by omega)) (br_f (nI_ge hp (by omega)) h)
theorem gv_lz {post : St1 → Prop} {f k : Int32} {a1 a2 a3 a4 : Nat → Int32} (hk : ¬ k = 0) (h : post (f, k, a1, a2, a3, a4)) : wpX_learn post (f, k, a1, a2, a3, a4) := br_f hk h
theorem gv_std {post : Int32 → Prop} {f k : Int32} {a1 a2 a3 a4 : Nat → Int32} {n : Nat} (hn : n < 1000) (h : post (gv_cv (a3 n) (a4 n))) : wpX_standing post (f, k, a1, a2, a3, a4) (nI n) := by
  unfold gv_cv at h
  refine ⟨pk_in n 1000 hn, gv_rd (by omega) (fun e3 => ⟨pk_in n 1000 hn, gv_rd (by omega) (fun e4 => ?_) (fun e4 => ?_)⟩) (fun e3 => ⟨pk_in n 1000 hn, gv_rd (by omega) (fun e4 => ?_) (fun e4 => ?_)⟩)⟩
  · rw [if_pos e3, if_pos e4] at h
    exact h
  · rw [if_pos e3, if_neg e4] at h
    exact h
  · rw [if_neg e3, if_pos e4] at h
    exact h
  · rw [if_neg e3, if_neg e4] at h
    exact h
theorem gv_csG {post : Int32 → St1 → Prop} {c p q r : Nat} {k : Int32} {a1 a2 a3 a4 : Nat → Int32} (h : gv_ok c k a1 a2 a3 a4) (hp : p < c) (hq : q < c) (hr : r < c)
    (H : ∀ k' a3' a4', gv_Z c k' a1 a2 a3' a4' → post (gv_cv (a3' (gv_c p q r)) (a4' (gv_c p q r))) (nI c, k', a1, a2, a3', a4')) : wpX_compareSum post (nI c, k, a1, a2, a3, a4) (nI p) (nI q) (nI r) := by
  have hc : c ≤ 10 := h.1.2.1
  unfold wpX_compareSum
  refine gv_has hc hp (br_f (by decide) (gv_has hc hq (br_f (by decide) (gv_has hc hr (br_f (by decide) (gv_learn h (fun k' a3' a4' hz => ?_)))))))
  exact gv_cell (gv_std (gv_zl hz hp hq hr) (H k' a3' a4' hz))
theorem gv_cs {post : Int32 → St1 → Prop} {c p q r : Nat} {k : Int32} {a1 a2 a3 a4 : Nat → Int32} (hZ : gv_Z c k a1 a2 a3 a4) (hp : p < c) (hq : q < c) (hr : r < c)
    (h : post (gv_cv (a3 (gv_c p q r)) (a4 (gv_c p q r))) (nI c, k, a1, a2, a3, a4)) : wpX_compareSum post (nI c, k, a1, a2, a3, a4) (nI p) (nI q) (nI r) := by
  have hc : c ≤ 10 := gv_z10 hZ
  unfold wpX_compareSum
  refine gv_has hc hp (br_f (by decide) (gv_has hc hq (br_f (by decide) (gv_has hc hr (br_f (by decide) (gv_lz hZ.2.1 ?_))))))
  exact gv_cell (gv_std (gv_zl hZ hp hq hr) h)
theorem gv_cmpG {post : Int32 → St1 → Prop} {c p q : Nat} {k : Int32} {a1 a2 a3 a4 : Nat → Int32} (h : gv_ok c k a1 a2 a3 a4) (hp : p < c) (hq : q < c)
    (H : ∀ k' a3' a4', gv_Z c k' a1 a2 a3' a4' → post (gv_cv (a3' (gv_c p 0 q)) (a4' (gv_c p 0 q))) (nI c, k', a1, a2, a3', a4')) : wpX_compare post (nI c, k, a1, a2, a3, a4) (nI p) (nI q) := by
  unfold wpX_compare
  exact gv_csG (q := 0) h hp (by omega) hq H
theorem gv_cmp {post : Int32 → St1 → Prop} {c p q : Nat} {k : Int32} {a1 a2 a3 a4 : Nat → Int32} (hZ : gv_Z c k a1 a2 a3 a4) (hp : p < c) (hq : q < c)
    (h : post (gv_cv (a3 (gv_c p 0 q)) (a4 (gv_c p 0 q))) (nI c, k, a1, a2, a3, a4)) : wpX_compare post (nI c, k, a1, a2, a3, a4) (nI p) (nI q) := by
  unfold wpX_compare
  exact gv_cs (q := 0) hZ hp (by omega) hq h
theorem gv_ws0 {post : Int32 → St1 → Prop} {c p q : Nat} {k : Int32} {a1 a2 a3 a4 : Nat → Int32} (hZ : gv_Z c k a1 a2 a3 a4) (hp : p < c) (hq : q < c)
    (h : post (gv_nv (a4 (gv_c p q 0))) (nI c, k, a1, a2, a3, a4)) : wpX_winsSum post (nI c, k, a1, a2, a3, a4) (nI p) (nI q) 0 := by
  have hc : c ≤ 10 := gv_z10 hZ
  have hd := gv_zl hZ hp hq (gv_z0 hZ)
  unfold wpX_winsSum
  refine gv_has hc hp (br_f (by decide) (gv_has hc hq (br_f (by decide) (br_t rfl ?_))))
  unfold wX_winsSum_27
  refine gv_lz hZ.2.1 (gv_cell (r := 0) (br_t rfl ⟨pk_in (gv_c p q 0) 1000 hd, gv_rd (by omega) (fun e => ?_) (fun e => ?_)⟩))
  · rw [gv_nv, if_pos e] at h
    exact h
  · rw [gv_nv, if_neg e] at h
    exact h
theorem gv_ws1 {post : Int32 → St1 → Prop} {c p q : Nat} {k : Int32} {a1 a2 a3 a4 : Nat → Int32} (hZ : gv_Z c k a1 a2 a3 a4) (hp : p < c) (hq : q < c)
    (h : post (gv_nv (a3 (gv_c p q 0))) (nI c, k, a1, a2, a3, a4)) : wpX_winsSum post (nI c, k, a1, a2, a3, a4) (nI p) (nI q) 1 := by
  have hc : c ≤ 10 := gv_z10 hZ
  have hd := gv_zl hZ hp hq (gv_z0 hZ)
  unfold wpX_winsSum
  refine gv_has hc hp (br_f (by decide) (gv_has hc hq (br_f (by decide) (br_f (by decide) (br_t rfl ?_)))))
  unfold wX_winsSum_27
  refine gv_lz hZ.2.1 (gv_cell (r := 0) (br_f (by decide) ⟨pk_in (gv_c p q 0) 1000 hd, gv_rd (by omega) (fun e => ?_) (fun e => ?_)⟩))
  · rw [gv_nv, if_pos e] at h
    exact h
  · rw [gv_nv, if_neg e] at h
    exact h
theorem gv_nar {v : Int32} (h : v = 0 ∨ v = 1) : narrow .boolean (.int v) = .int v := by
  rcases h with e | e
  · rw [e]
    rfl
  · rw [e]
    rfl
theorem gv_nvb (v : Int32) : gv_nv v = 0 ∨ gv_nv v = 1 := by
  unfold gv_nv
  by_cases e : v = 0
  · rw [if_pos e]
    exact Or.inr rfl
  · rw [if_neg e]
    exact Or.inl rfl
theorem gv_w0 {post : Int32 → St1 → Prop} {c p : Nat} {k : Int32} {a1 a2 a3 a4 : Nat → Int32} (hZ : gv_Z c k a1 a2 a3 a4) (hp : p < c)
    (h : post (gv_nv (a4 (gv_c p 0 0))) (nI c, k, a1, a2, a3, a4)) : wpX_wins post (nI c, k, a1, a2, a3, a4) (nI p) 0 := by
  unfold wpX_wins
  exact gv_ws0 (q := 0) hZ hp (gv_z0 hZ) ⟨gv_nar (gv_nvb _), h⟩
theorem gv_w1 {post : Int32 → St1 → Prop} {c p : Nat} {k : Int32} {a1 a2 a3 a4 : Nat → Int32} (hZ : gv_Z c k a1 a2 a3 a4) (hp : p < c)
    (h : post (gv_nv (a3 (gv_c p 0 0))) (nI c, k, a1, a2, a3, a4)) : wpX_wins post (nI c, k, a1, a2, a3, a4) (nI p) 1 := by
  unfold wpX_wins
  exact gv_ws1 (q := 0) hZ hp (gv_z0 hZ) ⟨gv_nar (gv_nvb _), h⟩
theorem gv_al {post : Int32 → Prop} {c p q : Nat} {k : Int32} {a1 a2 a3 a4 : Nat → Int32} (hZ : gv_Z c k a1 a2 a3 a4) (hp : p < c) (hq : q < c)
    (h : post (a3 (gv_c p 0 q))) : wpX_isAtLeast post (nI c, k, a1, a2, a3, a4) (nI p) (nI q) := by
  have e : (nI p * 100) + nI q = nI (gv_c p 0 q) := by
    show (nI p * nI 100) + nI q = nI (gv_c p 0 q)
    rw [pk_mul, nI_add, show p * 100 + q = gv_c p 0 q by unfold gv_c; omega]
  have hd := gv_zl hZ hp (gv_z0 hZ) hq
  show vp_in ((nI p * 100) + nI q) 1000 ∧ (narrow .boolean (.int (a3 ((nI p * 100) + nI q).toNatClampNeg)) = .int (a3 ((nI p * 100) + nI q).toNatClampNeg) ∧ (post (a3 ((nI p * 100) + nI q).toNatClampNeg)))
  rw [e, nI_clamp (show gv_c p 0 q < 2 ^ 31 by omega)]
  exact ⟨pk_in (gv_c p 0 q) 1000 hd, gv_nar (hZ.2.2 p 0 q hp (gv_z0 hZ) hq).1, h⟩
theorem gv_first {post : Int32 → St1 → Prop} {c p : Nat} {k : Int32} {a1 a2 a3 a4 : Nat → Int32} (hZ : gv_Z c k a1 a2 a3 a4) (hp : p < c)
    (H : ∀ l, l ≤ p → ¬ a3 (gv_c p 0 l) = 0 → ¬ a3 (gv_c l 0 p) = 0 → post (nI l) (nI c, k, a1, a2, a3, a4)) : wpX_first post (nI c, k, a1, a2, a3, a4) (nI p) := by
  have hc := gv_z10 hZ
  have rf := (gv_rf hZ hp).1
  obtain ⟨l, hl, hm⟩ := pk_least (fun l => ¬ a3 (gv_c p 0 l) = 0 ∧ ¬ a3 (gv_c l 0 p) = 0) ⟨p, rf, rf⟩
  have hlp : l ≤ p := Nat.le_of_not_lt (fun z => hm p z ⟨rf, rf⟩)
  unfold wpX_first
  refine gv_has hc hp (br_f (by decide) (gv_lz hZ.2.1 ?_))
  exact pk_loop (σ := Unit) (fun n i _ => wX_first_16 post (nI p) (nI c) k a1 a2 a3 a4 n (nI i)) (fun _ _ => True) l 0 () (by omega) trivial
    (fun n _ _ => pk_le p l (fun z => H l hlp hl.1 hl.2) (fun z => gv_al hZ hp (by omega) (br_f hl.1 (gv_al hZ (by omega) hp (br_f hl.2 (H l hlp hl.1 hl.2))))))
    (fun n i _ hi _ hw => pk_le p i (fun z => absurd z (by omega)) (fun z => gv_al hZ hp (by omega) (br_c (fun e => nm_r (nI_1 i) (hw () trivial)) (fun e => gv_al hZ (by omega) hp (br_t (Classical.byContradiction (fun t => hm i hi ⟨e, t⟩)) (nm_r (nI_1 i) (hw () trivial)))))))
theorem gv_above {post : Int32 → St1 → Prop} {c p : Nat} {k : Int32} {a1 a2 a3 a4 : Nat → Int32} (hZ : gv_Z c k a1 a2 a3 a4) (hp : p < c)
    (H : ∀ v, gb_t v p = true → post v (nI c, k, a1, a2, a3, a4)) : wpX_above post (nI c, k, a1, a2, a3, a4) (nI p) := by
  have hc := gv_z10 hZ
  have rf := (gv_rf hZ hp).1
  unfold wpX_above
  refine gv_has hc hp (br_f (by decide) (gv_lz hZ.2.1 ?_))
  refine pk_loop (σ := Int32) (fun n i s => wX_above_18 post (nI p) (nI c) k a1 a2 a3 a4 n s (nI i)) (fun i s => p < i → gb_t s p = true) c 0 0 (by omega) (fun z => absurd z (by omega))
    (fun n s h => pk_le c c (fun _ => H s (h hp)) (fun z => absurd z (by omega)))
    (fun n i s hi h hw => pk_le c i (fun z => absurd z (by omega)) (fun _ => gv_al hZ hi hp (br_c (fun e => nm_e (nm_r (nI_1 i) (hw _ (fun z => ?_)))) (fun e => nm_e (nm_r (nI_1 i) (hw _ (fun z => ?_)))))))
  · have ne : ¬ i = p := by
      intro t
      subst t
      exact rf e
    rw [gb_or, h (by omega), Bool.true_or]
  · rw [gb_set (by omega) (by omega)]
    by_cases t : p = i
    · rw [decide_eq_true t, Bool.or_true]
    · rw [h (by omega), Bool.true_or]
theorem gv_nvI {v : Int32} {P : Int32 → Prop} (h : P (gv_nv v)) : (v = 0 → P 1) ∧ (¬ v = 0 → P 0) := by
  unfold gv_nv at h
  refine br_c (fun e => ?_) (fun e => ?_)
  · rw [if_pos e] at h
    exact h
  · rw [if_neg e] at h
    exact h
theorem gv_opp {post : Int32 → St1 → Prop} {c p q : Nat} {k : Int32} {a1 a2 a3 a4 : Nat → Int32} (hZ : gv_Z c k a1 a2 a3 a4) (hp : p < c) (hq : q < c)
    (h : post (gv_nv (gv_cv (a3 (gv_c p q 0)) (a4 (gv_c p q 0)))) (nI c, k, a1, a2, a3, a4)) : wpX_opposite post (nI c, k, a1, a2, a3, a4) (nI p) (nI q) := by
  unfold wpX_opposite
  exact gv_cs (r := 0) hZ hp hq (gv_z0 hZ) (gv_nvI (P := fun x => post x (nI c, k, a1, a2, a3, a4)) h)
end
section
/-! ===== the law's pair ===== -/
theorem gq_left {zero : Int32} {X : Int32 → Prop} (a b : Int32) (hz : zero = gv_cv a b) (h : X (gv_nv b)) : (zero = 0 → X 0) ∧ (¬ zero = 0 → ((zero = 2 → X 0) ∧ (¬ zero = 2 → X 1))) := by
  subst hz
  unfold gv_cv
  unfold gv_nv at h
  by_cases e4 : b = 0
  · rw [if_pos e4] at h
    by_cases e3 : a = 0
    · rw [if_pos e3, if_pos e4]
      exact br_f (by decide) (br_f (by decide) h)
    · rw [if_neg e3, if_pos e4]
      exact br_f (by decide) (br_f (by decide) h)
  · rw [if_neg e4] at h
    exact br_c (fun _ => h) (fun n0 => br_c (fun _ => h) (fun n2 => by
      by_cases e3 : a = 0
      · rw [if_pos e3, if_neg e4] at n2
        exact absurd rfl n2
      · rw [if_neg e3, if_neg e4] at n0
        exact absurd rfl n0))
theorem gq_right {zero : Int32} {X : Int32 → Prop} (a b : Int32) (hz : zero = gv_cv a b) (h : X (gv_nv a)) : (zero = 0 → X 0) ∧ (¬ zero = 0 → ((zero = 1 → X 0) ∧ (¬ zero = 1 → X 1))) := by
  subst hz
  unfold gv_cv
  unfold gv_nv at h
  by_cases e3 : a = 0
  · rw [if_pos e3] at h
    rw [if_pos e3]
    by_cases e4 : b = 0
    · rw [if_pos e4]
      exact br_f (by decide) (br_f (by decide) h)
    · rw [if_neg e4]
      exact br_f (by decide) (br_f (by decide) h)
  · rw [if_neg e3] at h
    rw [if_neg e3]
    exact br_c (fun _ => h) (fun n0 => br_c (fun _ => h) (fun n1 => by
      by_cases e4 : b = 0
      · rw [if_pos e4] at n1
        exact absurd rfl n1
      · rw [if_neg e4] at n0
        exact absurd rfl n0))
theorem gq_due {r1 r2 : Int32} {X : Int32 → Prop} (a b : Int32) (h1 : r1 = gv_cv a b) (h2 : r2 = gv_cv b a) (h : X r2) : (r1 = 1 → X 2) ∧ (¬ r1 = 1 → ((r1 = 2 → X 1) ∧ (¬ r1 = 2 → X r1))) := by
  subst h1 h2
  unfold gv_cv at h ⊢
  by_cases e3 : a = 0
  · by_cases e4 : b = 0
    · rw [if_pos e4, if_pos e3] at h
      rw [if_pos e3, if_pos e4]
      exact br_f (by decide) (br_f (by decide) h)
    · rw [if_neg e4, if_pos e3] at h
      rw [if_pos e3, if_neg e4]
      exact br_f (by decide) (br_t rfl h)
  · by_cases e4 : b = 0
    · rw [if_pos e4, if_neg e3] at h
      rw [if_neg e3, if_pos e4]
      exact br_t rfl h
    · rw [if_neg e4, if_neg e3] at h
      rw [if_neg e3, if_neg e4]
      exact br_f (by decide) (br_f (by decide) h)
theorem gq_159 {post : Int32 → St1 → Prop} {c p q l : Nat} {k z0 z1 : Int32} {a1 a2 a3 a4 : Nat → Int32} (hZ : gv_Z c k a1 a2 a3 a4) (hp : p < c) (hq : q < c) (hl : l ≤ p) (e1 : ¬ a3 (gv_c p 0 l) = 0) (e2 : ¬ a3 (gv_c l 0 p) = 0) (hz : z1 = z0)
    (h : post 1 (nI c, k, a1, a2, a3, a4)) : wL_pair_159 post (nI p) (nI q) (nI l) (gv_nv (a4 (gv_c p 0 0))) (gv_nv (a3 (gv_c p 0 0))) z0 z1 (nI c) k a1 a2 a3 a4 := by
  have hc := gv_z10 hZ
  have h0 := gv_z0 hZ
  have hl' : l < c := by omega
  unfold wL_pair_159
  refine br_t hz (gv_ws0 (q := 0) hZ hp h0 (br_t rfl (gv_ws1 (q := 0) hZ hp h0 (br_t rfl (br_f (nI_pos (by omega)) (br_f (nI_nlt hl (by omega)) ?_))))))
  refine gv_cmp hZ hl' hp (br_t (gv_cv0 e2 ((gv_du hZ hp hl').mp e1)) ?_)
  refine gv_above hZ hp (fun v hv => br_t (gb_at1 (by omega) hv) ?_)
  refine gv_opp hZ hp hq ?_
  refine gv_opp hZ hq hp (br_t ?_ h)
  exact congrArg gv_nv (gv_cve (gv_s3 hZ hp hq h0) (gv_s4 hZ hp hq h0))
theorem gq_138 {post : Int32 → St1 → Prop} {c p q l : Nat} {k z0 z1 : Int32} {a1 a2 a3 a4 : Nat → Int32} (hZ : gv_Z c k a1 a2 a3 a4) (hp : p < c) (hq : q < c) (hl : l ≤ p) (e1 : ¬ a3 (gv_c p 0 l) = 0) (e2 : ¬ a3 (gv_c l 0 p) = 0) (hz : z1 = z0)
    (h : post 1 (nI c, k, a1, a2, a3, a4)) : wL_pair_138 post (nI p) (nI q) (nI l) (gv_cv (a3 (gv_c p 0 0)) (a4 (gv_c p 0 0))) (gv_nv (a4 (gv_c p 0 0))) (gv_nv (a3 (gv_c p 0 0))) z0 z1 (nI c) k a1 a2 a3 a4 := by
  unfold wL_pair_138 wL_pair_158
  exact br_t hz (gq_right (X := fun z => wL_pair_159 post (nI p) (nI q) (nI l) (gv_nv (a4 (gv_c p 0 0))) (gv_nv (a3 (gv_c p 0 0))) z (gv_nv (a3 (gv_c p 0 0))) (nI c) k a1 a2 a3 a4) (a3 (gv_c p 0 0)) (a4 (gv_c p 0 0)) rfl (gq_159 hZ hp hq hl e1 e2 rfl h))
theorem gq_38 {post : Int32 → St1 → Prop} {c p q r : Nat} {k z0 z1 : Int32} {a1 a2 a3 a4 : Nat → Int32} (hZ : gv_Z c k a1 a2 a3 a4) (hp : p < c) (hq : q < c) (hr : r < c) (hz : z1 = z0)
    (h : post 1 (nI c, k, a1, a2, a3, a4)) : wL_pair_38 post (nI p) (nI q) (nI r) z1 z0 (nI c) k a1 a2 a3 a4 := by
  have h0 := gv_z0 hZ
  have rf := gv_rf hZ hp
  unfold wL_pair_38 wL_pair_137
  refine gv_first hZ hp (fun l hl e1 e2 => ?_)
  refine gv_cmp (q := 0) hZ hp h0 ?_
  refine gv_w0 hZ hp ?_
  refine gv_w1 hZ hp (br_t hz ?_)
  refine gv_cmp hZ hp hp (br_t (gv_cv0 rf.1 rf.2) ?_)
  refine gv_cs (q := 0) hZ hp h0 hr ?_
  refine gv_cmp hZ hp hr (br_t rfl ?_)
  refine gv_cs hZ hp hq hr ?_
  refine gv_cs hZ hq hp hr (br_t (gv_cve (gv_s3 hZ hp hq hr) (gv_s4 hZ hp hq hr)) ?_)
  exact gq_left (X := fun z => wL_pair_138 post (nI p) (nI q) (nI l) (gv_cv (a3 (gv_c p 0 0)) (a4 (gv_c p 0 0))) (gv_nv (a4 (gv_c p 0 0))) (gv_nv (a3 (gv_c p 0 0))) z (gv_nv (a4 (gv_c p 0 0))) (nI c) k a1 a2 a3 a4) (a3 (gv_c p 0 0)) (a4 (gv_c p 0 0)) rfl (gq_138 hZ hp hq hl e1 e2 rfl h)
theorem gq_pair {post : Int32 → St1 → Prop} {c p q r : Nat} {k x1 x2 x3 : Int32} {a1 a2 a3 a4 : Nat → Int32} (hO : gv_ok c k a1 a2 a3 a4) (hp : p < c) (hq : q < c) (hr : r < c) (e1 : x1 = nI p) (e2 : x2 = nI q) (e3 : x3 = nI r)
    (H : ∀ k' a3' a4', gv_Z c k' a1 a2 a3' a4' → post 1 (nI c, k', a1, a2, a3', a4')) : wpL_pair post (nI c, k, a1, a2, a3, a4) x1 x2 x3 := by
  subst e1 e2 e3
  unfold wpL_pair
  refine gv_cmpG hO hp hq (fun k' b3 b4 hZ => ?_)
  refine gv_cmp hZ hq hp ?_
  exact gq_due (X := fun z => wL_pair_38 post (nI p) (nI q) (nI r) (gv_cv (b3 (gv_c q 0 p)) (b4 (gv_c q 0 p))) z (nI c) k' a1 a2 b3 b4) (b3 (gv_c p 0 q)) (b4 (gv_c p 0 q)) rfl (gv_cve (gv_du hZ hq hp) (gv_du hZ hp hq).symm) (gq_38 hZ hp hq hr rfl (H k' b3 b4 hZ))
end
section
/-! ===== the law's moves ===== -/
def gd_m (a1 a2 : Nat → Int32) (sd p : Nat) : Int32 := if sd = 0 then a1 p else a2 p
def gd_g (a3 : Nat → Int32) (sd y x : Nat) : Int32 := if sd = 0 then a3 (gv_c y 0 x) else a3 (gv_c x 0 y)
/-- x is dominated among the moves all -/
def gd_D (a3 : Nat → Int32) (sd c : Nat) (all : Int32) (x : Nat) : Prop := ∃ y, y < c ∧ ¬ y = x ∧ gb_t all x = true ∧ gb_t all y = true ∧ ¬ gd_g a3 sd y x = 0 ∧ (y < x ∨ gd_g a3 sd x y = 0)
def gd_I (a3 : Nat → Int32) (sd c : Nat) (all s : Int32) : Prop := ∀ x, gb_t s x = true → gd_D a3 sd c all x
theorem gd_mv {post : Int32 → Prop} {c p sd : Nat} {k : Int32} {a1 a2 a3 a4 : Nat → Int32} (hc : c ≤ 10) (hp : p < c) (hsd : sd < 2) (h : post (gd_m a1 a2 sd p)) : wpX_moves post (nI c, k, a1, a2, a3, a4) (nI p) (nI sd) := by
  have ep : (nI p).toNatClampNeg = p := nI_clamp (by omega)
  unfold wpX_moves
  refine gv_has hc hp (br_f (by decide) ?_)
  rcases (show sd = 0 ∨ sd = 1 by omega) with e | e
  · subst e
    refine br_t rfl ?_
    unfold wX_moves_17
    refine br_t rfl ⟨pk_in p 10 (by omega), ?_⟩
    rw [ep]
    exact h
  · subst e
    refine br_f (by decide) (br_t rfl ?_)
    unfold wX_moves_17
    refine br_f (by decide) ⟨pk_in p 10 (by omega), ?_⟩
    rw [ep]
    exact h
theorem gd_ag {post : Int32 → Prop} {c y x sd : Nat} {k : Int32} {a1 a2 a3 a4 : Nat → Int32} (hZ : gv_Z c k a1 a2 a3 a4) (hy : y < c) (hx : x < c) (hsd : sd < 2) (h : post (gd_g a3 sd y x)) : wpX_asGood post (nI c, k, a1, a2, a3, a4) (nI y) (nI x) (nI sd) := by
  rcases (show sd = 0 ∨ sd = 1 by omega) with e | e
  · subst e
    exact br_t rfl (gv_al hZ hy hx ⟨gv_nar (hZ.2.2 y 0 x hy (gv_z0 hZ) hx).1, h⟩)
  · subst e
    exact br_f (by decide) (gv_al hZ hx hy ⟨gv_nar (hZ.2.2 x 0 y hx (gv_z0 hZ) hy).1, h⟩)
theorem gd_put {a3 : Nat → Int32} {sd c i : Nat} {all s : Int32} (hi : i < 32) (hs : gd_I a3 sd c all s) (hD : gd_D a3 sd c all i) : gd_I a3 sd c all (s ||| ((1 : Int32) <<< (nI i &&& 31))) := by
  intro x hx
  rcases Nat.lt_or_ge x 32 with z | z
  · rw [gb_set hi z] at hx
    by_cases e : x = i
    · rw [e]
      exact hD
    · rw [decide_eq_false e, Bool.or_false] at hx
      exact hs x hx
  · rw [gb_big z] at hx
    exact absurd hx (by decide)
theorem gd_112 {post : Int32 → St1 → Prop} {J23 J35 : Int32 → Int32 → Prop} {c i j sd : Nat} {k all s : Int32} {a1 a2 a3 a4 : Nat → Int32} (hi : i < 32) (hs : gd_I a3 sd c all s) (hD : gd_D a3 sd c all i)
    (H : ∀ s', gd_I a3 sd c all s' → J35 s' (nI (j + 1))) : wX_dominated_112 post J23 J35 (nI sd) all s (nI i) (nI j) (nI c) k a1 a2 a3 a4 :=
  nm_e (nm_r (nI_1 j) (H _ (gd_put hi hs hD)))
theorem gd_74 {post : Int32 → St1 → Prop} {J23 J35 : Int32 → Int32 → Prop} {c i j sd : Nat} {k all s z0 : Int32} {a1 a2 a3 a4 : Nat → Int32} (hZ : gv_Z c k a1 a2 a3 a4) (hi : i < c) (hj : j < c) (hsd : sd < 2)
    (hz : ¬ z0 = 0 → ¬ j = i ∧ gb_t all i = true ∧ gb_t all j = true) (hs : gd_I a3 sd c all s)
    (H : ∀ s', gd_I a3 sd c all s' → J35 s' (nI (j + 1))) : wX_dominated_74 post J23 J35 (nI sd) all s (nI i) (nI j) z0 (nI c) k a1 a2 a3 a4 := by
  have hc := gv_z10 hZ
  have stay : ∀ x6_23 : Int32, x6_23 = nI j + 1 → J35 s x6_23 := nm_r (nI_1 j) (H s hs)
  unfold wX_dominated_74
  refine br_c (fun _ => stay) (fun e => ?_)
  obtain ⟨n1, n2, n3⟩ := hz e
  refine gd_ag hZ hj hi hsd (br_c (fun _ => stay) (fun g1 => ?_))
  refine pk_lt j i (fun z => ?_) (fun z => ?_)
  · exact gd_112 (by omega) hs ⟨j, hj, n1, n2, n3, g1, Or.inl z⟩ H
  · exact gd_ag hZ hi hj hsd (br_c (fun g2 => gd_112 (by omega) hs ⟨j, hj, n1, n2, n3, g1, Or.inr g2⟩ H) (fun _ => stay))
theorem gd_35 {post : Int32 → St1 → Prop} {J23 : Int32 → Int32 → Prop} {c i sd : Nat} {k all s : Int32} {a1 a2 a3 a4 : Nat → Int32} (hZ : gv_Z c k a1 a2 a3 a4) (hi : i < c) (hsd : sd < 2) (hs : gd_I a3 sd c all s)
    (H : ∀ s', gd_I a3 sd c all s' → J23 s' (nI (i + 1))) : ∃ n, wX_dominated_35 post J23 (nI sd) all (nI i) (nI c) k a1 a2 a3 a4 n s 0 := by
  have hc := gv_z10 hZ
  refine pk_loop (σ := Int32) (fun n j s => wX_dominated_35 post J23 (nI sd) all (nI i) (nI c) k a1 a2 a3 a4 n s (nI j)) (fun _ s => gd_I a3 sd c all s) c 0 s (by omega) hs
    (fun n s h => pk_le c c (fun _ => nm_r (nI_1 i) (H s h)) (fun z => absurd z (by omega)))
    (fun n j s hj h hw => pk_le c j (fun z => absurd z (by omega)) (fun _ => ?_))
  have skip : wX_dominated_73 post J23 (wX_dominated_35 post J23 (nI sd) all (nI i) (nI c) k a1 a2 a3 a4 n) (nI sd) all s (nI i) (nI j) (nI c) k a1 a2 a3 a4 := by
    unfold wX_dominated_73
    exact gd_74 hZ hi hj hsd (fun z => absurd rfl z) h hw
  exact pk_eq i j (fun _ => skip) (fun ne => gv_in (by omega) (fun _ => br_t rfl skip) (fun b1 => br_f (by decide) (gv_in (by omega) (fun _ => br_t rfl skip) (fun b2 => br_f (by decide) (gd_74 hZ hi hj hsd (fun _ => ⟨fun t => ne t.symm, b1, b2⟩) h hw)))))
theorem gd_dom {post : Int32 → St1 → Prop} {c p sd : Nat} {k : Int32} {a1 a2 a3 a4 : Nat → Int32} (hZ : gv_Z c k a1 a2 a3 a4) (hp : p < c) (hsd : sd < 2) (hm : 0 ≤ gd_m a1 a2 sd p)
    (H : ∀ v, gd_I a3 sd c (gd_m a1 a2 sd p) v → post v (nI c, k, a1, a2, a3, a4)) : wpX_dominated post (nI c, k, a1, a2, a3, a4) (nI p) (nI sd) := by
  have hc := gv_z10 hZ
  unfold wpX_dominated
  refine gd_mv hc hp hsd (br_t hm (gv_lz hZ.2.1 ?_))
  exact pk_loop (σ := Int32) (fun n i s => wX_dominated_23 post (nI sd) (gd_m a1 a2 sd p) (nI c) k a1 a2 a3 a4 n s (nI i)) (fun _ s => gd_I a3 sd c (gd_m a1 a2 sd p) s) c 0 0 (by omega) (fun x hx => absurd hx (by rw [gb_0]; decide))
    (fun n s h => pk_le c c (fun _ => H s h) (fun z => absurd z (by omega)))
    (fun n i s hi h hw => pk_le c i (fun z => absurd z (by omega)) (fun _ => gd_35 hZ hi hsd h hw))
/-! what the law asks of the answer -/
theorem gd_sub {a3 : Nat → Int32} {sd c : Nat} {m v : Int32} (h : gd_I a3 sd c m v) : v &&& (m ^^^ (-1)) = 0 := by
  apply gb_ext
  intro i hi
  rw [gb_and, gb_xor, gb_m1 i hi, gb_0]
  cases hv : gb_t v i
  · rfl
  · obtain ⟨y, _, _, hm, _⟩ := h i hv
    rw [hm]
    rfl
theorem gd_nil {a3 : Nat → Int32} {sd c : Nat} {m v : Int32} (h : gd_I a3 sd c m v) (e : m = 0) : v = 0 := by
  apply gb_ext
  intro i hi
  rw [gb_0]
  cases hv : gb_t v i
  · rfl
  · obtain ⟨y, _, _, hm, _⟩ := h i hv
    rw [e, gb_0] at hm
    exact hm.symm
theorem gd_nall {c p sd : Nat} {k v : Int32} {a1 a2 a3 a4 : Nat → Int32} (hZ : gv_Z c k a1 a2 a3 a4) (hp : p < c) (h : gd_I a3 sd c (gd_m a1 a2 sd p) v) (ne : ¬ gd_m a1 a2 sd p = 0) : ¬ v = gd_m a1 a2 sd p := by
  intro e
  have hb : ∀ x, gb_t (gd_m a1 a2 sd p) x = true → x < c := by
    intro x hx
    unfold gd_m at hx
    by_cases s0 : sd = 0
    · rw [if_pos s0] at hx
      have := gv_b1 hZ.1 hp hx
      omega
    · rw [if_neg s0] at hx
      have := gv_b2 hZ.1 hp hx
      omega
  have tr : ∀ a b d, a < c → b < c → d < c → ¬ gd_g a3 sd a b = 0 → ¬ gd_g a3 sd b d = 0 → ¬ gd_g a3 sd a d = 0 := by
    intro a b d ha hb hd h1 h2
    unfold gd_g at h1 h2 ⊢
    by_cases s0 : sd = 0
    · rw [if_pos s0] at h1 h2 ⊢
      exact gv_tr hZ ha hb hd h1 h2
    · rw [if_neg s0] at h1 h2 ⊢
      exact gv_tr hZ hd hb ha h2 h1
  obtain ⟨i, _, hi⟩ := gb_some ne
  obtain ⟨u, hu, su, un⟩ := gv_und (c := c) (G := fun y x => ¬ gd_g a3 sd y x = 0) (S := fun x => gb_t (gd_m a1 a2 sd p) x = true) tr c (Nat.le_refl c) ⟨i, hb i hi, hi⟩
  obtain ⟨y, hy, ny, _, sy, g1, g2⟩ := h u (by rw [e]; exact su)
  refine un y hy sy ny g1 ?_
  rcases g2 with g2 | g2
  · exact Or.inl g2
  · exact Or.inr (fun t => t g2)
theorem gd_pos {c p sd : Nat} {k : Int32} {a1 a2 a3 a4 : Nat → Int32} (hZ : gv_Z c k a1 a2 a3 a4) (hp : p < c) : 0 ≤ gd_m a1 a2 sd p := by
  have hc := gv_z10 hZ
  have h2 : 2 ^ p ≤ 2 ^ 10 := Nat.pow_le_pow_right (by omega) (by omega)
  unfold gd_m
  by_cases s0 : sd = 0
  · rw [if_pos s0]
    obtain ⟨n, hn, e⟩ := hZ.1.2.2.1 p hp
    rw [e]
    exact nI_pos' (by omega)
  · rw [if_neg s0]
    obtain ⟨n, hn, e⟩ := hZ.1.2.2.2 p hp
    rw [e]
    exact nI_pos' (by omega)
theorem gd_moves {post : Int32 → St1 → Prop} {c p sd : Nat} {k x1 x2 : Int32} {a1 a2 a3 a4 : Nat → Int32} (hZ : gv_Z c k a1 a2 a3 a4) (hp : p < c) (hsd : sd < 2) (e1 : x1 = nI p) (e2 : x2 = nI sd)
    (h : post 1 (nI c, k, a1, a2, a3, a4)) : wpL_moves post (nI c, k, a1, a2, a3, a4) x1 x2 := by
  subst e1 e2
  have hc := gv_z10 hZ
  unfold wpL_moves
  refine gd_mv hc hp hsd (gd_dom hZ hp hsd (gd_pos hZ hp) (fun v hv => ?_))
  exact br_t (gd_sub hv) (br_c (fun e => br_t (gd_nil hv e) h) (fun e => br_f (gd_nall hZ hp hv e) h))
end
section
/-! ===== add, drop, the law ===== -/
theorem gl_sh : ∀ c, c < 11 → (1 : Int32) <<< (nI c &&& 31) = nI (2 ^ c) := by decide +kernel
theorem gl_16 : ∀ j, j < 1024 → (nI j).toInt16.toInt32 = nI j := by decide +kernel
theorem gl_p10 {c : Nat} (hc : c ≤ 10) : 2 ^ c ≤ 1024 := Nat.pow_le_pow_right (n := 2) (by omega) hc
theorem gl_set {post : Int32 → Prop} {c j : Nat} {k : Int32} {a1 a2 a3 a4 : Nat → Int32} (hc : c ≤ 10) (hj : j < 2 ^ c) (h : post 1) : wpX_isSet post (nI c, k, a1, a2, a3, a4) (nI j) := by
  have h2 := gl_p10 hc
  refine br_f (nI_pos (by omega)) (br_f ?_ h)
  rw [gl_sh c (by omega)]
  exact nI_ge hj (by omega)
theorem gl_up {c j : Nat} {a : Nat → Int32} (h : ∀ p, p < c → ∃ n, n < 2 ^ p ∧ a p = nI n) (hj : j < 2 ^ c) : ∀ p, p < c + 1 → ∃ n, n < 2 ^ p ∧ upd a c (nI j) p = nI n := by
  intro p hp
  by_cases e : p = c
  · subst e
    exact ⟨j, hj, pk_us⟩
  · rw [pk_un e]
    exact h p (by omega)
theorem gl_add {post : Int32 → St1 → Prop} {c j1 j2 : Nat} {k x1 x2 : Int32} {a1 a2 a3 a4 : Nat → Int32} (hO : gv_ok c k a1 a2 a3 a4) (h1 : j1 < 2 ^ c) (h2 : j2 < 2 ^ c) (e1 : x1 = nI j1) (e2 : x2 = nI j2)
    (H : ∀ r c' k' b1 b2, gv_ok c' k' b1 b2 a3 a4 → post r (nI c', k', b1, b2, a3, a4)) : wpX_add post (nI c, k, a1, a2, a3, a4) x1 x2 := by
  subst e1 e2
  have hc : c ≤ 10 := hO.1.2.1
  have hp := gl_p10 hc
  unfold wpX_add
  refine gl_set hc h1 (br_f (by decide) (gl_set hc h2 (br_f (by decide) ?_)))
  refine pk_lt c 10 (fun z => ⟨pk_in c 10 z, nm_r (e' := upd a1 c (nI j1)) ?_ ⟨pk_in c 10 z, nm_r (e' := upd a2 c (nI j2)) ?_ (nm_r (nI_1 c) (H _ (c + 1) 0 _ _ ⟨⟨by omega, by omega, gl_up hO.1.2.2.1 h1, gl_up hO.1.2.2.2 h2⟩, fun t => absurd rfl t⟩))⟩⟩) (fun z => H _ c k a1 a2 hO)
  · rw [nI_clamp (by omega), gl_16 j1 (by omega)]
  · rw [nI_clamp (by omega), gl_16 j2 (by omega)]
theorem gl_drop {post : Int32 → St1 → Prop} {c : Nat} {k : Int32} {a1 a2 a3 a4 : Nat → Int32} (hO : gv_ok c k a1 a2 a3 a4)
    (H : ∀ r c' k', gv_ok c' k' a1 a2 a3 a4 → post r (nI c', k', a1, a2, a3, a4)) : wpX_drop post (nI c, k, a1, a2, a3, a4) := by
  obtain ⟨hP, hK⟩ := hO
  have hc := hP.2.1
  refine pk_eq c 1 (fun z => H _ c k ⟨hP, hK⟩) (fun z => ?_)
  obtain ⟨d, rfl⟩ : ∃ d, c = d + 1 := ⟨c - 1, by have := hP.1; omega⟩
  exact nm_r (nI_pred d) (H _ d 0 ⟨⟨by omega, by omega, fun p hp => hP.2.2.1 p (by omega), fun p hp => hP.2.2.2 p (by omega)⟩, fun t => absurd rfl t⟩)
theorem gl_rem {y : Int32} {c : Nat} (h1 : 1 ≤ c) (hc : c ≤ 10) : ∃ j, j < c ∧ (y &&& 15) - (y &&& 15) / nI c * nI c = nI j := by
  obtain ⟨j, hj, e⟩ := pk_andE y (m := 15) 4 (by decide)
  refine ⟨j % c, Nat.mod_lt _ (by omega), ?_⟩
  rw [e, pk_rem (by omega) (by omega) (by omega)]
theorem gl_91 {post : Int32 → Prop} {L : Nat} {xs : Nat → Int32} {J10 : Int32 → Int32 → Int32 → (Nat → Int32) → (Nat → Int32) → (Nat → Int32) → (Nat → Int32) → Prop} {i kc ks c : Nat} {x4 k : Int32} {a1 a2 a3 a4 : Nat → Int32} (hO : gv_ok c k a1 a2 a3 a4)
    (H : ∀ k' b3 b4, gv_ok c k' a1 a2 b3 b4 → J10 (nI (i + 1)) (nI c) k' a1 a2 b3 b4) : wL_law_91 post L xs J10 (nI i) x4 kc ks (nI c) k a1 a2 a3 a4 := by
  have h1 := hO.1.1
  have hc := hO.1.2.1
  have ne : ¬ nI c = 0 := nI_ne0 (by omega) (by omega)
  obtain ⟨p, hp, ep⟩ := gl_rem (y := x4 >>> ((5 : Int32) &&& 31)) h1 hc
  obtain ⟨q, hq, eq⟩ := gl_rem (y := x4 >>> ((9 : Int32) &&& 31)) h1 hc
  obtain ⟨r, hr, er⟩ := gl_rem (y := x4 >>> ((13 : Int32) &&& 31)) h1 hc
  obtain ⟨d, hd, ed⟩ : ∃ d, d < c ∧ nI c - 1 = nI d := by
    obtain ⟨d, rfl⟩ : ∃ d, c = d + 1 := ⟨c - 1, by omega⟩
    exact ⟨d, by omega, nI_pred d⟩
  obtain ⟨sd, hsd, es⟩ := pk_andE x4 (m := 1) 1 (by decide)
  unfold wL_law_91
  refine ⟨ne, nm_r ep ⟨ne, nm_r eq ⟨ne, ?_⟩⟩⟩
  refine gq_pair hO hp hq hr rfl rfl er (fun k1 b3 b4 z1 => br_f (by decide) ?_)
  refine gq_pair (gv_zo z1) hd hp hq ed rfl rfl (fun k2 d3 d4 z2 => br_f (by decide) ?_)
  refine gd_moves (sd := 0) z2 hd (by omega) ed rfl (br_f (by decide) ?_)
  refine gd_moves (sd := 1) z2 hd (by omega) ed rfl (br_f (by decide) ?_)
  exact gd_moves z2 hp hsd rfl es (br_f (by decide) (nm_r (nI_1 i) (H k2 d3 d4 (gv_zo z2))))
theorem gl_arg {x y : Int32} {c : Nat} (hc : c ≤ 10) : ∃ j, j < 2 ^ c ∧ (x &&& (((1 : Int32) <<< (nI c &&& 31)) - 1)) &&& y = nI j := by
  have h2 := gl_p10 hc
  have h0 : 1 ≤ 2 ^ c := Nat.one_le_two_pow
  have em : ((1 : Int32) <<< (nI c &&& 31)) - 1 = nI (2 ^ c - 1) := by
    rw [gl_sh c (by omega)]
    exact pk_sub (b := 1) h0
  obtain ⟨j, hj, e⟩ := pk_andE (x &&& y) (m := nI (2 ^ c - 1)) c (pk_tn (by omega))
  refine ⟨j, hj, ?_⟩
  rw [em, ← e, Int32.and_assoc, Int32.and_assoc, Int32.and_comm (nI (2 ^ c - 1)) y]
theorem i_vc (xs : Nat → Int32) (L : Nat) (hL : L ≤ 260) : wpL_law (fun r => r = 1) L xs := by
  refine ⟨4, 2020, by omega, by omega, by omega, by omega, by omega, by omega, by omega, by omega, by omega, by omega, ?_⟩
  refine pk_loop (σ := Nat × Int32 × (Nat → Int32) × (Nat → Int32) × (Nat → Int32) × (Nat → Int32)) (fun n i s => wL_law_10 (fun r => r = 1) L xs (1 + 4) (6 + 2020) n (nI i) (nI s.1) s.2.1 s.2.2.1 s.2.2.2.1 s.2.2.2.2.1 s.2.2.2.2.2) (fun _ s => gv_ok s.1 s.2.1 s.2.2.1 s.2.2.2.1 s.2.2.2.2.1 s.2.2.2.2.2) L 0 (1, 0, fun _ => 0, fun _ => 0, fun _ => 0, fun _ => 0) (by omega)
    ⟨⟨by decide, by decide, fun p hp => ⟨0, Nat.two_pow_pos p, rfl⟩, fun p hp => ⟨0, Nat.two_pow_pos p, rfl⟩⟩, fun t => absurd rfl t⟩
    (fun n s h => pk_le L L (fun _ => rfl) (fun z => absurd z (by omega)))
    (fun n i s hi h hw => pk_le L i (fun z => absurd z (by omega)) (fun _ => ⟨pk_in i L hi, nm_e ⟨pk_in i L hi, nm_e ?_⟩⟩))
  obtain ⟨c, k, a1, a2, a3, a4⟩ := s
  have next : ∀ (c' : Nat) (k' : Int32) (b1 b2 b3 b4 : Nat → Int32), gv_ok c' k' b1 b2 b3 b4 → wL_law_10 (fun r => r = 1) L xs (1 + 4) (6 + 2020) n (nI (i + 1)) (nI c') k' b1 b2 b3 b4 := fun c' k' b1 b2 b3 b4 h' => hw (c', k', b1, b2, b3, b4) h'
  have hc : c ≤ 10 := h.1.2.1
  refine br_c (fun _ => ?_) (fun _ => nm_e ?_)
  · exact gl_drop h (fun r c' k' h' => gl_91 h' (fun k2 b3 b4 h2 => next c' k2 a1 a2 b3 b4 h2))
  · obtain ⟨j1, hj1, e1⟩ := gl_arg (x := (xs (nI i).toNatClampNeg) >>> ((4 : Int32) &&& 31)) (y := (((xs (nI i).toNatClampNeg) >>> ((4 : Int32) &&& 31)) >>> ((10 : Int32) &&& 31)) ||| 1) hc
    obtain ⟨j2, hj2, e2⟩ := gl_arg (x := ((xs (nI i).toNatClampNeg) >>> ((4 : Int32) &&& 31)) >>> ((3 : Int32) &&& 31)) (y := (((xs (nI i).toNatClampNeg) >>> ((4 : Int32) &&& 31)) >>> ((13 : Int32) &&& 31)) ||| 2) hc
    exact gl_add h hj1 hj2 e1 e2 (fun r c' k' b1 b2 h' => gl_91 h' (fun k2 b3 b4 h2 => next c' k2 b1 b2 b3 b4 h2))
end
