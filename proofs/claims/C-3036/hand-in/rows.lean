section
/-! pure rows to paste: stores, nI and lN arithmetic, masks, shifts, narrowing, branches by naturals (pk_le, pk_lt, pk_eq), loops (lp1 .. lp16: the measure of the state; rp1 ..: recursion), negatives. Take what you need -/
theorem pk_us {f : Nat → Int32} {k : Nat} {x : Int32} : upd f k x k = x := if_pos rfl
theorem pk_un {f : Nat → Int32} {k j : Nat} {x : Int32} (h : j ≠ k) : upd f k x j = f j := if_neg h
theorem pk_uLs {f : Nat → Int64} {k : Nat} {x : Int64} : vp_updL f k x k = x := if_pos rfl
theorem pk_uLn {f : Nat → Int64} {k j : Nat} {x : Int64} (h : j ≠ k) : vp_updL f k x j = f j := if_neg h
theorem pk_sub {a b : Nat} (h : b ≤ a) : nI a - nI b = nI (a - b) := by
  obtain ⟨c, rfl⟩ : ∃ c, a = c + b := ⟨a - b, by omega⟩
  rw [← nI_add, Int32.add_sub_cancel, Nat.add_sub_cancel]
theorem pk_m1 (n : Nat) : nI (n + 1) + (-1) = nI n := by
  rw [← nI_1, Int32.add_assoc, show (1 : Int32) + (-1) = 0 from rfl, Int32.add_zero]
theorem pk_mul (a b : Nat) : nI a * nI b = nI (a * b) := (Int32.ofNat_mul a b).symm
theorem pk_div {a d : Nat} (ha : a < 2 ^ 31) (h0 : 0 < d) (hd : d < 2 ^ 31) : nI a / nI d = nI (a / d) := by
  apply Int32.toInt_inj.mp
  rw [lg_idiv_nonneg (by rw [nI_toInt ha]; omega) (by rw [nI_toInt hd]; omega), nI_toInt ha, nI_toInt hd, nI_toInt (Nat.lt_of_le_of_lt (Nat.div_le_self a d) ha)]
  first | rfl | exact (Int.natCast_ediv _ _).symm
theorem pk_rem {a d : Nat} (ha : a < 2 ^ 31) (h0 : 0 < d) (hd : d < 2 ^ 31) : nI a - nI a / nI d * nI d = nI (a % d) := by
  rw [pk_div ha h0 hd, pk_mul, pk_sub (Nat.div_mul_le_self a d)]
  exact congrArg nI (by have := Nat.div_add_mod' a d; omega)
theorem pk_sub_toInt {a b : Nat} (ha : a < 2 ^ 30) (hb : b < 2 ^ 30) : (nI a - nI b).toInt = (a : Int) - b := by
  rw [Int32.toInt_sub, nI_toInt (by omega), nI_toInt (by omega)]
  exact Int.bmod_eq_of_le (by omega) (by omega)
theorem pk_sneg {a b : Nat} (hb : b < 2 ^ 30) (h : a < b) : nI a - nI b < 0 := by
  rw [Int32.lt_iff_toInt_lt, pk_sub_toInt (by omega) hb, show (0 : Int32).toInt = 0 from by decide]
  omega
theorem pk_ix (x : Int32) {n : Nat} (hn : n < 2 ^ 31) : x < 0 ∨ nI n ≤ x ∨ ∃ j : Nat, j < n ∧ x = nI j := by
  by_cases h : x < 0
  · exact Or.inl h
  · obtain ⟨j, hj, rfl⟩ := nI_of h
    by_cases h2 : j < n
    · exact Or.inr (Or.inr ⟨j, h2, rfl⟩)
    · exact Or.inr (Or.inl (nI_le (by omega) hj))
theorem pk_le {x y : Int32} {A B : Prop} (a b : Nat) (f : a ≤ b → A) (g : b < a → B) (hx : x = nI a := by rfl) (hy : y = nI b := by rfl) (ha : a < 2 ^ 31 := by omega) (hb : b < 2 ^ 31 := by omega) : (x ≤ y → A) ∧ (¬ x ≤ y → B) := by
  subst hx hy
  rw [nI_leI ha hb]
  exact ⟨f, fun z => g (by omega)⟩
theorem pk_lt {x y : Int32} {A B : Prop} (a b : Nat) (f : a < b → A) (g : b ≤ a → B) (hx : x = nI a := by rfl) (hy : y = nI b := by rfl) (ha : a < 2 ^ 31 := by omega) (hb : b < 2 ^ 31 := by omega) : (x < y → A) ∧ (¬ x < y → B) := by
  subst hx hy
  rw [nI_ltI ha hb]
  exact ⟨f, fun z => g (by omega)⟩
theorem pk_eq {x y : Int32} {A B : Prop} (a b : Nat) (f : a = b → A) (g : a ≠ b → B) (hx : x = nI a := by rfl) (hy : y = nI b := by rfl) (ha : a < 2 ^ 31 := by omega) (hb : b < 2 ^ 31 := by omega) : (x = y → A) ∧ (¬ x = y → B) := by
  subst hx hy
  rw [nI_eq ha hb]
  exact ⟨f, g⟩
theorem pk_in {x : Int32} (n N : Nat) (h : n < N) (hx : x = nI n := by rfl) (hN : N < 2 ^ 31 := by omega) : vp_in x N := by
  subst hx
  exact vp_in_nI h hN
theorem pk_cl {x : Int32} (n : Nat) (hx : x = nI n := by rfl) (h : n < 2 ^ 31 := by omega) : x.toNatClampNeg = n := by
  subst hx
  exact nI_clamp h
theorem pk_tn {n : Nat} (h : n < 2 ^ 32) : (nI n).toBitVec.toNat = n := Nat.mod_eq_of_lt h
theorem pk_and (x : Int32) {m : Int32} (k : Nat) (hm : m.toBitVec.toNat = 2 ^ k - 1) : x &&& m = nI (x.toBitVec.toNat % 2 ^ k) := by
  apply Int32.toBitVec_inj.mp
  apply BitVec.eq_of_toNat_eq
  rw [Int32.toBitVec_and, BitVec.toNat_and, hm, Nat.and_two_pow_sub_one_eq_mod]
  show _ = (BitVec.ofNat 32 _).toNat
  rw [BitVec.toNat_ofNat]
  exact (Nat.mod_eq_of_lt (Nat.lt_of_le_of_lt (Nat.mod_le _ _) x.toBitVec.isLt)).symm
theorem pk_andN {n : Nat} (h : n < 2 ^ 32) {m : Int32} (k : Nat) (hm : m.toBitVec.toNat = 2 ^ k - 1) : nI n &&& m = nI (n % 2 ^ k) := by
  rw [pk_and _ k hm, pk_tn h]
theorem pk_andE (x : Int32) {m : Int32} (k : Nat) (hm : m.toBitVec.toNat = 2 ^ k - 1) : ∃ j : Nat, j < 2 ^ k ∧ x &&& m = nI j := ⟨_, Nat.mod_lt _ (Nat.two_pow_pos k), pk_and x k hm⟩
theorem pk_andIn (x : Int32) {m : Int32} (k : Nat) (hm : m.toBitVec.toNat = 2 ^ k - 1) (hk : k ≤ 30) : vp_in (x &&& m) (2 ^ k) := by
  obtain ⟨j, hj, e⟩ := pk_andE x k hm
  rw [e]
  exact vp_in_nI hj (Nat.lt_of_le_of_lt (Nat.pow_le_pow_right (by decide) hk) (by decide))
end
section
/-! the last giver of a register, the run one instruction after the other, and what a run in another order must keep -/
def pl_gv (de : Nat → Int32) (r : Int32) : Nat → Int32
  | 0 => -1
  | k + 1 => if de k = r then nI k else pl_gv de r k

theorem pl_gv_spec (de : Nat → Int32) (r : Int32) (i : Nat) :
    (pl_gv de r i = -1 ∧ ∀ k, k < i → de k ≠ r) ∨
    (∃ g, g < i ∧ pl_gv de r i = nI g ∧ de g = r ∧ ∀ k, g < k → k < i → de k ≠ r) := by
  induction i with
  | zero => exact Or.inl ⟨rfl, fun k h => absurd h (Nat.not_lt_zero k)⟩
  | succ i ih =>
    by_cases h : de i = r
    · exact Or.inr ⟨i, Nat.lt_succ_self i, if_pos h, h, fun k h1 h2 => absurd h2 (by omega)⟩
    · have e : pl_gv de r (i + 1) = pl_gv de r i := if_neg h
      rcases ih with ⟨h1, h2⟩ | ⟨g, hg, h1, h2, h3⟩
      · refine Or.inl ⟨e.trans h1, fun k hk => ?_⟩
        rcases Nat.lt_succ_iff_lt_or_eq.mp hk with h4 | h4
        · exact h2 k h4
        · rw [h4]; exact h
      · refine Or.inr ⟨g, by omega, e.trans h1, h2, fun k h4 h5 => ?_⟩
        rcases Nat.lt_succ_iff_lt_or_eq.mp h5 with h6 | h6
        · exact h3 k h4 h6
        · rw [h6]; exact h

theorem pl_nm1 {g : Nat} (h : g < 2 ^ 31) : ¬ nI g = -1 := by
  intro e
  have a := nI_toInt h
  rw [e, show (-1 : Int32).toInt = -1 from by decide] at a
  omega

/-- what a working instruction gives -/
def pl_res (o old x y : Int32) : Int32 :=
  if o = 2 then x + y else if o = 3 then x - y else if o = 4 then x * y
  else if o = 5 then (if y ≤ x then 0 else 1) else if old = 0 then y else x

/-- the cell that instruction p uses in round i -/
def pl_at (fs : Nat → Int32) (p i : Nat) : Nat := ((nI i + fs p) &&& 15).toNatClampNeg

def pl_step (os tg fs sc : Nat → Int32) (p i : Nat) (s : (Nat → Int32) × (Nat → Int32)) : (Nat → Int32) × (Nat → Int32) :=
  if os p = 0 then (upd s.1 (tg p).toNatClampNeg (s.2 (pl_at fs p i)), s.2)
  else if os p = 1 then (s.1, upd s.2 (pl_at fs p i) (s.1 (tg p).toNatClampNeg))
  else if os p = 6 then (upd s.1 (tg p).toNatClampNeg (fs p), s.2)
  else (upd s.1 (tg p).toNatClampNeg (pl_res (os p) (s.1 (tg p).toNatClampNeg) (s.1 (fs p).toNatClampNeg) (s.1 (sc p).toNatClampNeg)), s.2)

def pl_S (os tg fs sc : Nat → Int32) (m : Nat) (s0 : (Nat → Int32) × (Nat → Int32)) : Nat → (Nat → Int32) × (Nat → Int32)
  | 0 => s0
  | q + 1 => pl_step os tg fs sc (q % m) (q / m) (pl_S os tg fs sc m s0 q)

theorem pl_dm {m k : Nat} (a : Nat) (h : k < m) : (a * m + k) % m = k ∧ (a * m + k) / m = a := by
  constructor
  · rw [Nat.mul_comm, Nat.mul_add_mod, Nat.mod_eq_of_lt h]
  · rw [Nat.mul_comm, Nat.mul_add_div (by omega), Nat.div_eq_of_lt h, Nat.add_zero]

theorem pl_dq {m n q : Nat} (h : q < n * m) : q % m < m ∧ q / m < n ∧ q / m * m + q % m = q := by
  have hm : 0 < m := by
    rcases Nat.eq_zero_or_pos m with e | e
    · subst e; omega
    · exact e
  exact ⟨Nat.mod_lt _ hm, (Nat.div_lt_iff_lt_mul hm).mpr h, Nat.div_add_mod' q m⟩

/-- the order by numbers is the order by round, then by place -/
theorem pl_lex {m a s b t : Nat} (hs : s < m) (ht : t < m) (h : a * m + s < b * m + t) : a < b ∨ (a = b ∧ s < t) := by
  rcases Nat.lt_trichotomy a b with h1 | h1 | h1
  · exact Or.inl h1
  · subst h1; exact Or.inr ⟨rfl, by omega⟩
  · have h2 : (b + 1) * m ≤ a * m := Nat.mul_le_mul_right m h1
    rw [Nat.add_mul, Nat.one_mul] at h2
    omega

theorem pl_le {m n s j : Nat} (hs : s < m) (hj : j < n) : j * m + s + 1 ≤ n * m := by
  have h2 : (j + 1) * m ≤ n * m := Nat.mul_le_mul_right m hj
  rw [Nat.add_mul, Nat.one_mul] at h2
  omega

section
variable {os tg fs sc : Nat → Int32} {m : Nat} {s0 : (Nat → Int32) × (Nat → Int32)}

theorem pl_step_reg {p i r : Nat} {s : (Nat → Int32) × (Nat → Int32)} (h : os p = 1 ∨ (tg p).toNatClampNeg ≠ r) : (pl_step os tg fs sc p i s).1 r = s.1 r := by
  unfold pl_step
  by_cases h0 : os p = 0
  · rw [if_pos h0]
    rcases h with h | h
    · rw [h0] at h; exact absurd h (by decide)
    · exact pk_un (Ne.symm h)
  · rw [if_neg h0]
    by_cases h1 : os p = 1
    · rw [if_pos h1]
    · have h' : r ≠ (tg p).toNatClampNeg := by
        rcases h with h | h
        · exact absurd h h1
        · exact Ne.symm h
      rw [if_neg h1]
      by_cases h6 : os p = 6
      · rw [if_pos h6]; exact pk_un h'
      · rw [if_neg h6]; exact pk_un h'

theorem pl_step_cell {p i c : Nat} {s : (Nat → Int32) × (Nat → Int32)} (h : os p ≠ 1 ∨ pl_at fs p i ≠ c) : (pl_step os tg fs sc p i s).2 c = s.2 c := by
  unfold pl_step
  by_cases h0 : os p = 0
  · rw [if_pos h0]
  · rw [if_neg h0]
    by_cases h1 : os p = 1
    · rw [if_pos h1]
      rcases h with h | h
      · exact absurd h1 h
      · exact pk_un (Ne.symm h)
    · rw [if_neg h1]
      by_cases h6 : os p = 6
      · rw [if_pos h6]
      · rw [if_neg h6]

theorem pl_reg_st {r q1 q2 : Nat} (hq : q1 ≤ q2) (h : ∀ q, q1 ≤ q → q < q2 → os (q % m) = 1 ∨ (tg (q % m)).toNatClampNeg ≠ r) :
    (pl_S os tg fs sc m s0 q2).1 r = (pl_S os tg fs sc m s0 q1).1 r := by
  induction q2 with
  | zero =>
    have e : q1 = 0 := by omega
    rw [e]
  | succ q2 ih =>
    rcases Nat.lt_or_eq_of_le hq with h1 | h1
    · exact (pl_step_reg (h q2 (by omega) (by omega))).trans (ih (by omega) fun q a b => h q a (by omega))
    · rw [h1]

theorem pl_cell_st {c q1 q2 : Nat} (hq : q1 ≤ q2) (h : ∀ q, q1 ≤ q → q < q2 → os (q % m) ≠ 1 ∨ pl_at fs (q % m) (q / m) ≠ c) :
    (pl_S os tg fs sc m s0 q2).2 c = (pl_S os tg fs sc m s0 q1).2 c := by
  induction q2 with
  | zero =>
    have e : q1 = 0 := by omega
    rw [e]
  | succ q2 ih =>
    rcases Nat.lt_or_eq_of_le hq with h1 | h1
    · exact (pl_step_cell (h q2 (by omega) (by omega))).trans (ih (by omega) fun q a b => h q a (by omega))
    · rw [h1]

theorem pl_S_next {p : Nat} (i : Nat) (hp : p < m) : pl_S os tg fs sc m s0 (i * m + p + 1) = pl_step os tg fs sc p i (pl_S os tg fs sc m s0 (i * m + p)) := by
  show pl_step os tg fs sc ((i * m + p) % m) ((i * m + p) / m) _ = _
  rw [(pl_dm i hp).1, (pl_dm i hp).2]

/-- D: what has been done. Results of what has been done are right, and each cell is as at every point of the plain run that has
the same stores into it behind it. -/
def pl_inv (os tg fs sc : Nat → Int32) (m n : Nat) (s0 : (Nat → Int32) × (Nat → Int32)) (D : Nat → Nat → Prop) (re ce : Nat → Int32) : Prop :=
  (∀ s j, s < m → j < n → D s j → os s ≠ 1 → re (s * 12 + j) = (pl_S os tg fs sc m s0 (j * m + s + 1)).1 (tg s).toNatClampNeg) ∧
  (∀ c q, q ≤ n * m → (∀ s j, s < m → j < n → os s = 1 → pl_at fs s j = c → (D s j ↔ j * m + s < q)) → ce c = (pl_S os tg fs sc m s0 q).2 c)

theorem pl_inv_0 {n : Nat} {D : Nat → Nat → Prop} {re : Nat → Int32} (hD : ∀ s j, s < m → j < n → ¬ D s j) : pl_inv os tg fs sc m n s0 D re s0.2 := by
  refine ⟨fun s j hs hj d => absurd d (hD s j hs hj), fun c q hq h => ?_⟩
  refine (pl_cell_st (q1 := 0) (Nat.zero_le q) fun q' _ h2 => ?_).symm
  have ⟨a1, a2, a3⟩ := pl_dq (m := m) (n := n) (q := q') (by omega)
  by_cases h1 : os (q' % m) = 1
  · refine Or.inr fun h3 => ?_
    exact hD _ _ a1 a2 ((h _ _ a1 a2 h1 h3).mpr (by omega))
  · exact Or.inl h1

theorem pl_inv_c {n : Nat} {D D' : Nat → Nat → Prop} {re ce : Nat → Int32} (hD : ∀ s j, s < m → j < n → (D s j ↔ D' s j)) (h : pl_inv os tg fs sc m n s0 D re ce) : pl_inv os tg fs sc m n s0 D' re ce :=
  ⟨fun s j hs hj d => h.1 s j hs hj ((hD s j hs hj).mpr d), fun c q hq k => h.2 c q hq fun s j hs hj h1 h2 => (hD s j hs hj).trans (k s j hs hj h1 h2)⟩

/-- at the end -/
theorem pl_inv_e {n : Nat} {D : Nat → Nat → Prop} {re ce : Nat → Int32} (hD : ∀ s j, s < m → j < n → D s j) (h : pl_inv os tg fs sc m n s0 D re ce) : ce = (pl_S os tg fs sc m s0 (n * m)).2 := by
  funext c
  refine h.2 c _ (Nat.le_refl _) fun s j hs hj _ _ => ⟨fun _ => ?_, fun _ => hD s j hs hj⟩
  have := pl_le hs hj
  omega

theorem pl_inv_reg {n p i : Nat} {D : Nat → Nat → Prop} {re ce : Nat → Int32} {v : Int32} (hn : n ≤ 12) (hi : i < n) (h1 : os p ≠ 1)
    (hv : v = (pl_S os tg fs sc m s0 (i * m + p + 1)).1 (tg p).toNatClampNeg) (h : pl_inv os tg fs sc m n s0 D re ce) :
    pl_inv os tg fs sc m n s0 (fun s j => D s j ∨ (s = p ∧ j = i)) (upd re (p * 12 + i) v) ce := by
  refine ⟨fun s j hs hj d hne => ?_, fun c q hq k => h.2 c q hq fun s j hs hj h2 h3 => ?_⟩
  · by_cases e : s = p ∧ j = i
    · obtain ⟨rfl, rfl⟩ := e
      rw [← hv]; exact pk_us
    · have d' : D s j := by
        rcases d with d | d
        · exact d
        · exact absurd d e
      rw [← h.1 s j hs hj d' hne]
      exact pk_un fun h4 => e (by omega)
  · rw [← k s j hs hj h2 h3]
    refine ⟨Or.inl, fun d => ?_⟩
    rcases d with d | d
    · exact d
    · rw [d.1] at h2; exact absurd h2 h1

theorem pl_inv_st {n p i : Nat} {D : Nat → Nat → Prop} {re ce : Nat → Int32} (hp : p < m) (hi : i < n) (h1 : os p = 1)
    (hD : ∀ s j, s < m → j < n → os s = 1 → pl_at fs s j = pl_at fs p i → i * m + p < j * m + s → ¬ D s j) (h : pl_inv os tg fs sc m n s0 D re ce) :
    pl_inv os tg fs sc m n s0 (fun s j => D s j ∨ (s = p ∧ j = i)) re (upd ce (pl_at fs p i) ((pl_S os tg fs sc m s0 (i * m + p)).1 (tg p).toNatClampNeg)) := by
  refine ⟨fun s j hs hj d hne => ?_, fun c q hq k => ?_⟩
  · rcases d with d | d
    · exact h.1 s j hs hj d hne
    · rw [d.1] at hne; exact absurd h1 hne
  · by_cases e : c = pl_at fs p i
    · subst e
      have k0 : i * m + p < q := (k p i hp hi h1 rfl).mp (Or.inr ⟨rfl, rfl⟩)
      have k1 : (pl_S os tg fs sc m s0 q).2 (pl_at fs p i) = (pl_S os tg fs sc m s0 (i * m + p + 1)).2 (pl_at fs p i) := by
        refine pl_cell_st (by omega) fun q' a b => ?_
        have ⟨a1, a2, a3⟩ := pl_dq (m := m) (n := n) (q := q') (by omega)
        by_cases h4 : os (q' % m) = 1
        · refine Or.inr fun h5 => ?_
          rcases (k _ _ a1 a2 h4 h5).mpr (by omega) with d | d
          · exact hD _ _ a1 a2 h4 h5 (by omega) d
          · rw [d.1, d.2] at a3; omega
        · exact Or.inl h4
      have k2 : os p ≠ 0 := by rw [h1]; decide
      rw [k1, pl_S_next i hp]
      unfold pl_step
      rw [if_neg k2, if_pos h1]
      rw [pk_us]
      exact pk_us.symm
    · rw [pk_un e]
      refine h.2 c q hq fun s j hs hj h2 h3 => ?_
      rw [← k s j hs hj h2 h3]
      refine ⟨Or.inl, fun d => ?_⟩
      rcases d with d | d
      · exact d
      · rw [d.1, d.2] at h3; exact absurd h3.symm e
end
end
section
/-! the body on both sides; what a laid out body must keep; the number that a source has -/
def pl_okv (o d l r f o' t f' s : Int32) : Prop :=
  o' = o ∧ (-8 ≤ f.toInt ∧ f.toInt ≤ 8) ∧
  ((o = 0 ∧ ∃ x, x < 6 ∧ d = nI x ∧ t = nI x ∧ f' = f)
  ∨ (o = 1 ∧ ∃ x, x < 6 ∧ d = -1 ∧ t = nI x ∧ f' = f ∧ l = nI x)
  ∨ (o = 6 ∧ ∃ x, x < 6 ∧ d = nI x ∧ t = nI x ∧ f' = f)
  ∨ ((o = 2 ∨ o = 3 ∨ o = 4 ∨ o = 5 ∨ o = 7) ∧ ∃ x a b, x < 6 ∧ a < 6 ∧ b < 6 ∧ d = nI x ∧ t = nI x ∧ f' = nI a ∧ s = nI b ∧ l = nI a ∧ r = nI b))

def pl_ok (op de le ri oo os tg fs sc : Nat → Int32) (i : Nat) : Prop := pl_okv (op i) (de i) (le i) (ri i) (oo i) (os i) (tg i) (fs i) (sc i)

theorem pl_ok_up {op de le ri oo os tg fs sc : Nat → Int32} {m : Nat} {o d l r f o' t f' s : Int32} (hok : ∀ i, i < m → pl_ok op de le ri oo os tg fs sc i) (h : pl_okv o d l r f o' t f' s) :
    ∀ i, i < m + 1 → pl_ok (upd op m o) (upd de m d) (upd le m l) (upd ri m r) (upd oo m f) (upd os m o') (upd tg m t) (upd fs m f') (upd sc m s) i := by
  intro i hi
  unfold pl_ok
  by_cases e : i = m
  · subst e
    simp only [pk_us]
    exact h
  · rw [pk_un e, pk_un e, pk_un e, pk_un e, pk_un e, pk_un e, pk_un e, pk_un e, pk_un e]
    exact hok i (by omega)

theorem pl_wk {o : Int32} (h : o = 2 ∨ o = 3 ∨ o = 4 ∨ o = 5 ∨ o = 7) : ¬ o = 0 ∧ ¬ o = 1 ∧ ¬ o = 6 := by
  rcases h with rfl | rfl | rfl | rfl | rfl <;> decide

theorem pl_wk7 {o : Int32} (h : o = 2 ∨ o = 3 ∨ o = 4 ∨ o = 5 ∨ o = 7) (h7 : ¬ o = 7) (u v x y : Int32) : pl_res o u x y = pl_res o v x y := by
  unfold pl_res
  by_cases h2 : o = 2
  · rw [if_pos h2, if_pos h2]
  · rw [if_neg h2, if_neg h2]
    by_cases h3 : o = 3
    · rw [if_pos h3, if_pos h3]
    · rw [if_neg h3, if_neg h3]
      by_cases h4 : o = 4
      · rw [if_pos h4, if_pos h4]
      · rw [if_neg h4, if_neg h4]
        by_cases h5 : o = 5
        · rw [if_pos h5, if_pos h5]
        · rcases h with h | h | h | h | h
          · exact absurd h h2
          · exact absurd h h3
          · exact absurd h h4
          · exact absurd h h5
          · exact absurd h h7

/-- H f t d: instruction t waits for f of d rounds before -/
def pl_src (H : Nat → Nat → Nat → Prop) (de : Nat → Int32) (m : Nat) (so rb : Nat → Int32) (i w : Nat) (r : Int32) : Prop :=
  r ≠ -1 →
  (∀ g, g < i → pl_gv de r i = nI g → so (i * 3 + w) = nI g ∧ rb (i * 3 + w) = 0 ∧ H g i 0) ∧
  (pl_gv de r i = -1 → ∀ g, g < m → pl_gv de r m = nI g → so (i * 3 + w) = nI g ∧ rb (i * 3 + w) = 1 ∧ H g i 1) ∧
  (pl_gv de r i = -1 → pl_gv de r m = -1 → so (i * 3 + w) = -1 ∧ rb (i * 3 + w) = 0)

def pl_memp (H : Nat → Nat → Nat → Prop) (op oo : Nat → Int32) (i j : Nat) : Prop :=
  (op i = 0 ∨ op i = 1) → (op j = 0 ∨ op j = 1) → (op i = 1 ∨ op j = 1) → ∀ d : Nat, d < 12 → (0 < d ∨ i < j) →
  ((oo i).toInt - (oo j).toInt - d) % 16 = 0 → H i j d

def pl_deps (H : Nat → Nat → Nat → Prop) (m : Nat) (op de le ri oo so rb : Nat → Int32) : Prop :=
  (∀ i, i < m → pl_src H de m so rb i 0 (le i) ∧ pl_src H de m so rb i 1 (ri i) ∧ (op i = 7 → pl_src H de m so rb i 2 (de i))) ∧
  (∀ i j, i < m → j < m → pl_memp H op oo i j)

theorem pl_src_mono {H H' : Nat → Nat → Nat → Prop} {de : Nat → Int32} {m : Nat} {so rb : Nat → Int32} {i w : Nat} {r : Int32} (hi : i < m)
    (hH : ∀ f t d, f < m → t < m → d < 12 → H f t d → H' f t d) (h : pl_src H de m so rb i w r) : pl_src H' de m so rb i w r := by
  intro hr
  obtain ⟨h1, h2, h3⟩ := h hr
  refine ⟨fun g a b => ?_, fun e g a b => ?_, h3⟩
  · obtain ⟨x, y, z⟩ := h1 g a b
    exact ⟨x, y, hH _ _ _ (by omega) hi (by omega) z⟩
  · obtain ⟨x, y, z⟩ := h2 e g a b
    exact ⟨x, y, hH _ _ _ a hi (by omega) z⟩

theorem pl_memp_mono {H H' : Nat → Nat → Nat → Prop} {op oo : Nat → Int32} {m i j : Nat} (hi : i < m) (hj : j < m)
    (hH : ∀ f t d, f < m → t < m → d < 12 → H f t d → H' f t d) (h : pl_memp H op oo i j) : pl_memp H' op oo i j :=
  fun a b c d e f g => hH _ _ _ hi hj e (h a b c d e f g)

theorem pl_deps_mono {H H' : Nat → Nat → Nat → Prop} {m : Nat} {op de le ri oo so rb : Nat → Int32}
    (hH : ∀ f t d, f < m → t < m → d < 12 → H f t d → H' f t d) (h : pl_deps H m op de le ri oo so rb) : pl_deps H' m op de le ri oo so rb :=
  ⟨fun i hi => ⟨pl_src_mono hi hH (h.1 i hi).1, pl_src_mono hi hH (h.1 i hi).2.1, fun e => pl_src_mono hi hH ((h.1 i hi).2.2 e)⟩,
   fun i j hi hj => pl_memp_mono hi hj hH (h.2 i j hi hj)⟩

/-- a layout by beats and a period -/
def pl_by (b : Nat → Nat) (P : Nat) : Nat → Nat → Nat → Prop := fun f t d => b f + 1 ≤ b t + P * d

def pl_plan (m : Nat) (op de le ri oo so rb be : Nat → Int32) (pe : Int32) : Prop :=
  ∃ (b : Nat → Nat) (P : Nat), pe = nI P ∧ 1 ≤ P ∧ P ≤ 40 ∧ (∀ i, i < m → be i = nI (b i) ∧ b i ≤ 420) ∧ pl_deps (pl_by b P) m op de le ri oo so rb

theorem pl_at_int {fs : Nat → Int32} {p i : Nat} (hi : i < 12) (h1 : -8 ≤ (fs p).toInt) (h2 : (fs p).toInt ≤ 8) : (pl_at fs p i : Int) = (i + (fs p).toInt) % 16 := by
  have e1 : (nI i).toInt = (i : Int) := nI_toInt (by omega)
  have e2 : (nI i + fs p).toInt = (i : Int) + (fs p).toInt := by
    rw [Jvm.Kit.i32_add (by omega) (by omega), e1]
  have e3 : ((nI i + fs p) &&& 15).toInt = ((i : Int) + (fs p).toInt) % 16 := by
    have e4 := Jvm.Kit.i32_mask (nI i + fs p) 15 (k := 4) (by decide) (by decide)
    rw [e2] at e4
    omega
  obtain ⟨j, hj, e⟩ := pk_andE (nI i + fs p) (m := 15) 4 (by decide)
  have hj' : j < 16 := hj
  unfold pl_at
  rw [e] at e3 ⊢
  rw [nI_toInt (by omega)] at e3
  rw [nI_clamp (by omega), e3]

section
variable {op de le ri oo os tg fs sc so rb : Nat → Int32} {m n : Nat} {s0 : (Nat → Int32) × (Nat → Int32)} {D : Nat → Nat → Prop} {re ce : Nat → Int32} {b : Nat → Nat} {P : Nat}

theorem pl_ok_ne {k r : Nat} (h : pl_ok op de le ri oo os tg fs sc k) (hn : de k ≠ nI r) : os k = 1 ∨ (tg k).toNatClampNeg ≠ r := by
  obtain ⟨h1, _, h3⟩ := h
  have key : ∀ d, d < 6 → de k = nI d → tg k = nI d → (tg k).toNatClampNeg ≠ r := by
    intro d hd e1 e2 e3
    rw [e2, nI_clamp (by omega)] at e3
    subst e3
    exact hn e1
  rcases h3 with ⟨_, d, hd, e1, e2, _⟩ | ⟨e0, _⟩ | ⟨_, d, hd, e1, e2, _⟩ | ⟨_, d, x, y, hd, _, _, e1, e2, _⟩
  · exact Or.inr (key d hd e1 e2)
  · exact Or.inl (h1.trans e0)
  · exact Or.inr (key d hd e1 e2)
  · exact Or.inr (key d hd e1 e2)

theorem pl_ok_eq {k r : Nat} (hr : r < 6) (h : pl_ok op de le ri oo os tg fs sc k) (he : de k = nI r) : os k ≠ 1 ∧ (tg k).toNatClampNeg = r := by
  obtain ⟨h1, _, h3⟩ := h
  have key : ∀ d, d < 6 → de k = nI d → tg k = nI d → (tg k).toNatClampNeg = r := by
    intro d hd e1 e2
    rw [e2, nI_clamp (by omega)]
    exact (nI_eq (by omega) (by omega)).mp (e1.symm.trans he)
  rcases h3 with ⟨e0, d, hd, e1, e2, _⟩ | ⟨_, d, hd, e1, _⟩ | ⟨e0, d, hd, e1, e2, _⟩ | ⟨e0, d, x, y, hd, _, _, e1, e2, _⟩
  · exact ⟨by rw [h1, e0]; decide, key d hd e1 e2⟩
  · exact absurd (he.symm.trans e1) (pl_nm1 (by omega))
  · exact ⟨by rw [h1, e0]; decide, key d hd e1 e2⟩
  · exact ⟨by rw [h1]; exact (pl_wk e0).2.1, key d hd e1 e2⟩

theorem pl_ok_tg {k : Nat} (h : pl_ok op de le ri oo os tg fs sc k) : (tg k).toNatClampNeg < 6 := by
  obtain ⟨h1, _, h3⟩ := h
  have key : ∀ d, d < 6 → tg k = nI d → (tg k).toNatClampNeg < 6 := by
    intro d hd e2
    rw [e2, nI_clamp (by omega)]
    exact hd
  rcases h3 with ⟨_, d, hd, _, e2, _⟩ | ⟨_, d, hd, _, e2, _⟩ | ⟨_, d, hd, _, e2, _⟩ | ⟨_, d, x, y, hd, _, _, _, e2, _⟩
  · exact key d hd e2
  · exact key d hd e2
  · exact key d hd e2
  · exact key d hd e2

/-- the value of a source: three cases -/
theorem pl_sv_same {p i g r : Nat} (hok : ∀ k, k < m → pl_ok op de le ri oo os tg fs sc k) (hr : r < 6) (hp : p < m) (hi : i < n) (hg : g < p)
    (h1 : de g = nI r) (h2 : ∀ k, g < k → k < p → de k ≠ nI r) (hinv : pl_inv os tg fs sc m n s0 D re ce) (hd : D g i) :
    re (g * 12 + i) = (pl_S os tg fs sc m s0 (i * m + p)).1 r := by
  have ⟨a1, a2⟩ := pl_ok_eq hr (hok g (by omega)) h1
  have e := hinv.1 g i (by omega) hi hd a1
  rw [a2] at e
  rw [e]
  refine (pl_reg_st (by omega) fun q b1 b2 => ?_).symm
  have c : q = i * m + (q - i * m) := by omega
  have c2 : q % m = q - i * m := by
    have c3 := (pl_dm (m := m) (k := q - i * m) i (by omega)).1
    rw [← c] at c3
    exact c3
  rw [c2]
  exact pl_ok_ne (hok _ (by omega)) (h2 _ (by omega) (by omega))

theorem pl_sv_last {p i g r : Nat} (hok : ∀ k, k < m → pl_ok op de le ri oo os tg fs sc k) (hr : r < 6) (hp : p < m) (hi : i < n) (hg : g < m)
    (h0 : ∀ k, k < p → de k ≠ nI r) (h1 : de g = nI r) (h2 : ∀ k, g < k → k < m → de k ≠ nI r) (hinv : pl_inv os tg fs sc m n s0 D re ce) (hd : D g i) :
    re (g * 12 + i) = (pl_S os tg fs sc m s0 ((i + 1) * m + p)).1 r := by
  have ⟨a1, a2⟩ := pl_ok_eq hr (hok g (by omega)) h1
  have e := hinv.1 g i (by omega) hi hd a1
  rw [a2] at e
  have em : (i + 1) * m = i * m + m := by rw [Nat.add_mul, Nat.one_mul]
  rw [e]
  refine (pl_reg_st (by omega) fun q b1 b2 => ?_).symm
  by_cases hq : q < i * m + m
  · have c : q = i * m + (q - i * m) := by omega
    have c2 : q % m = q - i * m := by
      have c3 := (pl_dm (m := m) (k := q - i * m) i (by omega)).1
      rw [← c] at c3
      exact c3
    rw [c2]
    exact pl_ok_ne (hok _ (by omega)) (h2 _ (by omega) (by omega))
  · have c : q = (i + 1) * m + (q - (i + 1) * m) := by omega
    have c2 : q % m = q - (i + 1) * m := by
      have c3 := (pl_dm (m := m) (k := q - (i + 1) * m) (i + 1) (by omega)).1
      rw [← c] at c3
      exact c3
    rw [c2]
    exact pl_ok_ne (hok _ (by omega)) (h0 _ (by omega))

theorem pl_sv_first {p r : Nat} (hok : ∀ k, k < m → pl_ok op de le ri oo os tg fs sc k) (hp : p ≤ m)
    (h0 : ∀ k, k < p → de k ≠ nI r) : (pl_S os tg fs sc m s0 p).1 r = s0.1 r := by
  refine pl_reg_st (q1 := 0) (Nat.zero_le p) fun q b1 b2 => ?_
  rw [Nat.mod_eq_of_lt (by omega : q < m)]
  exact pl_ok_ne (hok _ (by omega)) (h0 _ b2)

theorem pl_sv_none {q r : Nat} (hm : 0 < m) (hok : ∀ k, k < m → pl_ok op de le ri oo os tg fs sc k)
    (h0 : ∀ k, k < m → de k ≠ nI r) : (pl_S os tg fs sc m s0 q).1 r = s0.1 r :=
  pl_reg_st (q1 := 0) (Nat.zero_le q) fun q b1 b2 => pl_ok_ne (hok _ (Nat.mod_lt _ hm)) (h0 _ (Nat.mod_lt _ hm))

/-- the beat of instruction s in round j -/
theorem pl_T_of {f t i j : Nat} (d : Nat) (h : pl_by b P f t d) (hd : j + d = i) : b f + P * j + 1 ≤ b t + P * i := by
  have h' : b f + 1 ≤ b t + P * d := h
  subst hd
  rw [Nat.mul_add]
  omega

/-- two uses of one cell, one a store, are in the plain order -/
theorem pl_mem_T {s j p i : Nat} (hok : ∀ k, k < m → pl_ok op de le ri oo os tg fs sc k) (hdep : pl_deps (pl_by b P) m op de le ri oo so rb) (hn : n ≤ 12)
    (hs : s < m) (hp : p < m) (hj : j < n) (hi : i < n) (us : op s = 0 ∨ op s = 1) (up : op p = 0 ∨ op p = 1) (h1 : op s = 1 ∨ op p = 1)
    (hat : pl_at fs s j = pl_at fs p i) (hlt : j * m + s < i * m + p) : b s + P * j + 1 ≤ b p + P * i := by
  have F : ∀ k, k < m → (op k = 0 ∨ op k = 1) → fs k = oo k := by
    intro k hk u
    obtain ⟨_, _, h3⟩ := hok k hk
    rcases h3 with ⟨_, d, _, _, _, e⟩ | ⟨_, d, _, _, _, e, _⟩ | ⟨_, d, _, _, _, e⟩ | ⟨e0, _⟩
    · exact e
    · exact e
    · exact e
    · rcases u with u | u
      · exact absurd u (pl_wk e0).1
      · exact absurd u (pl_wk e0).2.1
  have es := F s hs us
  have ep := F p hp up
  have ⟨s1, s2⟩ := (hok s hs).2.1
  have ⟨p1, p2⟩ := (hok p hp).2.1
  have eqs := pl_at_int (fs := fs) (p := s) (i := j) (by omega) (by rw [es]; exact s1) (by rw [es]; exact s2)
  have eqp := pl_at_int (fs := fs) (p := p) (i := i) (by omega) (by rw [ep]; exact p1) (by rw [ep]; exact p2)
  rw [hat] at eqs
  rw [es] at eqs
  rw [ep] at eqp
  have hl := pl_lex hs hp hlt
  have hji : j ≤ i := by rcases hl with h | h <;> omega
  refine pl_T_of (i - j) (hdep.2 s p hs hp us up h1 (i - j) (by omega) (by rcases hl with h | h <;> omega) ?_) (by omega)
  omega
end
end
section
/-! finding the arcs -/
def pl_ar (m n : Nat) (af aa ab ar : Nat → Int32) : Prop :=
  ∀ k, k < n → ∃ f t l d : Nat, f < m ∧ t < m ∧ 1 ≤ l ∧ l ≤ 3 ∧ d < 12 ∧ (d = 0 → f < t) ∧ af k = nI f ∧ aa k = nI t ∧ ab k = nI l ∧ ar k = nI d

def pl_has (n : Nat) (af aa ar : Nat → Int32) (f t d : Nat) : Prop := ∃ k, k < n ∧ af k = nI f ∧ aa k = nI t ∧ ar k = nI d

theorem pl_ar_add {m n f t l d : Nat} {af aa ab ar : Nat → Int32} (h : pl_ar m n af aa ab ar) (hf : f < m) (ht : t < m) (h1 : 1 ≤ l) (h2 : l ≤ 3) (hd : d < 12) (h0 : d = 0 → f < t) :
    pl_ar m (n + 1) (upd af n (nI f)) (upd aa n (nI t)) (upd ab n (nI l)) (upd ar n (nI d)) := by
  intro k hk
  by_cases e : k = n
  · subst e
    exact ⟨f, t, l, d, hf, ht, h1, h2, hd, h0, pk_us, pk_us, pk_us, pk_us⟩
  · obtain ⟨f', t', l', d', a1, a2, a3, a4, a5, a6, b1, b2, b3, b4⟩ := h k (by omega)
    exact ⟨f', t', l', d', a1, a2, a3, a4, a5, a6, (pk_un e).trans b1, (pk_un e).trans b2, (pk_un e).trans b3, (pk_un e).trans b4⟩

theorem pl_has_up {n f t d : Nat} {af aa ar : Nat → Int32} {x y z : Int32} (h : pl_has n af aa ar f t d) : pl_has (n + 1) (upd af n x) (upd aa n y) (upd ar n z) f t d := by
  obtain ⟨k, hk, b1, b2, b3⟩ := h
  have e : k ≠ n := by omega
  exact ⟨k, by omega, (pk_un e).trans b1, (pk_un e).trans b2, (pk_un e).trans b3⟩

theorem pl_has_new {n f t d : Nat} {af aa ar : Nat → Int32} : pl_has (n + 1) (upd af n (nI f)) (upd aa n (nI t)) (upd ar n (nI d)) f t d :=
  ⟨n, by omega, pk_us, pk_us, pk_us⟩

theorem pl_src_k {H H' : Nat → Nat → Nat → Prop} {de so rb so' rb' : Nat → Int32} {m i w : Nat} {r : Int32} (hH : ∀ f t d, H f t d → H' f t d)
    (e1 : so' (i * 3 + w) = so (i * 3 + w)) (e2 : rb' (i * 3 + w) = rb (i * 3 + w)) (h : pl_src H de m so rb i w r) : pl_src H' de m so' rb' i w r := by
  intro hr
  obtain ⟨h1, h2, h3⟩ := h hr
  rw [← e1, ← e2] at h1 h2 h3
  refine ⟨fun g a b => ?_, fun e g a b => ?_, h3⟩
  · obtain ⟨x, y, z⟩ := h1 g a b
    exact ⟨x, y, hH _ _ _ z⟩
  · obtain ⟨x, y, z⟩ := h2 e g a b
    exact ⟨x, y, hH _ _ _ z⟩

theorem pl_b0 : vp_nar .boolean 0 = 0 := rfl
theorem pl_b1 : vp_nar .boolean 1 = 1 := rfl
def pl_lat (o : Int32) : Nat := if o = 4 then 3 else if o = 0 then 2 else 1
theorem pl_lat_in (o : Int32) : 1 ≤ pl_lat o ∧ pl_lat o ≤ 3 := by
  unfold pl_lat
  by_cases h4 : o = 4
  · rw [if_pos h4]; omega
  · rw [if_neg h4]
    by_cases h0 : o = 0
    · rw [if_pos h0]; omega
    · rw [if_neg h0]; omega

section
variable {fz fc fa fp fe : Int32} {op de le ri oo rg ce so rb af aa ab ar be he ad mu wa re : Nat → Int32}

theorem pl_giver_lp {post : Int32 → Prop} {i : Nat} {r : Int32} (hi : i ≤ 10) (hp : post (pl_gv de r i)) :
    ∀ n k, k ≤ i → i - k < n → wX_giver_5 post (nI i) r fz fc fa fp fe op de le ri oo rg ce so rb af aa ab ar be he ad mu wa re n (pl_gv de r k) (nI k) := by
  intro n
  induction n with
  | zero => intro k _ h; omega
  | succ n ih =>
    intro k hk hn
    rw [wX_giver_5]
    refine pk_le i k (fun h => ?_) (fun h => ⟨vp_in_nI (by omega) (by omega), ?_⟩)
    · have e : k = i := by omega
      subst e
      exact hp
    · rw [nI_clamp (by omega)]
      have h3 := ih (k + 1) (by omega) (by omega)
      by_cases e : de k = r
      · refine br_t e (nm_r (nI_1 k) ?_)
        rw [show pl_gv de r (k + 1) = nI k from if_pos e] at h3
        exact h3
      · refine br_f e (nm_r (nI_1 k) ?_)
        rw [show pl_gv de r (k + 1) = pl_gv de r k from if_neg e] at h3
        exact h3

theorem pl_giver {post : Int32 → Prop} {i : Nat} {r : Int32} (hi : i ≤ 10) (hp : post (pl_gv de r i)) : wpX_giver post (fz, fc, fa, fp, fe, op, de, le, ri, oo, rg, ce, so, rb, af, aa, ab, ar, be, he, ad, mu, wa, re) (nI i) r :=
  Exists.intro (i + 1) (pl_giver_lp hi hp (i + 1) 0 (by omega) (by omega))

theorem pl_latency {post : Int32 → Prop} {o : Int32} (h : post (nI (pl_lat o))) : wpX_latency post (fz, fc, fa, fp, fe, op, de, le, ri, oo, rg, ce, so, rb, af, aa, ab, ar, be, he, ad, mu, wa, re) o := by
  unfold pl_lat at h
  by_cases h4 : o = 4
  · rw [if_pos h4] at h
    exact br_t h4 h
  · rw [if_neg h4] at h
    by_cases h0 : o = 0
    · rw [if_pos h0] at h
      exact br_f h4 (br_t h0 h)
    · rw [if_neg h0] at h
      exact br_f h4 (br_f h0 h)

theorem pl_addArc {post : SX → Prop} {n : Nat} {p0 p1 p2 p3 : Int32} (hn : n < 256)
    (h : post (fz, fc, nI (n + 1), fp, fe, op, de, le, ri, oo, rg, ce, so, rb, upd af n p0, upd aa n p1, upd ab n p2, upd ar n p3, be, he, ad, mu, wa, re)) : wpX_addArc post (fz, fc, nI n, fp, fe, op, de, le, ri, oo, rg, ce, so, rb, af, aa, ab, ar, be, he, ad, mu, wa, re) p0 p1 p2 p3 := by
  have hin : vp_in (nI n) 256 := vp_in_nI hn (by omega)
  have hc : (nI n).toNatClampNeg = n := nI_clamp (by omega)
  unfold wpX_addArc
  dsimp only
  rw [hc, nI_1]
  refine ⟨hin, ?_⟩
  rintro _ rfl
  refine ⟨hin, ?_⟩
  rintro _ rfl
  refine ⟨hin, ?_⟩
  rintro _ rfl
  refine ⟨hin, ?_⟩
  rintro _ rfl
  rintro _ rfl
  exact h

theorem pl_fs72 {post : SX → Prop} {m n i a g c : Nat} (hm : m ≤ 10) (hn : n < 256) (ha : a < 30) (hg : g < m) (hc : c ≤ 1) (hrb : rb a = nI c)
    (h : ∀ l, 1 ≤ l → l ≤ 3 → post (nI m, fc, nI (n + 1), fp, fe, op, de, le, ri, oo, rg, ce, upd so a (nI g), rb, upd af n (nI g), upd aa n (nI i), upd ab n (nI l), upd ar n (nI c), be, he, ad, mu, wa, re)) :
    wX_findSource_72 post (nI i) (nI a) (nI g) (nI m) fc (nI n) fp fe op de le ri oo rg ce so rb af aa ab ar be he ad mu wa re := by
  have hin : vp_in (nI a) 30 := vp_in_nI ha (by omega)
  have hcl : (nI a).toNatClampNeg = a := nI_clamp (by omega)
  have hcg : (nI g).toNatClampNeg = g := nI_clamp (by omega)
  have hl := pl_lat_in (op g)
  unfold wX_findSource_72
  rw [hcl, hcg, hrb]
  refine ⟨hin, ?_⟩
  rintro _ rfl
  refine br_f (pl_nm1 (by omega)) ⟨vp_in_nI (by omega) (by omega), pl_latency ⟨hin, ?_⟩⟩
  rcases (by omega : c = 0 ∨ c = 1) with rfl | rfl
  · exact br_t nI_0 (pl_addArc hn (h _ hl.1 hl.2))
  · exact br_f (nI_ne0 (by omega) (by omega)) (pl_addArc hn (h _ hl.1 hl.2))

theorem pl_findSource {post : SX → Prop} {m n i w : Nat} {r : Int32} (hm : m ≤ 10) (hn : n < 256) (hi : i < m) (hw : w < 3) (hA : pl_ar m n af aa ab ar)
    (h : ∀ (n' : Nat) (af' aa' ab' ar' so' rb' : Nat → Int32), n' ≤ n + 1 → pl_ar m n' af' aa' ab' ar' → (∀ f t d, pl_has n af aa ar f t d → pl_has n' af' aa' ar' f t d) →
      (∀ j, j ≠ i * 3 + w → so' j = so j ∧ rb' j = rb j) → pl_src (pl_has n' af' aa' ar') de m so' rb' i w r →
      post (nI m, fc, nI n', fp, fe, op, de, le, ri, oo, rg, ce, so', rb', af', aa', ab', ar', be, he, ad, mu, wa, re)) :
    wpX_findSource post (nI m, fc, nI n, fp, fe, op, de, le, ri, oo, rg, ce, so, rb, af, aa, ab, ar, be, he, ad, mu, wa, re) (nI i) (nI w) r := by
  have hx : nI i * 3 + nI w = nI (i * 3 + w) := by
    show nI i * nI 3 + nI w = _
    rw [pk_mul, nI_add]
  have ha : i * 3 + w < 30 := by omega
  generalize hae : i * 3 + w = a at *
  have hin : vp_in (nI a) 30 := vp_in_nI ha (by omega)
  have hcl : (nI a).toNatClampNeg = a := nI_clamp (by omega)
  unfold wpX_findSource
  dsimp only
  refine nm_r hx ?_
  rw [hcl, pl_b0]
  refine ⟨hin, ?_⟩
  rintro _ rfl
  refine ⟨hin, ?_⟩
  rintro _ rfl
  by_cases hr : r = -1
  · refine br_t hr (h n af aa ab ar _ _ (by omega) hA (fun _ _ _ x => x) (fun j hj => ⟨pk_un hj, pk_un hj⟩) (fun z => absurd hr z))
  · refine br_f hr (pl_giver (by omega) ?_)
    rcases pl_gv_spec de r i with ⟨e1, e2⟩ | ⟨g, hg, e1, e2, e3⟩
    · refine br_t e1 (pl_giver hm ?_)
      rcases pl_gv_spec de r m with ⟨f1, f2⟩ | ⟨g, hg, f1, f2, f3⟩
      · refine br_t f1 ?_
        rw [f1]
        unfold wX_findSource_71
        rw [hcl, pl_b0]
        refine ⟨hin, ?_⟩
        rintro _ rfl
        unfold wX_findSource_72
        rw [hcl]
        refine ⟨hin, ?_⟩
        rintro _ rfl
        refine br_t rfl (h n af aa ab ar _ _ (by omega) hA (fun _ _ _ x => x) (fun j hj => ⟨(pk_un hj).trans (pk_un hj), (pk_un hj).trans (pk_un hj)⟩) ?_)
        intro _
        rw [hae]
        refine ⟨fun g hg e => ?_, fun _ g hg e => ?_, fun _ _ => ⟨pk_us, pk_us⟩⟩
        · rw [e1] at e; exact absurd e.symm (pl_nm1 (by omega))
        · rw [f1] at e; exact absurd e.symm (pl_nm1 (by omega))
      · refine br_f (by rw [f1]; exact pl_nm1 (by omega)) ?_
        rw [f1]
        unfold wX_findSource_71
        rw [hcl, pl_b1]
        refine ⟨hin, ?_⟩
        rintro _ rfl
        refine pl_fs72 (c := 1) hm hn ha hg (by omega) pk_us fun l l1 l2 => ?_
        refine h (n + 1) _ _ _ _ _ _ (by omega) (pl_ar_add hA hg hi l1 l2 (by omega) (by omega)) (fun _ _ _ x => pl_has_up x) (fun j hj => ⟨(pk_un hj).trans (pk_un hj), (pk_un hj).trans (pk_un hj)⟩) ?_
        intro _
        rw [hae]
        refine ⟨fun g' hg' e => ?_, fun _ g' hg' e => ?_, fun _ e => ?_⟩
        · rw [e1] at e; exact absurd e.symm (pl_nm1 (by omega))
        · rw [f1] at e
          have e' := (nI_eq (by omega) (by omega)).mp e
          subst e'
          exact ⟨pk_us, pk_us, pl_has_new⟩
        · rw [f1] at e; exact absurd e (pl_nm1 (by omega))
    · refine br_f (by rw [e1]; exact pl_nm1 (by omega)) ?_
      rw [e1]
      refine pl_fs72 (c := 0) hm hn ha (by omega) (by omega) pk_us fun l l1 l2 => ?_
      refine h (n + 1) _ _ _ _ _ _ (by omega) (pl_ar_add hA (by omega) hi l1 l2 (by omega) (fun _ => hg)) (fun _ _ _ x => pl_has_up x) (fun j hj => ⟨(pk_un hj).trans (pk_un hj), pk_un hj⟩) ?_
      intro _
      rw [hae]
      refine ⟨fun g' hg' e => ?_, fun e => ?_, fun e => ?_⟩
      · rw [e1] at e
        have e' := (nI_eq (by omega) (by omega)).mp e
        subst e'
        exact ⟨pk_us, pk_us, pl_has_new⟩
      · rw [e1] at e; exact absurd e (pl_nm1 (by omega))
      · rw [e1] at e; exact absurd e (pl_nm1 (by omega))
end
end
section
def pl_nx (x : Int32) : Int32 := if 0 ≤ x then x - 16 else x + 16

theorem pl_nx_int {x : Int32} (h1 : -16 ≤ x.toInt) (h2 : x.toInt ≤ 16) : (0 ≤ x.toInt → (pl_nx x).toInt = x.toInt - 16) ∧ (x.toInt < 0 → (pl_nx x).toInt = x.toInt + 16) := by
  have e16 : (16 : Int32).toInt = 16 := by decide
  have e0 : (0 : Int32).toInt = 0 := by decide
  unfold pl_nx
  refine ⟨fun h => ?_, fun h => ?_⟩
  · rw [if_pos (by rw [Int32.le_iff_toInt_le, e0]; exact h), Jvm.Kit.i32_sub (by omega) (by omega), e16]
  · rw [if_neg (by rw [Int32.le_iff_toInt_le, e0]; omega), Jvm.Kit.i32_add (by omega) (by omega), e16]

theorem pl_dz {z zi zj d : Int} (hz : z = zi - zj) (h1 : -16 ≤ z) (h2 : z ≤ 16) (d0 : 0 ≤ d) (d1 : d < 12) (h : (zi - zj - d) % 16 = 0) :
    z = d ∨ (0 ≤ z ∧ z - 16 = d) ∨ (z < 0 ∧ z + 16 = d) := by omega

section
variable {fz fc fa fp fe : Int32} {op de le ri oo rg ce so rb af aa ab ar be he ad mu wa re : Nat → Int32}

theorem pl_ol62 {post : SX → Prop} {J : Int32 → Int32 → Int32 → Int32 → Int32 → Int32 → Int32 → (Nat → Int32) → (Nat → Int32) → (Nat → Int32) → (Nat → Int32) → (Nat → Int32) → (Nat → Int32) → (Nat → Int32) → (Nat → Int32) → (Nat → Int32) → (Nat → Int32) → (Nat → Int32) → (Nat → Int32) → (Nat → Int32) → (Nat → Int32) → (Nat → Int32) → (Nat → Int32) → (Nat → Int32) → (Nat → Int32) → (Nat → Int32) → Prop}
    {x1 x2 x3 : Int32} {k : Nat} (h : J (pl_nx x3) (nI (k + 1)) fz fc fa fp fe op de le ri oo rg ce so rb af aa ab ar be he ad mu wa re) : wX_orderList_62 post J x1 x2 x3 (nI k) fz fc fa fp fe op de le ri oo rg ce so rb af aa ab ar be he ad mu wa re := by
  unfold pl_nx at h
  unfold wX_orderList_62
  by_cases h0 : 0 ≤ x3
  · rw [if_pos h0] at h
    exact br_t h0 (nm_e (nm_r (nI_1 k) h))
  · rw [if_neg h0] at h
    exact br_f h0 (nm_e (nm_r (nI_1 k) h))

theorem pl_ol41 {post : SX → Prop} {J : Int32 → Int32 → Int32 → Int32 → Int32 → Int32 → Int32 → (Nat → Int32) → (Nat → Int32) → (Nat → Int32) → (Nat → Int32) → (Nat → Int32) → (Nat → Int32) → (Nat → Int32) → (Nat → Int32) → (Nat → Int32) → (Nat → Int32) → (Nat → Int32) → (Nat → Int32) → (Nat → Int32) → (Nat → Int32) → (Nat → Int32) → (Nat → Int32) → (Nat → Int32) → (Nat → Int32) → (Nat → Int32) → Prop}
    {m n i j k : Nat} {x3 : Int32} (hn : n < 256) (hi : i < m) (hj : j < m) (hA : pl_ar m n af aa ab ar) (hx : 0 ≤ x3.toInt) (h0 : x3.toInt = 0 → i < j)
    (h : ∀ (n' : Nat) (af' aa' ab' ar' : Nat → Int32), n' ≤ n + 1 → pl_ar m n' af' aa' ab' ar' → (∀ f t d, pl_has n af aa ar f t d → pl_has n' af' aa' ar' f t d) →
      (∀ d : Nat, d < 12 → x3.toInt = d → pl_has n' af' aa' ar' i j d) →
      J (pl_nx x3) (nI (k + 1)) fz fc (nI n') fp fe op de le ri oo rg ce so rb af' aa' ab' ar' be he ad mu wa re) :
    wX_orderList_41 post J (nI i) (nI j) x3 (nI k) 1 fz fc (nI n) fp fe op de le ri oo rg ce so rb af aa ab ar be he ad mu wa re := by
  have e12 : (12 : Int32).toInt = 12 := by decide
  unfold wX_orderList_41
  refine br_f (by decide) ?_
  by_cases h12 : 12 ≤ x3
  · refine br_t h12 (pl_ol62 (h n af aa ab ar (by omega) hA (fun _ _ _ x => x) fun d hd e => ?_))
    rw [Int32.le_iff_toInt_le, e12] at h12
    omega
  · obtain ⟨d, hd, rfl⟩ : ∃ d : Nat, d < 2 ^ 31 ∧ x3 = nI d := nI_of (by rw [Int32.lt_iff_toInt_lt, show (0 : Int32).toInt = 0 from by decide]; omega)
    have hz := nI_toInt hd
    have h12' : d < 12 := by
      rw [Int32.le_iff_toInt_le, e12, hz] at h12
      omega
    refine br_f h12 (pl_addArc hn (pl_ol62 (h (n + 1) _ _ _ _ (by omega) (pl_ar_add (l := 1) hA hi hj (by omega) (by omega) h12' (fun e => h0 (by omega))) (fun _ _ _ x => pl_has_up x) fun d' hd' e => ?_)))
    have e' : d = d' := by omega
    subst e'
    exact pl_has_new

theorem pl_ol17 {post : SX → Prop} {m n i j k fu : Nat} {x3 : Int32} (hm : m ≤ 10) (hn : n < 256) (hi : i < m) (hj : j < m) (hk : k < 2) (hA : pl_ar m n af aa ab ar)
    (h : ∀ (n' : Nat) (af' aa' ab' ar' : Nat → Int32), n' ≤ n + 1 → pl_ar m n' af' aa' ab' ar' → (∀ f t d, pl_has n af aa ar f t d → pl_has n' af' aa' ar' f t d) →
      (∀ d : Nat, d < 12 → (0 < d ∨ i < j) → x3.toInt = d → pl_has n' af' aa' ar' i j d) →
      wX_orderList_17 post (nI i) (nI j) fu (pl_nx x3) (nI (k + 1)) fz fc (nI n') fp fe op de le ri oo rg ce so rb af' aa' ab' ar' be he ad mu wa re) :
    wX_orderList_17 post (nI i) (nI j) (fu + 1) x3 (nI k) fz fc (nI n) fp fe op de le ri oo rg ce so rb af aa ab ar be he ad mu wa re := by
  have e0 : (0 : Int32).toInt = 0 := by decide
  rw [wX_orderList_17]
  refine br_f (nI_ge (b := 2) hk (by decide)) ?_
  by_cases hp : 0 < x3
  · refine br_t hp ?_
    rw [Int32.lt_iff_toInt_lt, e0] at hp
    exact pl_ol41 hn hi hj hA (by omega) (by omega) fun n' af' aa' ab' ar' a1 a2 a3 a4 => h n' af' aa' ab' ar' a1 a2 a3 fun d d1 _ d3 => a4 d d1 d3
  · refine br_f hp ?_
    by_cases hz : x3 = 0
    · refine br_t hz (pk_le j i (fun hji => ?_) fun hij => ?_)
      · unfold wX_orderList_40 wX_orderList_41
        refine br_t rfl (pl_ol62 (h n af aa ab ar (by omega) hA (fun _ _ _ x => x) fun d d1 d2 d3 => ?_))
        rw [hz, e0] at d3
        omega
      · have ez : x3.toInt = 0 := by rw [hz, e0]
        exact pl_ol41 hn hi hj hA (by omega) (fun _ => hij) fun n' af' aa' ab' ar' a1 a2 a3 a4 => h n' af' aa' ab' ar' a1 a2 a3 fun d d1 _ d3 => a4 d d1 d3
    · refine br_f hz ?_
      unfold wX_orderList_40 wX_orderList_41
      refine br_t rfl (pl_ol62 (h n af aa ab ar (by omega) hA (fun _ _ _ x => x) fun d d1 d2 d3 => ?_))
      rw [Int32.lt_iff_toInt_lt, e0] at hp
      exact absurd (Int32.toInt_inj.mp (by rw [e0]; omega)) hz

theorem pl_orderList {post : SX → Prop} {m n i j : Nat} (hm : m ≤ 10) (hn : n + 1 < 256) (hi : i < m) (hj : j < m) (hA : pl_ar m n af aa ab ar)
    (ho : ∀ i, i < m → -8 ≤ (oo i).toInt ∧ (oo i).toInt ≤ 8)
    (h : ∀ (n' : Nat) (af' aa' ab' ar' : Nat → Int32), n' ≤ n + 2 → pl_ar m n' af' aa' ab' ar' → (∀ f t d, pl_has n af aa ar f t d → pl_has n' af' aa' ar' f t d) →
      pl_memp (pl_has n' af' aa' ar') op oo i j → post (fz, fc, nI n', fp, fe, op, de, le, ri, oo, rg, ce, so, rb, af', aa', ab', ar', be, he, ad, mu, wa, re)) :
    wpX_orderList post (fz, fc, nI n, fp, fe, op, de, le, ri, oo, rg, ce, so, rb, af, aa, ab, ar, be, he, ad, mu, wa, re) (nI i) (nI j) := by
  have oi := ho i hi
  have oj := ho j hj
  have ez : (oo i - oo j).toInt = (oo i).toInt - (oo j).toInt := Jvm.Kit.i32_sub (by omega) (by omega)
  have hnx := pl_nx_int (x := oo i - oo j) (by omega) (by omega)
  unfold wpX_orderList
  dsimp only
  rw [nI_clamp (by omega : i < 2 ^ 31), nI_clamp (by omega : j < 2 ^ 31)]
  refine ⟨vp_in_nI (by omega) (by omega), vp_in_nI (by omega) (by omega), nm_e ⟨3, ?_⟩⟩
  refine pl_ol17 (k := 0) hm (by omega) hi hj (by omega) hA fun n1 af1 aa1 ab1 ar1 a1 a2 a3 a4 => ?_
  refine pl_ol17 (k := 1) hm (by omega) hi hj (by omega) a2 fun n2 af2 aa2 ab2 ar2 b1 b2 b3 b4 => ?_
  rw [wX_orderList_17]
  refine br_t (nI_le (a := 2) (b := 2) (by omega) (by omega)) (h n2 af2 aa2 ab2 ar2 (by omega) b2 (fun f t d x => b3 f t d (a3 f t d x)) ?_)
  intro _ _ _ d d1 d2 d3
  rcases pl_dz ez (by omega) (by omega) (by omega) (by omega) d3 with c | ⟨c1, c2⟩ | ⟨c1, c2⟩
  · exact b3 _ _ _ (a4 d d1 d2 c)
  · exact b4 d d1 d2 (by rw [hnx.1 c1]; exact c2)
  · exact b4 d d1 d2 (by rw [hnx.2 c1]; exact c2)

theorem pl_usesList {post : Int32 → Prop} {i : Nat} (hi : i < 10) (h1 : (op i = 0 ∨ op i = 1) → post 1) (h0 : ¬ (op i = 0 ∨ op i = 1) → post 0) : wpX_usesList post (fz, fc, fa, fp, fe, op, de, le, ri, oo, rg, ce, so, rb, af, aa, ab, ar, be, he, ad, mu, wa, re) (nI i) := by
  have hin : vp_in (nI i) 10 := vp_in_nI hi (by omega)
  unfold wpX_usesList
  dsimp only
  rw [nI_clamp (by omega : i < 2 ^ 31)]
  refine ⟨hin, br_c (fun e => h1 (Or.inl e)) fun e => ⟨hin, br_c (fun f => h1 (Or.inr f)) fun f => h0 (fun z => ?_)⟩⟩
  rcases z with z | z
  · exact e z
  · exact f z

/-- the pairs: rows below i are done, and of row i the columns below j -/
theorem pl_fa84 {post : SX → Prop} {J : Int32 → Int32 → Int32 → Int32 → Int32 → Int32 → (Nat → Int32) → (Nat → Int32) → (Nat → Int32) → (Nat → Int32) → (Nat → Int32) → (Nat → Int32) → (Nat → Int32) → (Nat → Int32) → (Nat → Int32) → (Nat → Int32) → (Nat → Int32) → (Nat → Int32) → (Nat → Int32) → (Nat → Int32) → (Nat → Int32) → (Nat → Int32) → (Nat → Int32) → (Nat → Int32) → (Nat → Int32) → Prop}
    {m n0 i : Nat} {af0 aa0 ar0 : Nat → Int32} (hm : m ≤ 10) (hi : i < m) (hn0 : n0 + 20 < 256) (ho : ∀ i, i < m → -8 ≤ (oo i).toInt ∧ (oo i).toInt ≤ 8)
    (h : ∀ (n' : Nat) (af' aa' ab' ar' : Nat → Int32), n' ≤ n0 + 20 → pl_ar m n' af' aa' ab' ar' → (∀ f t d, pl_has n0 af0 aa0 ar0 f t d → pl_has n' af' aa' ar' f t d) →
      (∀ j, j < m → pl_memp (pl_has n' af' aa' ar') op oo i j) → J (nI (i + 1)) (nI m) fc (nI n') fp fe op de le ri oo rg ce so rb af' aa' ab' ar' be he ad mu wa re) :
    ∀ fu j n (af aa ab ar : Nat → Int32), j ≤ m → m - j < fu → n ≤ n0 + 2 * j → pl_ar m n af aa ab ar → (∀ f t d, pl_has n0 af0 aa0 ar0 f t d → pl_has n af aa ar f t d) →
      (∀ j', j' < j → pl_memp (pl_has n af aa ar) op oo i j') → wX_findArcs_84 post J (nI i) fu (nI j) (nI m) fc (nI n) fp fe op de le ri oo rg ce so rb af aa ab ar be he ad mu wa re := by
  intro fu
  induction fu with
  | zero => intro j n af aa ab ar _ h2; omega
  | succ fu ih =>
    intro j n af aa ab ar hj hf hn hA hs hmem
    rw [wX_findArcs_84]
    refine pk_le m j (fun hmj => ?_) (fun hjm => ?_)
    · have e : j = m := by omega
      subst e
      exact nm_r (nI_1 i) (h n af aa ab ar (by omega) hA hs hmem)
    · have skip : ¬ ((op i = 0 ∨ op i = 1) ∧ (op j = 0 ∨ op j = 1) ∧ (op i = 1 ∨ op j = 1)) → wX_findArcs_84 post J (nI i) fu (nI (j + 1)) (nI m) fc (nI n) fp fe op de le ri oo rg ce so rb af aa ab ar be he ad mu wa re := by
        intro hno
        refine ih (j + 1) n af aa ab ar (by omega) (by omega) (by omega) hA hs fun j' hj' => ?_
        by_cases ej : j' = j
        · subst ej
          intro a b c
          exact absurd ⟨a, b, c⟩ hno
        · exact hmem j' (by omega)
      have take : wX_findArcs_138 post J (wX_findArcs_84 post J (nI i) fu) (nI i) (nI j) (nI m) fc (nI n) fp fe op de le ri oo rg ce so rb af aa ab ar be he ad mu wa re := by
        unfold wX_findArcs_138
        refine pl_orderList hm (by omega) hi hjm hA ho fun n' af' aa' ab' ar' a1 a2 a3 a4 => ?_
        refine nm_r (nI_1 j) (ih (j + 1) n' af' aa' ab' ar' (by omega) (by omega) (by omega) a2 (fun f t d x => a3 f t d (hs f t d x)) fun j' hj' => ?_)
        by_cases ej : j' = j
        · subst ej
          exact a4
        · exact pl_memp_mono (m := m) hi (by omega) (fun f t d _ _ _ x => a3 f t d x) (hmem j' (by omega))
      refine pl_usesList (by omega) (fun ui => ?_) fun ui => ?_
      · refine br_f (by decide) (pl_usesList (by omega) (fun uj => ?_) fun uj => ?_)
        · refine br_f (by decide) ?_
          unfold wX_findArcs_113
          rw [nI_clamp (by omega : i < 2 ^ 31), nI_clamp (by omega : j < 2 ^ 31)]
          refine br_f (by decide) ⟨vp_in_nI (by omega) (by omega), br_c (fun _ => take) fun e1 => ⟨vp_in_nI (by omega) (by omega), br_c (fun _ => take) fun e2 => nm_r (nI_1 j) (skip fun z => ?_)⟩⟩
          rcases z.2.2 with z | z
          · exact e1 z
          · exact e2 z
        · refine br_t rfl ?_
          unfold wX_findArcs_112 wX_findArcs_113
          exact br_t rfl (nm_r (nI_1 j) (skip fun z => uj z.2.1))
      · refine br_t rfl ?_
        unfold wX_findArcs_112 wX_findArcs_113
        exact br_t rfl (nm_r (nI_1 j) (skip fun z => ui z.1))

theorem pl_fa74 {post : SX → Prop} {m n0 : Nat} {af0 aa0 ar0 : Nat → Int32} (hm : m ≤ 10) (hn0 : n0 ≤ 30) (ho : ∀ i, i < m → -8 ≤ (oo i).toInt ∧ (oo i).toInt ≤ 8)
    (h : ∀ (n' : Nat) (af' aa' ab' ar' : Nat → Int32), n' ≤ 230 → pl_ar m n' af' aa' ab' ar' → (∀ f t d, pl_has n0 af0 aa0 ar0 f t d → pl_has n' af' aa' ar' f t d) →
      (∀ i j, i < m → j < m → pl_memp (pl_has n' af' aa' ar') op oo i j) → post (nI m, fc, nI n', fp, fe, op, de, le, ri, oo, rg, ce, so, rb, af', aa', ab', ar', be, he, ad, mu, wa, re)) :
    ∀ fu i n (af aa ab ar : Nat → Int32), i ≤ m → m - i < fu → n ≤ n0 + 20 * i → pl_ar m n af aa ab ar → (∀ f t d, pl_has n0 af0 aa0 ar0 f t d → pl_has n af aa ar f t d) →
      (∀ i' j, i' < i → j < m → pl_memp (pl_has n af aa ar) op oo i' j) → wX_findArcs_74 post fu (nI i) (nI m) fc (nI n) fp fe op de le ri oo rg ce so rb af aa ab ar be he ad mu wa re := by
  intro fu
  induction fu with
  | zero => intro i n af aa ab ar _ h2; omega
  | succ fu ih =>
    intro i n af aa ab ar hi hf hn hA hs hmem
    rw [wX_findArcs_74]
    refine pk_le m i (fun hmi => ?_) (fun him => ?_)
    · have e : i = m := by omega
      subst e
      exact h n af aa ab ar (by omega) hA hs hmem
    · refine ⟨m + 1, ?_⟩
      refine pl_fa84 (n0 := n) (af0 := af) (aa0 := aa) (ar0 := ar) hm him (by omega) ho (fun n' af' aa' ab' ar' a1 a2 a3 a4 => ?_) (m + 1) 0 n af aa ab ar (by omega) (by omega) (by omega) hA (fun _ _ _ x => x) (fun j' hj' => by omega)
      refine ih (i + 1) n' af' aa' ab' ar' (by omega) (by omega) (by omega) a2 (fun f t d x => a3 f t d (hs f t d x)) fun i' j hi' hj => ?_
      by_cases ei : i' = i
      · subst ei
        exact a4 j hj
      · exact pl_memp_mono (m := m) (by omega) hj (fun f t d _ _ _ x => a3 f t d x) (hmem i' j (by omega) hj)

def pl_srcs (H : Nat → Nat → Nat → Prop) (m : Nat) (op de le ri so rb : Nat → Int32) (k : Nat) : Prop :=
  ∀ i, i < k → pl_src H de m so rb i 0 (le i) ∧ pl_src H de m so rb i 1 (ri i) ∧ (op i = 7 → pl_src H de m so rb i 2 (de i))

theorem pl_fa7 {post : SX → Prop} {m : Nat} (hm : m ≤ 10) (ho : ∀ i, i < m → -8 ≤ (oo i).toInt ∧ (oo i).toInt ≤ 8)
    (h : ∀ (n' : Nat) (af' aa' ab' ar' so' rb' : Nat → Int32), n' ≤ 230 → pl_ar m n' af' aa' ab' ar' → pl_deps (pl_has n' af' aa' ar') m op de le ri oo so' rb' →
      post (nI m, fc, nI n', fp, fe, op, de, le, ri, oo, rg, ce, so', rb', af', aa', ab', ar', be, he, ad, mu, wa, re)) :
    ∀ fu k n (af aa ab ar so rb : Nat → Int32), k ≤ m → m - k < fu → n ≤ 3 * k → pl_ar m n af aa ab ar → pl_srcs (pl_has n af aa ar) m op de le ri so rb k →
      wX_findArcs_7 post fu (nI k) (nI m) fc (nI n) fp fe op de le ri oo rg ce so rb af aa ab ar be he ad mu wa re := by
  intro fu
  induction fu with
  | zero => intro k n af aa ab ar so rb _ h2; omega
  | succ fu ih =>
    intro k n af aa ab ar so rb hk hf hn hA hs
    rw [wX_findArcs_7]
    refine pk_le m k (fun hmk => ?_) (fun hkm => ?_)
    · have e : k = m := by omega
      subst e
      refine ⟨k + 1, pl_fa74 (n0 := n) (af0 := af) (aa0 := aa) (ar0 := ar) hm (by omega) ho (fun n' af' aa' ab' ar' a1 a2 a3 a4 => ?_) (k + 1) 0 n af aa ab ar (by omega) (by omega) (by omega) hA (fun _ _ _ x => x) (fun i' j hi' => by omega)⟩
      refine h n' af' aa' ab' ar' so rb a1 a2 ⟨fun i hi => ?_, a4⟩
      have ⟨b1, b2, b3⟩ := hs i hi
      exact ⟨pl_src_k a3 rfl rfl b1, pl_src_k a3 rfl rfl b2, fun e => pl_src_k a3 rfl rfl (b3 e)⟩
    · have hin : vp_in (nI k) 10 := vp_in_nI (by omega) (by omega)
      rw [nI_clamp (by omega : k < 2 ^ 31)]
      refine ⟨hin, pl_findSource (w := 0) hm (by omega) hkm (by omega) hA fun n1 af1 aa1 ab1 ar1 so1 rb1 a1 a2 a3 a4 a5 => ?_⟩
      refine ⟨hin, pl_findSource (w := 1) hm (by omega) hkm (by omega) a2 fun n2 af2 aa2 ab2 ar2 so2 rb2 b1 b2 b3 b4 b5 => ?_⟩
      have fin : ∀ (n3 : Nat) (af3 aa3 ab3 ar3 so3 rb3 : Nat → Int32), n3 ≤ n2 + 1 → pl_ar m n3 af3 aa3 ab3 ar3 → (∀ f t d, pl_has n2 af2 aa2 ar2 f t d → pl_has n3 af3 aa3 ar3 f t d) →
          (∀ j, j ≠ k * 3 + 2 → so3 j = so2 j ∧ rb3 j = rb2 j) → (op k = 7 → pl_src (pl_has n3 af3 aa3 ar3) de m so3 rb3 k 2 (de k)) →
          wX_findArcs_7 post fu (nI (k + 1)) (nI m) fc (nI n3) fp fe op de le ri oo rg ce so3 rb3 af3 aa3 ab3 ar3 be he ad mu wa re := by
        intro n3 af3 aa3 ab3 ar3 so3 rb3 c1 c2 c3 c4 c5
        refine ih (k + 1) n3 af3 aa3 ab3 ar3 so3 rb3 (by omega) (by omega) (by omega) c2 fun i hi => ?_
        have up : ∀ f t d, pl_has n af aa ar f t d → pl_has n3 af3 aa3 ar3 f t d := fun f t d x => c3 f t d (b3 f t d (a3 f t d x))
        by_cases e : i = k
        · subst e
          refine ⟨pl_src_k (fun f t d x => c3 f t d (b3 f t d x)) ?_ ?_ a5, pl_src_k c3 (c4 _ (by omega)).1 (c4 _ (by omega)).2 b5, c5⟩
          · rw [(c4 _ (by omega)).1, (b4 _ (by omega)).1]
          · rw [(c4 _ (by omega)).2, (b4 _ (by omega)).2]
        · have ⟨d1, d2, d3⟩ := hs i (by omega)
          have es : ∀ w, w < 3 → so3 (i * 3 + w) = so (i * 3 + w) ∧ rb3 (i * 3 + w) = rb (i * 3 + w) := by
            intro w hw
            rw [(c4 _ (by omega)).1, (b4 _ (by omega)).1, (a4 _ (by omega)).1, (c4 _ (by omega)).2, (b4 _ (by omega)).2, (a4 _ (by omega)).2]
            exact ⟨rfl, rfl⟩
          exact ⟨pl_src_k up (es 0 (by omega)).1 (es 0 (by omega)).2 d1, pl_src_k up (es 1 (by omega)).1 (es 1 (by omega)).2 d2, fun e7 => pl_src_k up (es 2 (by omega)).1 (es 2 (by omega)).2 (d3 e7)⟩
      refine ⟨hin, br_c (fun e7 => ⟨hin, ?_⟩) fun e7 => ?_⟩
      · unfold wX_findArcs_63
        refine pl_findSource (w := 2) hm (by omega) hkm (by omega) b2 fun n3 af3 aa3 ab3 ar3 so3 rb3 c1 c2 c3 c4 c5 => ?_
        exact nm_r (nI_1 k) (fin n3 af3 aa3 ab3 ar3 so3 rb3 c1 c2 c3 c4 fun _ => c5)
      · unfold wX_findArcs_63
        refine pl_findSource (w := 2) hm (by omega) hkm (by omega) b2 fun n3 af3 aa3 ab3 ar3 so3 rb3 c1 c2 c3 c4 c5 => ?_
        exact nm_r (nI_1 k) (fin n3 af3 aa3 ab3 ar3 so3 rb3 c1 c2 c3 c4 fun z => absurd z e7)

theorem pl_findArcs {post : SX → Prop} {m : Nat} (hm : m ≤ 10) (ho : ∀ i, i < m → -8 ≤ (oo i).toInt ∧ (oo i).toInt ≤ 8)
    (h : ∀ (n' : Nat) (af' aa' ab' ar' so' rb' : Nat → Int32), n' ≤ 230 → pl_ar m n' af' aa' ab' ar' → pl_deps (pl_has n' af' aa' ar') m op de le ri oo so' rb' →
      post (nI m, fc, nI n', fp, fe, op, de, le, ri, oo, rg, ce, so', rb', af', aa', ab', ar', be, he, ad, mu, wa, re)) :
    wpX_findArcs post (nI m, fc, fa, fp, fe, op, de, le, ri, oo, rg, ce, so, rb, af, aa, ab, ar, be, he, ad, mu, wa, re) :=
  Exists.intro (m + 1) (pl_fa7 hm ho h (m + 1) 0 0 af aa ab ar so rb (by omega) (by omega) (by omega) (fun k hk => by omega) (fun i hi => by omega))
end
end
section
/-! heights, the first beat allowed, room, the most urgent one, whether all waits are kept -/
def pl_cnt (be : Nat → Int32) : Nat → Nat
  | 0 => 0
  | k + 1 => pl_cnt be k + (if be k < 0 then 1 else 0)

theorem pl_cnt_all {be : Nat → Int32} : ∀ m, (∀ k, k < m → be k < 0) → pl_cnt be m = m
  | 0, _ => rfl
  | m + 1, h => by
    show pl_cnt be m + (if be m < 0 then 1 else 0) = m + 1
    rw [if_pos (h m (by omega)), pl_cnt_all m fun k hk => h k (by omega)]

theorem pl_cnt_ex {be : Nat → Int32} : ∀ m, 0 < pl_cnt be m → ∃ k, k < m ∧ be k < 0
  | 0, h => absurd h (Nat.lt_irrefl 0)
  | m + 1, h => by
    by_cases e : be m < 0
    · exact ⟨m, by omega, e⟩
    · have h' : 0 < pl_cnt be m + (if be m < 0 then 1 else 0) := h
      rw [if_neg e] at h'
      obtain ⟨k, hk, e'⟩ := pl_cnt_ex m h'
      exact ⟨k, by omega, e'⟩

theorem pl_cnt_0 {be : Nat → Int32} : ∀ m, pl_cnt be m = 0 → ∀ k, k < m → ¬ be k < 0
  | 0, _ => fun k hk => absurd hk (Nat.not_lt_zero k)
  | m + 1, h => by
    intro k hk
    have h' : pl_cnt be m + (if be m < 0 then 1 else 0) = 0 := h
    by_cases e : be m < 0
    · rw [if_pos e] at h'; omega
    · by_cases ek : k = m
      · rw [ek]; exact e
      · exact pl_cnt_0 m (by omega) k (by omega)

theorem pl_cnt_same {be : Nat → Int32} {i : Nat} {x : Int32} : ∀ m, m ≤ i → pl_cnt (upd be i x) m = pl_cnt be m
  | 0, _ => rfl
  | m + 1, h => by
    show pl_cnt (upd be i x) m + (if upd be i x m < 0 then 1 else 0) = pl_cnt be m + (if be m < 0 then 1 else 0)
    rw [pl_cnt_same m (by omega), pk_un (by omega)]

theorem pl_cnt_upd {be : Nat → Int32} {i : Nat} {x : Int32} (h1 : be i < 0) (h2 : ¬ x < 0) : ∀ m, i < m → pl_cnt (upd be i x) m + 1 = pl_cnt be m
  | 0, h => absurd h (Nat.not_lt_zero i)
  | m + 1, h => by
    show pl_cnt (upd be i x) m + (if upd be i x m < 0 then 1 else 0) + 1 = pl_cnt be m + (if be m < 0 then 1 else 0)
    by_cases e : m = i
    · subst e
      rw [pl_cnt_same m (Nat.le_refl m), pk_us, if_pos h1, if_neg h2]
    · rw [pk_un e]
      have := pl_cnt_upd h1 h2 m (by omega)
      omega

def pl_sat (fe : Int32) (be af aa ab ar : Nat → Int32) (j : Nat) : Prop := be (af j).toNatClampNeg + ab j ≤ be (aa j).toNatClampNeg + fe * ar j

theorem pl_sat_by {m n P : Nat} {b : Nat → Nat} {be af aa ab ar : Nat → Int32} (hm : m ≤ 10) (hb : ∀ k, k < m → be k = nI (b k) ∧ b k ≤ 420) (hP : P ≤ 40) (hA : pl_ar m n af aa ab ar)
    (h : ∀ j, j < n → pl_sat (nI P) be af aa ab ar j) : ∀ f t d, f < m → t < m → d < 12 → pl_has n af aa ar f t d → pl_by b P f t d := by
  intro f t d hf ht hd hh
  obtain ⟨k, hk, e1, e2, e3⟩ := hh
  obtain ⟨f', t', l, d', a1, a2, a3, a4, a5, _, b1, b2, b3, b4⟩ := hA k hk
  have s := h k hk
  unfold pl_sat at s
  rw [e1, e2, e3, b3, nI_clamp (by omega), nI_clamp (by omega), (hb f hf).1, (hb t ht).1, pk_mul, nI_add, nI_add] at s
  have h1 := (hb f hf).2
  have h2 := (hb t ht).2
  have h3 : P * d ≤ 40 * 12 := Nat.mul_le_mul hP (by omega)
  rw [nI_leI (by omega) (by omega)] at s
  unfold pl_by
  omega

section
variable {fz fc fa fp fe : Int32} {op de le ri oo rg ce so rb af aa ab ar be he ad mu wa re : Nat → Int32}

theorem pl_fh33 {post : SX → Prop} {J : Int32 → (Nat → Int32) → (Nat → Int32) → (Nat → Int32) → (Nat → Int32) → (Nat → Int32) → (Nat → Int32) → (Nat → Int32) → (Nat → Int32) → (Nat → Int32) → (Nat → Int32) → (Nat → Int32) → (Nat → Int32) → (Nat → Int32) → (Nat → Int32) → (Nat → Int32) → (Nat → Int32) → (Nat → Int32) → (Nat → Int32) → (Nat → Int32) → Prop}
    {m n k : Nat} (hm : m ≤ 10) (hn : n ≤ 256) (hA : pl_ar m n af aa ab ar) (h : ∀ he' : Nat → Int32, J (nI (k + 1)) op de le ri oo rg ce so rb af aa ab ar be he' ad mu wa re) :
    ∀ fu j (he : Nat → Int32), j ≤ n → n - j < fu → wX_findHeights_33 post J (nI k) fz fc (nI n) fp fe fu (nI j) op de le ri oo rg ce so rb af aa ab ar be he ad mu wa re := by
  intro fu
  induction fu with
  | zero => intro j he _ h2; omega
  | succ fu ih =>
    intro j he hj hf
    rw [wX_findHeights_33]
    refine pk_le n j (fun hnj => nm_r (nI_1 k) (h he)) (fun hjn => ?_)
    obtain ⟨f, t, l, d, a1, a2, a3, a4, a5, _, b1, b2, b3, b4⟩ := hA j hjn
    have hin : vp_in (nI j) 256 := vp_in_nI (by omega) (by omega)
    rw [nI_clamp (by omega : j < 2 ^ 31)]
    refine ⟨hin, ?_⟩
    rintro _ rfl
    refine ⟨hin, by rw [b2]; exact vp_in_nI (by omega) (by omega), hin, ?_⟩
    rintro _ rfl
    have hin2 : vp_in (af j) 10 := by rw [b1]; exact vp_in_nI (by omega) (by omega)
    have go : ∀ he' : Nat → Int32, wX_findHeights_33 post J (nI k) fz fc (nI n) fp fe fu (nI (j + 1)) op de le ri oo rg ce so rb af aa ab ar be he' ad mu wa re := fun he' => ih (j + 1) he' (by omega) (by omega)
    exact ⟨hin, br_c (fun _ => ⟨hin2, br_c (fun _ => nm_r (nI_1 j) (go _)) fun _ => ⟨hin2, nm_e (nm_r (nI_1 j) (go _))⟩⟩) fun _ => nm_r (nI_1 j) (go _)⟩

theorem pl_fh25 {post : SX → Prop} {m n : Nat} (hm : m ≤ 10) (hn : n ≤ 256) (hA : pl_ar m n af aa ab ar) (h : ∀ he' : Nat → Int32, post (fz, fc, nI n, fp, fe, op, de, le, ri, oo, rg, ce, so, rb, af, aa, ab, ar, be, he', ad, mu, wa, re)) :
    ∀ fu k (he : Nat → Int32), k ≤ 10 → 10 - k < fu → wX_findHeights_25 post fz fc (nI n) fp fe fu (nI k) op de le ri oo rg ce so rb af aa ab ar be he ad mu wa re := by
  intro fu
  induction fu with
  | zero => intro j he _ h2; omega
  | succ fu ih =>
    intro k he hk hf
    rw [wX_findHeights_25]
    refine pk_le 10 k (fun _ => h he) (fun hk10 => ?_)
    exact ⟨n + 1, pl_fh33 hm hn hA (fun he' => ih (k + 1) he' (by omega) (by omega)) (n + 1) 0 he (by omega) (by omega)⟩

theorem pl_fh2 {post : SX → Prop} {m n : Nat} (hm : m ≤ 10) (hn : n ≤ 256) (hA : pl_ar m n af aa ab ar) (h : ∀ he' : Nat → Int32, post (nI m, fc, nI n, fp, fe, op, de, le, ri, oo, rg, ce, so, rb, af, aa, ab, ar, be, he', ad, mu, wa, re)) :
    ∀ fu k (he : Nat → Int32), k ≤ m → m - k < fu → wX_findHeights_2 post (nI m) fc (nI n) fp fe fu (nI k) op de le ri oo rg ce so rb af aa ab ar be he ad mu wa re := by
  intro fu
  induction fu with
  | zero => intro j he _ h2; omega
  | succ fu ih =>
    intro k he hk hf
    rw [wX_findHeights_2]
    refine pk_le m k (fun _ => ⟨11, pl_fh25 hm hn hA h 11 0 he (by omega) (by omega)⟩) (fun hkm => ?_)
    exact ⟨vp_in_nI (by omega) (by omega), nm_e (nm_r (nI_1 k) (ih (k + 1) _ (by omega) (by omega)))⟩

theorem pl_findHeights {post : SX → Prop} {m n : Nat} (hm : m ≤ 10) (hn : n ≤ 256) (hA : pl_ar m n af aa ab ar) (h : ∀ he' : Nat → Int32, post (nI m, fc, nI n, fp, fe, op, de, le, ri, oo, rg, ce, so, rb, af, aa, ab, ar, be, he', ad, mu, wa, re)) :
    wpX_findHeights post (nI m, fc, nI n, fp, fe, op, de, le, ri, oo, rg, ce, so, rb, af, aa, ab, ar, be, he, ad, mu, wa, re) :=
  Exists.intro (m + 1) (pl_fh2 hm hn hA h (m + 1) 0 he (by omega) (by omega))

theorem pl_earliest_lp {post : Int32 → Prop} {m n P B : Nat} {x : Int32} (hm : m ≤ 10) (hn : n ≤ 256) (hP : P ≤ 40) (hB : B ≤ 1000) (hA : pl_ar m n af aa ab ar)
    (hbe : ∀ k, k < m → be k = -1 ∨ ∃ t, t ≤ B ∧ be k = nI t) (h : ∀ t, t ≤ B + 3 → post (nI t)) :
    ∀ fu j t, j ≤ n → n - j < fu → t ≤ B + 3 → wX_earliest_4 post x fz fc (nI n) fp (nI P) op de le ri oo rg ce so rb af aa ab ar be he ad mu wa re fu (nI t) (nI j) := by
  intro fu
  induction fu with
  | zero => intro j t _ h2; omega
  | succ fu ih =>
    intro j t hj hf ht
    rw [wX_earliest_4]
    refine pk_le n j (fun hnj => h t ht) (fun hjn => ?_)
    obtain ⟨f, t', l, d, a1, a2, a3, a4, a5, _, b1, b2, b3, b4⟩ := hA j hjn
    have hin : vp_in (nI j) 256 := vp_in_nI (by omega) (by omega)
    have hin2 : vp_in (af j) 10 := by rw [b1]; exact vp_in_nI (by omega) (by omega)
    have hcf : (af j).toNatClampNeg = f := by rw [b1]; exact nI_clamp (by omega)
    rw [nI_clamp (by omega : j < 2 ^ 31)]
    refine ⟨hin, ?_⟩
    rintro _ rfl
    rw [hcf]
    refine ⟨hin, br_c (fun _ => ⟨hin2, br_c (fun _ => nm_r (nI_1 j) (ih (j + 1) t (by omega) (by omega) ht)) fun hb => ⟨hin2, hin, hin, ?_⟩⟩) fun _ => nm_r (nI_1 j) (ih (j + 1) t (by omega) (by omega) ht)⟩
    rintro _ rfl
    refine br_c (fun _ => nm_r (nI_1 j) (ih (j + 1) t (by omega) (by omega) ht)) fun hx => ?_
    rcases hbe f a1 with e | ⟨tb, htb, e⟩
    · rw [e] at hb
      exact absurd (by decide) hb
    · rw [e, b3, b4, pk_mul, nI_add] at hx ⊢
      have h3 : P * d ≤ 40 * 12 := Nat.mul_le_mul hP (by omega)
      have hlt : P * d ≤ tb + l := by
        rw [Int32.le_iff_toInt_le, pk_sub_toInt (by omega) (by omega), nI_toInt (by omega)] at hx
        omega
      rw [pk_sub hlt]
      exact nm_r (nI_1 j) (ih (j + 1) _ (by omega) (by omega) (by omega))

theorem pl_earliest {post : Int32 → Prop} {m n P B : Nat} {x : Int32} (hm : m ≤ 10) (hn : n ≤ 256) (hP : P ≤ 40) (hB : B ≤ 1000) (hA : pl_ar m n af aa ab ar)
    (hbe : ∀ k, k < m → be k = -1 ∨ ∃ t, t ≤ B ∧ be k = nI t) (h : ∀ t, t ≤ B + 3 → post (nI t)) : wpX_earliest post (fz, fc, nI n, fp, nI P, op, de, le, ri, oo, rg, ce, so, rb, af, aa, ab, ar, be, he, ad, mu, wa, re) x :=
  Exists.intro (n + 1) (pl_earliest_lp hm hn hP hB hA hbe h (n + 1) 0 0 (by omega) (by omega) (by omega))

theorem pl_room {post : Int32 → Prop} {o : Int32} {s : Nat} (hs : s < 80) (h1 : post 1) (h0 : post 0) : wpX_room post (fz, fc, fa, fp, fe, op, de, le, ri, oo, rg, ce, so, rb, af, aa, ab, ar, be, he, ad, mu, wa, re) o (nI s) := by
  have hin : vp_in (nI s) 80 := vp_in_nI hs (by omega)
  have r9 : wX_room_9 post (nI s) fz fc fa fp fe op de le ri oo rg ce so rb af aa ab ar be he ad mu wa re := And.intro hin (br_c (fun _ => h0) fun _ => h1)
  unfold wpX_room
  exact br_c (fun _ => r9) fun _ => br_c (fun _ => r9) fun _ => br_c (fun _ => ⟨hin, br_c (fun _ => h0) fun _ => h1⟩) fun _ => ⟨hin, br_c (fun _ => h0) fun _ => h1⟩

theorem pl_occupy {post : SX → Prop} {o : Int32} {s : Nat} (hs : s < 80) (h : ∀ ad' mu' wa' : Nat → Int32, post (fz, fc, fa, fp, fe, op, de, le, ri, oo, rg, ce, so, rb, af, aa, ab, ar, be, he, ad', mu', wa', re)) : wpX_occupy post (fz, fc, fa, fp, fe, op, de, le, ri, oo, rg, ce, so, rb, af, aa, ab, ar, be, he, ad, mu, wa, re) o (nI s) := by
  have hin : vp_in (nI s) 80 := vp_in_nI hs (by omega)
  have r9 : wX_occupy_9 post (nI s) fz fc fa fp fe op de le ri oo rg ce so rb af aa ab ar be he ad mu wa re := And.intro hin ⟨hin, nm_e (h _ _ _)⟩
  unfold wpX_occupy
  exact br_c (fun _ => r9) fun _ => br_c (fun _ => r9) fun _ => br_c (fun _ => ⟨hin, hin, nm_e (h _ _ _)⟩) fun _ => ⟨hin, hin, nm_e (h _ _ _)⟩

theorem pl_mu_lp {post : Int32 → Prop} {m : Nat} (hm : m ≤ 10) (hex : ∃ i, i < m ∧ be i < 0) (h : ∀ i, i < m → be i < 0 → post (nI i)) :
    ∀ fu k (x : Int32), k ≤ m → m - k < fu → ((x = -1 ∧ ∀ j, j < k → ¬ be j < 0) ∨ (∃ i, i < m ∧ x = nI i ∧ be i < 0)) → wX_mostUrgent_4 post (nI m) fc fa fp fe op de le ri oo rg ce so rb af aa ab ar be he ad mu wa re fu x (nI k) := by
  intro fu
  induction fu with
  | zero => intro k x _ h2; omega
  | succ fu ih =>
    intro k x hk hf hx
    rw [wX_mostUrgent_4]
    refine pk_le m k (fun hmk => ?_) (fun hkm => ?_)
    · rcases hx with ⟨_, hx⟩ | ⟨i, hi, rfl, hb⟩
      · obtain ⟨i, hi, hb⟩ := hex
        exact absurd hb (hx i (by omega))
      · exact h i hi hb
    · have hin : vp_in (nI k) 10 := vp_in_nI (by omega) (by omega)
      rw [nI_clamp (by omega : k < 2 ^ 31)]
      refine ⟨hin, br_c (fun hb => nm_r (nI_1 k) (ih (k + 1) x (by omega) (by omega) ?_)) fun hb => ?_⟩
      · rcases hx with ⟨e, hx⟩ | hx
        · refine Or.inl ⟨e, fun j hj => ?_⟩
          by_cases ej : j = k
          · rw [ej]; exact Int32.not_lt.mpr hb
          · exact hx j (by omega)
        · exact Or.inr hx
      · have hb' : be k < 0 := Int32.not_le.mp hb
        have new : wX_mostUrgent_4 post (nI m) fc fa fp fe op de le ri oo rg ce so rb af aa ab ar be he ad mu wa re fu (nI k) (nI (k + 1)) := ih (k + 1) (nI k) (by omega) (by omega) (Or.inr ⟨k, hkm, rfl, hb'⟩)
        rcases hx with ⟨e, hx⟩ | ⟨i, hi, rfl, hbi⟩
        · exact br_t e (nm_r (nI_1 k) new)
        · refine br_f (pl_nm1 (by omega)) ⟨hin, vp_in_nI (by omega) (by omega), br_c (fun _ => nm_r (nI_1 k) (ih (k + 1) (nI i) (by omega) (by omega) (Or.inr ⟨i, hi, rfl, hbi⟩))) fun _ => nm_r (nI_1 k) new⟩

theorem pl_mostUrgent {post : Int32 → Prop} {m : Nat} (hm : m ≤ 10) (hex : ∃ i, i < m ∧ be i < 0) (h : ∀ i, i < m → be i < 0 → post (nI i)) : wpX_mostUrgent post (nI m, fc, fa, fp, fe, op, de, le, ri, oo, rg, ce, so, rb, af, aa, ab, ar, be, he, ad, mu, wa, re) :=
  Exists.intro (m + 1) (pl_mu_lp hm hex h (m + 1) 0 (-1) (by omega) (by omega) (Or.inl ⟨rfl, fun j hj => by omega⟩))

theorem pl_kept_lp {post : Int32 → Prop} {m n : Nat} (hm : m ≤ 10) (hn : n ≤ 256) (hA : pl_ar m n af aa ab ar) (h0 : post 0) (h1 : (∀ j, j < n → pl_sat fe be af aa ab ar j) → post 1) :
    ∀ fu k, k ≤ n → n - k < fu → (∀ j, j < k → pl_sat fe be af aa ab ar j) → wX_kept_2 post fz fc (nI n) fp fe op de le ri oo rg ce so rb af aa ab ar be he ad mu wa re fu (nI k) := by
  intro fu
  induction fu with
  | zero => intro k _ h2; omega
  | succ fu ih =>
    intro k hk hf hs
    rw [wX_kept_2]
    refine pk_le n k (fun hnk => ?_) (fun hkn => ?_)
    · have e : k = n := by omega
      subst e
      exact h1 hs
    · obtain ⟨f, t', l, d, a1, a2, a3, a4, a5, _, b1, b2, b3, b4⟩ := hA k hkn
      have hin : vp_in (nI k) 256 := vp_in_nI (by omega) (by omega)
      have hin2 : vp_in (af k) 10 := by rw [b1]; exact vp_in_nI (by omega) (by omega)
      have hin3 : vp_in (aa k) 10 := by rw [b2]; exact vp_in_nI (by omega) (by omega)
      rw [nI_clamp (by omega : k < 2 ^ 31)]
      refine ⟨hin, hin3, hin, hin, hin2, hin, br_c (fun s => nm_r (nI_1 k) (ih (k + 1) (by omega) (by omega) fun j hj => ?_)) fun _ => h0⟩
      by_cases ej : j = k
      · rw [ej]; exact s
      · exact hs j (by omega)

theorem pl_kept {post : Int32 → Prop} {m n : Nat} (hm : m ≤ 10) (hn : n ≤ 256) (hA : pl_ar m n af aa ab ar) (h0 : post 0) (h1 : (∀ j, j < n → pl_sat fe be af aa ab ar j) → post 1) : wpX_kept post (fz, fc, nI n, fp, fe, op, de, le, ri, oo, rg, ce, so, rb, af, aa, ab, ar, be, he, ad, mu, wa, re) :=
  Exists.intro (n + 1) (pl_kept_lp hm hn hA h0 h1 (n + 1) 0 (by omega) (by omega) (fun j hj => by omega))
end
end
section
/-! laying out, and the plan -/
def pl_sum (op : Nat → Int32) : Nat → Nat
  | 0 => 0
  | k + 1 => pl_sum op k + pl_lat (op k)

theorem pl_sum_le {op : Nat → Int32} : ∀ k, pl_sum op k ≤ 3 * k
  | 0 => Nat.le_refl 0
  | k + 1 => by
    show pl_sum op k + pl_lat (op k) ≤ 3 * (k + 1)
    have h1 := pl_sum_le (op := op) k
    have h2 := pl_lat_in (op k)
    omega

theorem pl_sum_lt {op : Nat → Int32} {f : Nat} : ∀ t, f < t → pl_sum op f + 1 ≤ pl_sum op t
  | 0, h => absurd h (Nat.not_lt_zero f)
  | t + 1, h => by
    show pl_sum op f + 1 ≤ pl_sum op t + pl_lat (op t)
    have h2 := pl_lat_in (op t)
    by_cases e : f = t
    · rw [e]; omega
    · have h1 := pl_sum_lt (op := op) t (by omega : f < t)
      omega

/-- one instruction after the other: every wait is kept -/
theorem pl_sum_by {op af aa ab ar : Nat → Int32} {m n : Nat} (hm : m ≤ 10) (hA : pl_ar m n af aa ab ar) :
    ∀ f t d, f < m → t < m → d < 12 → pl_has n af aa ar f t d → pl_by (pl_sum op) (pl_sum op m + 1) f t d := by
  intro f t d hf ht hd hh
  obtain ⟨k, hk, e1, e2, e3⟩ := hh
  obtain ⟨f', t', l, d', a1, a2, a3, a4, a5, a6, b1, b2, b3, b4⟩ := hA k hk
  have ef := (nI_eq (by omega) (by omega)).mp (e1.symm.trans b1)
  have et := (nI_eq (by omega) (by omega)).mp (e2.symm.trans b2)
  have ed := (nI_eq (by omega) (by omega)).mp (e3.symm.trans b4)
  unfold pl_by
  by_cases h0 : d = 0
  · have h1 := pl_sum_lt (op := op) (f := f) t (by omega)
    omega
  · have h1 := pl_sum_lt (op := op) (f := f) m hf
    have h2 : (pl_sum op m + 1) * 1 ≤ (pl_sum op m + 1) * d := Nat.mul_le_mul_left _ (by omega)
    omega

section
variable {fz fc fa fp fe : Int32} {op de le ri oo rg ce so rb af aa ab ar be he ad mu wa re : Nat → Int32}

theorem pl_lo165 {post : Int32 → SX → Prop} {J : Int32 → Int32 → Int32 → Int32 → Int32 → Int32 → (Nat → Int32) → (Nat → Int32) → (Nat → Int32) → (Nat → Int32) → (Nat → Int32) → (Nat → Int32) → (Nat → Int32) → (Nat → Int32) → (Nat → Int32) → (Nat → Int32) → (Nat → Int32) → (Nat → Int32) → (Nat → Int32) → (Nat → Int32) → (Nat → Int32) → (Nat → Int32) → (Nat → Int32) → (Nat → Int32) → (Nat → Int32) → Prop}
    {k : Nat} (h : J (nI (k + 1)) fz fc fa fp fe op de le ri oo rg ce so rb af aa ab ar be he ad mu wa re) : wX_layOut_165 post J (nI k) 1 fz fc fa fp fe op de le ri oo rg ce so rb af aa ab ar be he ad mu wa re := by
  unfold wX_layOut_165
  exact br_f (by decide) (nm_r (nI_1 k) h)

theorem pl_lo85 {post : Int32 → SX → Prop} {J : Int32 → Int32 → Int32 → Int32 → Int32 → Int32 → (Nat → Int32) → (Nat → Int32) → (Nat → Int32) → (Nat → Int32) → (Nat → Int32) → (Nat → Int32) → (Nat → Int32) → (Nat → Int32) → (Nat → Int32) → (Nat → Int32) → (Nat → Int32) → (Nat → Int32) → (Nat → Int32) → (Nat → Int32) → (Nat → Int32) → (Nat → Int32) → (Nat → Int32) → (Nat → Int32) → (Nat → Int32) → Prop}
    {m P i e k : Nat} (hm : m ≤ 10) (hP1 : 1 ≤ P) (hP : P ≤ 40) (hi : i < m) (hee : e ≤ 1000) (h0 : post 0 (fz, fc, fa, fp, nI P, op, de, le, ri, oo, rg, ce, so, rb, af, aa, ab, ar, be, he, ad, mu, wa, re))
    (h1 : ∀ t, t ≤ e + P - 1 → ∀ ad' mu' wa' : Nat → Int32, J (nI (k + 1)) fz fc fa fp (nI P) op de le ri oo rg ce so rb af aa ab ar (upd be i (nI t)) he ad' mu' wa' re) :
    ∀ fu c, c ≤ P → P - c + 1 < fu → wX_layOut_85 post J (nI k) (nI i) fu (nI (e + c)) 0 (nI c) fz fc fa fp (nI P) op de le ri oo rg ce so rb af aa ab ar be he ad mu wa re := by
  intro fu
  induction fu with
  | zero => intro c _ h2; omega
  | succ fu ih =>
    intro c hc hf
    rw [wX_layOut_85]
    refine pk_le P c (fun hPc => ?_) (fun hcP => ?_)
    · unfold wX_layOut_165
      exact br_t rfl h0
    · refine br_t rfl (br_f (nI_nle (by omega) (by omega)) ⟨nI_ne0 (by omega) (by omega), ?_⟩)
      rw [pk_rem (by omega) (by omega) (by omega)]
      have hslot : (e + c) % P < 80 := by
        have := Nat.mod_lt (e + c) (by omega : P > 0)
        omega
      have hin : vp_in (nI i) 10 := vp_in_nI (by omega) (by omega)
      unfold wX_layOut_116
      rw [nI_clamp (by omega : i < 2 ^ 31)]
      refine ⟨hin, pl_room hslot ?_ ?_⟩
      · refine br_f (by decide) ⟨hin, pl_occupy hslot fun ad' mu' wa' => ⟨hin, nm_e (nm_r (nI_1 (e + c)) (nm_r (nI_1 c) ?_))⟩⟩
        obtain ⟨fu', rfl⟩ : ∃ fu', fu = fu' + 1 := ⟨fu - 1, by omega⟩
        have hj := pl_lo165 (post := post) (h1 (e + c) (by omega) ad' mu' wa')
        rw [wX_layOut_85]
        exact br_c (fun _ => hj) fun _ => br_f (by decide) hj
      · exact br_t rfl (nm_r (nI_1 (e + c)) (nm_r (nI_1 c) (ih (c + 1) (by omega) (by omega))))

theorem pl_lo60 {post : Int32 → SX → Prop} {m n P : Nat} (hm : m ≤ 10) (hn : n ≤ 256) (hP1 : 1 ≤ P) (hP : P ≤ 39) (hA : pl_ar m n af aa ab ar)
    (h0 : ∀ be' ad' mu' wa' : Nat → Int32, post 0 (nI m, fc, nI n, fp, nI P, op, de, le, ri, oo, rg, ce, so, rb, af, aa, ab, ar, be', he, ad', mu', wa', re))
    (h1 : ∀ (be' ad' mu' wa' : Nat → Int32) (b : Nat → Nat), (∀ k, k < m → be' k = nI (b k) ∧ b k ≤ 420) → (∀ f t d, f < m → t < m → d < 12 → pl_has n af aa ar f t d → pl_by b P f t d) →
      post 1 (nI m, fc, nI n, fp, nI P, op, de, le, ri, oo, rg, ce, so, rb, af, aa, ab, ar, be', he, ad', mu', wa', re)) :
    ∀ fu k (be ad mu wa : Nat → Int32), k ≤ m → m - k < fu → pl_cnt be m + k = m → (∀ j, j < m → be j = -1 ∨ ∃ t, t ≤ 42 * k ∧ be j = nI t) →
      wX_layOut_60 post fu (nI k) (nI m) fc (nI n) fp (nI P) op de le ri oo rg ce so rb af aa ab ar be he ad mu wa re := by
  intro fu
  induction fu with
  | zero => intro k be ad mu wa _ h2; omega
  | succ fu ih =>
    intro k be ad mu wa hk hf hcnt hbe
    rw [wX_layOut_60]
    refine pk_le m k (fun hmk => ?_) (fun hkm => ?_)
    · have hb : ∀ j, j < m → be j = nI (be j).toNatClampNeg ∧ (be j).toNatClampNeg ≤ 420 := by
        intro j hj
        rcases hbe j hj with e | ⟨t, ht, e⟩
        · exact absurd (show be j < 0 by rw [e]; decide) (pl_cnt_0 (be := be) m (by omega) j hj)
        · rw [e, nI_clamp (by omega)]
          exact ⟨rfl, by omega⟩
      refine pl_kept hm hn hA ⟨rfl, h0 be ad mu wa⟩ fun hs => ⟨rfl, h1 be ad mu wa (fun j => (be j).toNatClampNeg) hb ?_⟩
      exact pl_sat_by hm hb (by omega) hA hs
    · refine pl_mostUrgent hm (pl_cnt_ex m (by omega)) fun i hi hbi => ?_
      refine pl_earliest hm hn (by omega) (B := 42 * k) (by omega) hA hbe fun e hee => ?_
      refine ⟨P + 2, pl_lo85 (e := e) (m := m) hm hP1 (by omega) hi (by omega) (h0 be ad mu wa) (fun t ht ad' mu' wa' => ?_) (P + 2) 0 (by omega) (by omega)⟩
      refine ih (k + 1) _ ad' mu' wa' (by omega) (by omega) ?_ fun j hj => ?_
      · have := pl_cnt_upd (x := nI t) hbi (nI_pos (by omega)) m hi
        omega
      · by_cases ej : j = i
        · subst ej
          exact Or.inr ⟨t, by omega, pk_us⟩
        · rw [pk_un ej]
          rcases hbe j hj with e' | ⟨t', ht', e'⟩
          · exact Or.inl e'
          · exact Or.inr ⟨t', by omega, e'⟩

theorem pl_lo37 {post : Int32 → SX → Prop} {m n P : Nat} (hm : m ≤ 10) (hn : n ≤ 256) (hP1 : 1 ≤ P) (hP : P ≤ 39) (hA : pl_ar m n af aa ab ar)
    (h0 : ∀ be' ad' mu' wa' : Nat → Int32, post 0 (nI m, fc, nI n, fp, nI P, op, de, le, ri, oo, rg, ce, so, rb, af, aa, ab, ar, be', he, ad', mu', wa', re))
    (h1 : ∀ (be' ad' mu' wa' : Nat → Int32) (b : Nat → Nat), (∀ k, k < m → be' k = nI (b k) ∧ b k ≤ 420) → (∀ f t d, f < m → t < m → d < 12 → pl_has n af aa ar f t d → pl_by b P f t d) →
      post 1 (nI m, fc, nI n, fp, nI P, op, de, le, ri, oo, rg, ce, so, rb, af, aa, ab, ar, be', he, ad', mu', wa', re)) :
    ∀ fu k (be ad mu wa : Nat → Int32), k ≤ m → m - k < fu → (∀ j, j < k → be j = -1) → wX_layOut_37 post (nI m) fc (nI n) fp (nI P) fu (nI k) op de le ri oo rg ce so rb af aa ab ar be he ad mu wa re := by
  intro fu
  induction fu with
  | zero => intro k be ad mu wa _ h2; omega
  | succ fu ih =>
    intro k be ad mu wa hk hf hbe
    rw [wX_layOut_37]
    refine pk_le m k (fun hmk => ?_) (fun hkm => ?_)
    · refine ⟨m + 1, pl_lo60 hm hn hP1 hP hA h0 h1 (m + 1) 0 be ad mu wa (by omega) (by omega) ?_ fun j hj => Or.inl (hbe j (by omega))⟩
      rw [pl_cnt_all m fun j hj => by rw [hbe j (by omega)]; decide]
      omega
    · rw [nI_clamp (by omega : k < 2 ^ 31)]
      refine ⟨vp_in_nI (by omega) (by omega), nm_e (nm_r (nI_1 k) (ih (k + 1) _ ad mu wa (by omega) (by omega) fun j hj => ?_))⟩
      by_cases ej : j = k
      · rw [ej]; exact pk_us
      · rw [pk_un ej]; exact hbe j (by omega)

theorem pl_lo2 {post : Int32 → SX → Prop} {m n P : Nat} (hm : m ≤ 10) (hn : n ≤ 256) (hP1 : 1 ≤ P) (hP : P ≤ 39) (hA : pl_ar m n af aa ab ar)
    (h0 : ∀ be' ad' mu' wa' : Nat → Int32, post 0 (nI m, fc, nI n, fp, nI P, op, de, le, ri, oo, rg, ce, so, rb, af, aa, ab, ar, be', he, ad', mu', wa', re))
    (h1 : ∀ (be' ad' mu' wa' : Nat → Int32) (b : Nat → Nat), (∀ k, k < m → be' k = nI (b k) ∧ b k ≤ 420) → (∀ f t d, f < m → t < m → d < 12 → pl_has n af aa ar f t d → pl_by b P f t d) →
      post 1 (nI m, fc, nI n, fp, nI P, op, de, le, ri, oo, rg, ce, so, rb, af, aa, ab, ar, be', he, ad', mu', wa', re)) :
    ∀ fu k (ad mu wa : Nat → Int32), k ≤ 80 → 80 - k < fu → wX_layOut_2 post (nI m) fc (nI n) fp (nI P) fu (nI k) op de le ri oo rg ce so rb af aa ab ar be he ad mu wa re := by
  intro fu
  induction fu with
  | zero => intro k ad mu wa _ h2; omega
  | succ fu ih =>
    intro k ad mu wa hk hf
    rw [wX_layOut_2]
    refine pk_le 80 k (fun hmk => ?_) (fun hkm => ?_)
    · exact ⟨m + 1, pl_lo37 hm hn hP1 hP hA h0 h1 (m + 1) 0 be ad mu wa (by omega) (by omega) fun j hj => by omega⟩
    · have hin : vp_in (nI k) 80 := vp_in_nI (by omega) (by omega)
      exact ⟨hin, nm_e ⟨hin, nm_e ⟨hin, nm_e (nm_r (nI_1 k) (ih (k + 1) _ _ _ (by omega) (by omega)))⟩⟩⟩

theorem pl_layOut {post : Int32 → SX → Prop} {m n P : Nat} (hm : m ≤ 10) (hn : n ≤ 256) (hP1 : 1 ≤ P) (hP : P ≤ 39) (hA : pl_ar m n af aa ab ar)
    (h0 : ∀ be' ad' mu' wa' : Nat → Int32, post 0 (nI m, fc, nI n, fp, nI P, op, de, le, ri, oo, rg, ce, so, rb, af, aa, ab, ar, be', he, ad', mu', wa', re))
    (h1 : ∀ (be' ad' mu' wa' : Nat → Int32) (b : Nat → Nat), (∀ k, k < m → be' k = nI (b k) ∧ b k ≤ 420) → (∀ f t d, f < m → t < m → d < 12 → pl_has n af aa ar f t d → pl_by b P f t d) →
      post 1 (nI m, fc, nI n, fp, nI P, op, de, le, ri, oo, rg, ce, so, rb, af, aa, ab, ar, be', he, ad', mu', wa', re)) :
    wpX_layOut post (nI m, fc, nI n, fp, nI P, op, de, le, ri, oo, rg, ce, so, rb, af, aa, ab, ar, be, he, ad, mu, wa, re) :=
  Exists.intro 81 (pl_lo2 hm hn hP1 hP hA h0 h1 81 0 ad mu wa (by omega) (by omega))

theorem pl_li4 {post : SX → Prop} {m : Nat} (hm : m ≤ 10)
    (h : ∀ be' : Nat → Int32, (∀ j, j < m → be' j = nI (pl_sum op j)) → post (nI m, fc, fa, fp, nI (pl_sum op m + 1), op, de, le, ri, oo, rg, ce, so, rb, af, aa, ab, ar, be', he, ad, mu, wa, re)) :
    ∀ fu k (be : Nat → Int32), k ≤ m → m - k < fu → (∀ j, j < k → be j = nI (pl_sum op j)) → wX_layInOrder_4 post (nI m) fc fa fp fe fu (nI (pl_sum op k)) (nI k) op de le ri oo rg ce so rb af aa ab ar be he ad mu wa re := by
  intro fu
  induction fu with
  | zero => intro k be _ h2; omega
  | succ fu ih =>
    intro k be hk hf hbe
    rw [wX_layInOrder_4]
    refine pk_le m k (fun hmk => ?_) (fun hkm => ?_)
    · have e : k = m := by omega
      subst e
      exact nm_r (nI_1 _) (h be hbe)
    · have hin : vp_in (nI k) 10 := vp_in_nI (by omega) (by omega)
      rw [nI_clamp (by omega : k < 2 ^ 31)]
      refine ⟨hin, nm_e ⟨hin, pl_latency (nm_r (nI_add _ _) (nm_r (nI_1 k) (ih (k + 1) _ (by omega) (by omega) fun j hj => ?_)))⟩⟩
      by_cases ej : j = k
      · rw [ej]; exact pk_us
      · rw [pk_un ej]; exact hbe j (by omega)

theorem pl_layInOrder {post : SX → Prop} {m : Nat} (hm : m ≤ 10)
    (h : ∀ be' : Nat → Int32, (∀ j, j < m → be' j = nI (pl_sum op j)) → post (nI m, fc, fa, fp, nI (pl_sum op m + 1), op, de, le, ri, oo, rg, ce, so, rb, af, aa, ab, ar, be', he, ad, mu, wa, re)) : wpX_layInOrder post (nI m, fc, fa, fp, fe, op, de, le, ri, oo, rg, ce, so, rb, af, aa, ab, ar, be, he, ad, mu, wa, re) :=
  Exists.intro (m + 1) (pl_li4 hm h (m + 1) 0 be (by omega) (by omega) (fun j hj => by omega))

theorem pl_p66_0 {post : SX → Prop} {m n : Nat} (hm : m ≤ 10) (hA : pl_ar m n af aa ab ar) (hd : pl_deps (pl_has n af aa ar) m op de le ri oo so rb)
    (h : ∀ (fe' : Int32) (be' ad' mu' wa' : Nat → Int32), pl_plan m op de le ri oo so rb be' fe' → post (nI m, fc, nI n, 1, fe', op, de, le, ri, oo, rg, ce, so, rb, af, aa, ab, ar, be', he, ad', mu', wa', re)) :
    wX_plan_66 post 0 (nI m) fc (nI n) fp fe op de le ri oo rg ce so rb af aa ab ar be he ad mu wa re := by
  unfold wX_plan_66
  refine br_t rfl (pl_layInOrder hm fun be' hbe => h _ be' ad mu wa ?_)
  have hs := pl_sum_le (op := op) m
  refine ⟨pl_sum op, pl_sum op m + 1, rfl, by omega, by omega, fun i hi => ⟨hbe i hi, ?_⟩, pl_deps_mono (pl_sum_by hm hA) hd⟩
  have := pl_sum_le (op := op) i
  omega

theorem pl_p32_1 {post : SX → Prop} {x : Int32} {fu : Nat} (h : post (fz, fc, fa, 1, fe, op, de, le, ri, oo, rg, ce, so, rb, af, aa, ab, ar, be, he, ad, mu, wa, re)) : wX_plan_32 post (fu + 1) 1 x fz fc fa fp fe op de le ri oo rg ce so rb af aa ab ar be he ad mu wa re := by
  have h66 : wX_plan_66 post 1 fz fc fa fp fe op de le ri oo rg ce so rb af aa ab ar be he ad mu wa re := by
    unfold wX_plan_66
    exact br_f (by decide) h
  rw [wX_plan_32]
  exact br_c (fun _ => h66) fun _ => br_f (by decide) h66

theorem pl_p32 {post : SX → Prop} {m n : Nat} (hm : m ≤ 10) (hn : n ≤ 256) (hA : pl_ar m n af aa ab ar) (hd : pl_deps (pl_has n af aa ar) m op de le ri oo so rb)
    (h : ∀ (fe' : Int32) (be' ad' mu' wa' : Nat → Int32), pl_plan m op de le ri oo so rb be' fe' → post (nI m, fc, nI n, 1, fe', op, de, le, ri, oo, rg, ce, so, rb, af, aa, ab, ar, be', he, ad', mu', wa', re)) :
    ∀ fu p (fe : Int32) (be ad mu wa : Nat → Int32), 1 ≤ p → p ≤ 40 → 40 - p + 1 < fu → wX_plan_32 post fu 0 (nI p) (nI m) fc (nI n) fp fe op de le ri oo rg ce so rb af aa ab ar be he ad mu wa re := by
  intro fu
  induction fu with
  | zero => intro p fe be ad mu wa _ _ h2; omega
  | succ fu ih =>
    intro p fe be ad mu wa hp1 hp hf
    have h66 : wX_plan_66 post 0 (nI m) fc (nI n) fp fe op de le ri oo rg ce so rb af aa ab ar be he ad mu wa re := pl_p66_0 hm hA hd h
    rw [wX_plan_32]
    refine pk_le 40 p (fun _ => h66) (fun hp40 => ?_)
    refine br_t rfl (br_c (fun _ => h66) fun _ => ?_)
    refine pl_layOut hm hn hp1 (by omega) hA (fun be' ad' mu' wa' => ?_) (fun be' ad' mu' wa' b hb hby => ?_)
    · exact nm_r (nI_1 p) (ih (p + 1) (nI p) be' ad' mu' wa' (by omega) (by omega) (by omega))
    · obtain ⟨fu', rfl⟩ : ∃ fu', fu = fu' + 1 := ⟨fu - 1, by omega⟩
      exact nm_e (pl_p32_1 (h _ be' ad' mu' wa' ⟨b, p, rfl, hp1, by omega, hb, pl_deps_mono hby hd⟩))

theorem pl_plan_w {post : SX → Prop} {m : Nat} (hm : m ≤ 10) (ho : ∀ i, i < m → -8 ≤ (oo i).toInt ∧ (oo i).toInt ≤ 8) (hpl : ¬ fp = 0 → pl_plan m op de le ri oo so rb be fe)
    (h : ∀ (fa fp fe : Int32) (so rb af aa ab ar be he ad mu wa : Nat → Int32), pl_plan m op de le ri oo so rb be fe → post (nI m, fc, fa, fp, fe, op, de, le, ri, oo, rg, ce, so, rb, af, aa, ab, ar, be, he, ad, mu, wa, re)) : wpX_plan post (nI m, fc, fa, fp, fe, op, de, le, ri, oo, rg, ce, so, rb, af, aa, ab, ar, be, he, ad, mu, wa, re) := by
  unfold wpX_plan
  refine br_c (fun _ => ?_) fun z => h _ _ _ _ _ _ _ _ _ _ _ _ _ _ (hpl z)
  refine pl_findArcs hm ho fun n af' aa' ab' ar' so' rb' a1 a2 a3 => ?_
  refine pl_findHeights hm (by omega) a2 fun he' => ?_
  have go : ∀ p, 1 ≤ p → p ≤ 4 → ∃ fu, wX_plan_32 post fu 0 (nI p) (nI m) fc (nI n) fp fe op de le ri oo rg ce so' rb' af' aa' ab' ar' be he' ad mu wa re := fun p h1 h2 =>
    ⟨50, pl_p32 hm (by omega) a2 a3 (fun fe' be' ad' mu' wa' hp => h _ _ _ _ _ _ _ _ _ _ _ _ _ _ hp) 50 p fe be ad mu wa h1 (by omega) (by omega)⟩
  exact br_c (fun _ => go 4 (by omega) (by omega)) fun _ => go 1 (by omega) (by omega)
end
end
section
/-! one instruction of one round -/
section
variable {fz fc fa fp fe : Int32} {op de le ri oo rg ce so rb af aa ab ar be he ad mu wa re : Nat → Int32}
variable {os tg fs sc cz : Nat → Int32} {m n p i P : Nat} {b : Nat → Nat} {D : Nat → Nat → Prop}

theorem pl_source {post : Int32 → Prop} {r w : Nat} (hok : ∀ k, k < m → pl_ok op de le ri oo os tg fs sc k) (hm : m ≤ 10) (hn : n ≤ 12) (hp : p < m) (hi : i < n) (hr : r < 6) (hw : w < 3)
    (hsrc : pl_src (pl_by b P) de m so rb p w (nI r)) (hinv : pl_inv os tg fs sc m n (rg, cz) D re ce)
    (hD : ∀ s j, s < m → j < n → b s + P * j + 1 ≤ b p + P * i → D s j)
    (h : post ((pl_S os tg fs sc m (rg, cz) (i * m + p)).1 r)) : wpX_source post (fz, fc, fa, fp, fe, op, de, le, ri, oo, rg, ce, so, rb, af, aa, ab, ar, be, he, ad, mu, wa, re) (nI p) (nI w) (nI i) (nI r) := by
  have hx : nI p * 3 + nI w = nI (p * 3 + w) := by
    show nI p * nI 3 + nI w = _
    rw [pk_mul, nI_add]
  have hin : vp_in (nI (p * 3 + w)) 30 := vp_in_nI (by omega) (by omega)
  have hin6 : vp_in (nI r) 6 := vp_in_nI (by omega) (by omega)
  have hcr : (nI r).toNatClampNeg = r := nI_clamp (by omega)
  have hix : ∀ g j, nI g * 12 + nI j = nI (g * 12 + j) := by
    intro g j
    show nI g * nI 12 + nI j = _
    rw [pk_mul, nI_add]
  unfold wpX_source
  dsimp only
  refine nm_r hx ?_
  rw [nI_clamp (by omega : p * 3 + w < 2 ^ 31)]
  refine ⟨hin, ?_⟩
  rintro _ rfl
  refine ⟨hin, ?_⟩
  obtain ⟨h1, h2, h3⟩ := hsrc (pl_nm1 (by omega))
  unfold wX_source_33
  rcases pl_gv_spec de (nI r) p with ⟨e1, e2⟩ | ⟨g, hg, e1, e2, e3⟩
  · rcases pl_gv_spec de (nI r) m with ⟨f1, f2⟩ | ⟨g, hg, f1, f2, f3⟩
    · obtain ⟨q1, q2⟩ := h3 e1 f1
      rw [q1, q2, hcr]
      rw [pl_sv_none (by omega) hok f2] at h
      exact br_t rfl (br_t rfl ⟨hin6, h⟩)
    · obtain ⟨q1, q2, q3⟩ := h2 e1 g hg f1
      rw [q1, q2, hcr]
      refine br_f (by decide) (br_f (pl_nm1 (by omega)) ?_)
      cases i with
      | zero =>
        rw [Nat.zero_mul, Nat.zero_add, pl_sv_first hok (by omega) e2] at h
        exact br_f (by decide) ⟨hin6, h⟩
      | succ i =>
        have hd := hD g i hg (by omega) (pl_T_of 1 q3 rfl)
        rw [nI_pred, hix, nI_clamp (by omega)]
        rw [← pl_sv_last hok hr hp (by omega) hg e2 f2 f3 hinv hd] at h
        exact br_t (nI_pos' (by omega)) ⟨vp_in_nI (by omega) (by omega), h⟩
  · obtain ⟨q1, q2, q3⟩ := h1 g hg e1
    have hd := hD g i (by omega) hi (pl_T_of 0 q3 rfl)
    rw [q1, q2, hcr]
    refine br_t rfl (br_f (pl_nm1 (by omega)) ?_)
    rw [hix, nI_clamp (by omega)]
    rw [← pl_sv_same hok hr hp hi hg e2 e3 hinv hd] at h
    exact br_t (nI_pos' (by omega)) ⟨vp_in_nI (by omega) (by omega), h⟩

theorem pl_worked {post : Int32 → Prop} {o x y old : Int32} (h : post (pl_res o old x y)) : wpX_worked post (fz, fc, fa, fp, fe, op, de, le, ri, oo, rg, ce, so, rb, af, aa, ab, ar, be, he, ad, mu, wa, re) o x y old := by
  unfold pl_res at h
  unfold wpX_worked
  by_cases h2 : o = 2
  · rw [if_pos h2] at h; exact br_t h2 h
  · rw [if_neg h2] at h
    refine br_f h2 ?_
    by_cases h3 : o = 3
    · rw [if_pos h3] at h; exact br_t h3 h
    · rw [if_neg h3] at h
      refine br_f h3 ?_
      by_cases h4 : o = 4
      · rw [if_pos h4] at h; exact br_t h4 h
      · rw [if_neg h4] at h
        refine br_f h4 ?_
        by_cases h5 : o = 5
        · rw [if_pos h5] at h
          refine br_t h5 ?_
          by_cases hc : y ≤ x
          · rw [if_pos hc] at h; exact br_t hc h
          · rw [if_neg hc] at h; exact br_f hc h
        · rw [if_neg h5] at h
          refine br_f h5 ?_
          by_cases hc : old = 0
          · rw [if_pos hc] at h; exact br_t hc h
          · rw [if_neg hc] at h; exact br_f hc h

/-- what a cell holds when a load is due -/
theorem pl_load_v (hok : ∀ k, k < m → pl_ok op de le ri oo os tg fs sc k) (hn : n ≤ 12) (hp : p < m) (hi : i < n) (hdep : pl_deps (pl_by b P) m op de le ri oo so rb)
    (hinv : pl_inv os tg fs sc m n (rg, cz) D re ce) (hD : ∀ s j, s < m → j < n → b s + P * j + 1 ≤ b p + P * i → D s j)
    (hD2 : ∀ s j, s < m → j < n → D s j → b s + P * j ≤ b p + P * i) (ho : op p = 0) :
    ce (pl_at fs p i) = (pl_S os tg fs sc m (rg, cz) (i * m + p)).2 (pl_at fs p i) := by
  have hle := pl_le hp hi
  refine hinv.2 _ _ (by omega) fun s j hs hj h1 hat => ?_
  have os1 : op s = 1 := by rw [← (hok s hs).1]; exact h1
  refine ⟨fun d => ?_, fun hlt => hD s j hs hj (pl_mem_T hok hdep hn hs hp hj hi (Or.inr os1) (Or.inl ho) (Or.inl os1) hat hlt)⟩
  rcases Nat.lt_trichotomy (j * m + s) (i * m + p) with hlt | heq | hgt
  · exact hlt
  · have e1 := (pl_dm j hs).1
    rw [heq, (pl_dm i hp).1] at e1
    rw [e1, os1] at ho
    exact absurd ho (by decide)
  · have k1 := pl_mem_T hok hdep hn hp hs hi hj (Or.inl ho) (Or.inr os1) (Or.inr os1) hat.symm hgt
    have k2 := hD2 s j hs hj d
    omega

theorem pl_execute {post : SX → Prop} (hok : ∀ k, k < m → pl_ok op de le ri oo os tg fs sc k) (hm : m ≤ 10) (hn : n ≤ 12) (hp : p < m) (hi : i < n)
    (hdep : pl_deps (pl_by b P) m op de le ri oo so rb) (hinv : pl_inv os tg fs sc m n (rg, cz) D re ce)
    (hD : ∀ s j, s < m → j < n → b s + P * j + 1 ≤ b p + P * i → D s j) (hD2 : ∀ s j, s < m → j < n → D s j → b s + P * j ≤ b p + P * i)
    (h : ∀ re' ce' : Nat → Int32, pl_inv os tg fs sc m n (rg, cz) (fun s j => D s j ∨ (s = p ∧ j = i)) re' ce' → post (fz, fc, fa, fp, fe, op, de, le, ri, oo, rg, ce', so, rb, af, aa, ab, ar, be, he, ad, mu, wa, re')) :
    wpX_execute post (fz, fc, fa, fp, fe, op, de, le, ri, oo, rg, ce, so, rb, af, aa, ab, ar, be, he, ad, mu, wa, re) (nI p) (nI i) := by
  have hin : vp_in (nI p) 10 := vp_in_nI (by omega) (by omega)
  have hix : nI p * 12 + nI i = nI (p * 12 + i) := by
    show nI p * nI 12 + nI i = _
    rw [pk_mul, nI_add]
  have hin12 : vp_in (nI (p * 12 + i)) 120 := vp_in_nI (by omega) (by omega)
  have hc12 : (nI (p * 12 + i)).toNatClampNeg = p * 12 + i := nI_clamp (by omega)
  have hin16 : vp_in ((nI i + oo p) &&& 15) 16 := pk_andIn _ 4 (by decide) (by decide)
  have hS := pl_S_next (os := os) (tg := tg) (fs := fs) (sc := sc) (s0 := (rg, cz)) i hp
  have hokp := hok p hp
  have hsrc := hdep.1 p hp
  unfold wpX_execute
  dsimp only
  rw [nI_clamp (by omega : p < 2 ^ 31), hix]
  refine ⟨hin, nm_e (nm_e ⟨hin, nm_e ?_⟩)⟩
  obtain ⟨eo, _, hk⟩ := hokp
  rcases hk with ⟨o, d, hd, e1, e2, e3⟩ | ⟨o, d, hd, e1, e2, e3, e4⟩ | ⟨o, d, hd, e1, e2, e3⟩ | ⟨ow, d, x, y, hd, hxx, hyy, e1, e2, e3, e4, e5, e6⟩
  · refine br_t o ⟨hin16, hin12, nm_e (h _ _ ?_)⟩
    rw [hc12]
    have ha : (nI i + oo p &&& 15).toNatClampNeg = pl_at fs p i := by
      unfold pl_at
      rw [e3]
    rw [ha]
    refine pl_inv_reg hn hi (by rw [eo, o]; decide) ?_ hinv
    rw [hS]
    unfold pl_step
    rw [if_pos (eo.trans o)]
    rw [pl_load_v hok hn hp hi hdep hinv hD hD2 o]
    exact pk_us.symm
  · have n0 : ¬ op p = 0 := by rw [o]; decide
    have n6 : ¬ op p = 6 := by rw [o]; decide
    refine br_f n0 (br_f n6 ⟨hin, ?_⟩)
    rw [e4]
    refine pl_source (w := 0) hok hm hn hp hi hd (by omega) (e4 ▸ hsrc.1) hinv hD ?_
    refine br_t o ⟨hin16, nm_e (h _ _ ?_)⟩
    have ha : (nI i + oo p &&& 15).toNatClampNeg = pl_at fs p i := by
      unfold pl_at
      rw [e3]
    rw [ha]
    have key := pl_inv_st (tg := tg) (sc := sc) (s0 := (rg, cz)) (re := re) (ce := ce) (D := D) (fs := fs) hp hi (eo.trans o) (fun s j hs hj h1 hat hlt d' => ?_) hinv
    · rw [e2, nI_clamp (by omega)] at key
      exact key
    · have os1 : op s = 1 := by rw [← (hok s hs).1]; exact h1
      have k1 := pl_mem_T hok hdep hn hp hs hi hj (Or.inr o) (Or.inr os1) (Or.inl o) hat.symm hlt
      have k2 := hD2 s j hs hj d'
      omega
  · have n0 : ¬ op p = 0 := by rw [o]; decide
    refine br_f n0 (br_t o ⟨hin, hin12, nm_e (h _ _ ?_)⟩)
    rw [hc12]
    refine pl_inv_reg hn hi (by rw [eo, o]; decide) ?_ hinv
    rw [hS]
    unfold pl_step
    rw [if_neg (by rw [eo]; exact n0), if_neg (by rw [eo, o]; decide), if_pos (eo.trans o), ← e3]
    exact pk_us.symm
  · have ⟨o0, o1, o6⟩ := pl_wk ow
    refine br_f o0 (br_f o6 ⟨hin, ?_⟩)
    have st : ∀ old : Int32, (op p = 7 → old = (pl_S os tg fs sc m (rg, cz) (i * m + p)).1 d) →
        wX_execute_141 post (op p) (nI (p * 12 + i)) ((pl_S os tg fs sc m (rg, cz) (i * m + p)).1 x) ((pl_S os tg fs sc m (rg, cz) (i * m + p)).1 y) old fz fc fa fp fe op de le ri oo rg ce so rb af aa ab ar be he ad mu wa re := by
      intro old hold
      unfold wX_execute_141
      refine pl_worked ⟨hin12, nm_e (h _ _ ?_)⟩
      rw [hc12]
      refine pl_inv_reg hn hi (by rw [eo]; exact o1) ?_ hinv
      rw [hS]
      unfold pl_step
      rw [if_neg (by rw [eo]; exact o0), if_neg (by rw [eo]; exact o1), if_neg (by rw [eo]; exact o6), eo, e2, e3, e4, nI_clamp (by omega), nI_clamp (by omega), nI_clamp (by omega)]
      refine Eq.trans ?_ pk_us.symm
      by_cases h7 : op p = 7
      · rw [hold h7]
      · exact pl_wk7 ow h7 _ _ _ _
    rw [e5]
    refine pl_source (w := 0) hok hm hn hp hi hxx (by omega) (e5 ▸ hsrc.1) hinv hD ?_
    refine br_f o1 ⟨hin, ?_⟩
    rw [e6]
    refine pl_source (w := 1) hok hm hn hp hi hyy (by omega) (e6 ▸ hsrc.2.1) hinv hD ?_
    refine br_c (fun h7 => ⟨hin, ?_⟩) fun h7 => st 0 fun z => absurd z h7
    rw [e1]
    exact pl_source (w := 2) hok hm hn hp hi hd (by omega) (e1 ▸ hsrc.2.2 h7) hinv hD (st _ fun _ => rfl)
end
end
section
/-! a beat, and the run of the component -/
def pl_D (b : Nat → Nat) (P t k : Nat) : Nat → Nat → Prop := fun s j => b s + P * j < t ∨ (b s + P * j = t ∧ k ≤ s)

theorem pl_D_skip {b : Nat → Nat} {P t k n : Nat} (h : ∀ j, j < n → b k + P * j ≠ t) : ∀ s j, j < n → (pl_D b P t (k + 1) s j ↔ pl_D b P t k s j) := by
  intro s j hj
  unfold pl_D
  by_cases e : s = k
  · subst e
    have := h j hj
    omega
  · omega

theorem pl_D_do {b : Nat → Nat} {P t k n r : Nat} (hP : 1 ≤ P) (hr : b k + P * r = t) : ∀ s j, j < n → ((pl_D b P t (k + 1) s j ∨ (s = k ∧ j = r)) ↔ pl_D b P t k s j) := by
  intro s j hj
  unfold pl_D
  by_cases e : s = k
  · subst e
    constructor
    · rintro (h | ⟨_, rfl⟩)
      · omega
      · omega
    · rintro (h | ⟨h, _⟩)
      · exact Or.inl (Or.inl h)
      · refine Or.inr ⟨rfl, Nat.eq_of_mul_eq_mul_left (by omega : 0 < P) ?_⟩
        omega
  · omega

theorem pl_D_next {b : Nat → Nat} {P t m : Nat} : ∀ s j, s < m → (pl_D b P t 0 s j ↔ pl_D b P (t + 1) m s j) := by
  intro s j hs
  unfold pl_D
  omega

section
variable {fz fc fa fp fe : Int32} {op de le ri oo rg ce so rb af aa ab ar be he ad mu wa re : Nat → Int32}
variable {os tg fs sc cz : Nat → Int32} {m n P : Nat} {b : Nat → Nat} {D : Nat → Nat → Prop}

theorem pl_pulse_lp {post : SX → Prop} {t : Nat} (hok : ∀ k, k < m → pl_ok op de le ri oo os tg fs sc k) (hm : m ≤ 10) (hn : n ≤ 12) (hP1 : 1 ≤ P) (hP : P ≤ 40) (ht : t < 2000)
    (hbe : ∀ i, i < m → be i = nI (b i) ∧ b i ≤ 420) (hdep : pl_deps (pl_by b P) m op de le ri oo so rb)
    (h : ∀ re' ce' : Nat → Int32, pl_inv os tg fs sc m n (rg, cz) (pl_D b P t 0) re' ce' → post (fz, fc, fa, fp, nI P, op, de, le, ri, oo, rg, ce', so, rb, af, aa, ab, ar, be, he, ad, mu, wa, re')) :
    ∀ fu k (x : Int32) (re ce : Nat → Int32), x = nI k + (-1) → k ≤ m → k < fu → pl_inv os tg fs sc m n (rg, cz) (pl_D b P t k) re ce → wX_pulse_7 post (nI t) (nI n) fu x fz fc fa fp (nI P) op de le ri oo rg ce so rb af aa ab ar be he ad mu wa re := by
  intro fu
  induction fu with
  | zero => intro k x re ce _ _ h2; omega
  | succ fu ih =>
    intro k x re ce hx hk hf hinv
    cases k with
    | zero =>
      subst hx
      rw [wX_pulse_7]
      exact br_t (by decide) (h re ce hinv)
    | succ k =>
      rw [pk_m1] at hx
      subst hx
      have hkm : k < m := by omega
      have ⟨hb1, hb2⟩ := hbe k hkm
      have skip : (∀ j, j < n → b k + P * j ≠ t) → wX_pulse_7 post (nI t) (nI n) fu (nI k + (-1)) fz fc fa fp (nI P) op de le ri oo rg ce so rb af aa ab ar be he ad mu wa re := fun hno =>
        ih k _ re ce rfl (by omega) (by omega) (pl_inv_c (fun s j _ hj => pl_D_skip hno s j hj) hinv)
      have hP0 : ¬ nI P = 0 := nI_ne0 (by omega) (by omega)
      rw [wX_pulse_7]
      dsimp only
      rw [nI_clamp (by omega : k < 2 ^ 31), hb1]
      refine br_f (nI_pos (by omega)) ⟨vp_in_nI (by omega) (by omega), ?_⟩
      by_cases hlt : t < b k
      · refine nm_e (br_t (pk_sneg (by omega) hlt) (nm_e (skip fun j _ => ?_)))
        omega
      · refine nm_r (pk_sub (by omega)) (br_f (nI_pos (by omega)) ⟨hP0, ?_⟩)
        rw [pk_rem (by omega) (by omega) (by omega), pk_div (by omega) (by omega) (by omega)]
        have hdm := Nat.div_add_mod (t - b k) P
        refine pk_eq ((t - b k) % P) 0 (fun hz => ⟨hP0, ?_⟩) (fun hnz => nm_e (skip fun j _ e => hnz ?_)) rfl rfl ?_ (by omega)
        · have hq : (t - b k) / P ≤ t - b k := Nat.div_le_self _ _
          have hr : b k + P * ((t - b k) / P) = t := by omega
          refine pk_le n ((t - b k) / P) (fun hnq => nm_e (skip fun j hj e => ?_)) (fun hqn => ⟨hP0, ?_⟩)
          · have e2 : P * j = P * ((t - b k) / P) := by omega
            have e3 := Nat.eq_of_mul_eq_mul_left (by omega : 0 < P) e2
            omega
          · refine pl_execute (D := pl_D b P t (k + 1)) hok hm hn hkm hqn hdep hinv (fun s j _ _ hlt' => Or.inl (by omega)) (fun s j _ _ d => ?_) fun re' ce' hinv' => ?_
            · unfold pl_D at d
              omega
            · exact nm_e (ih k _ re' ce' rfl (by omega) (by omega) (pl_inv_c (fun s j _ hj => pl_D_do hP1 hr s j hj) hinv'))
        · have e2 : t - b k = P * j := by omega
          rw [e2]
          exact Nat.mul_mod_right P j
        · have := Nat.mod_lt (t - b k) (by omega : P > 0)
          omega

theorem pl_pulse {post : SX → Prop} {t : Nat} (hok : ∀ k, k < m → pl_ok op de le ri oo os tg fs sc k) (hm : m ≤ 10) (hn : n ≤ 12) (hP1 : 1 ≤ P) (hP : P ≤ 40) (ht : t < 2000)
    (hbe : ∀ i, i < m → be i = nI (b i) ∧ b i ≤ 420) (hdep : pl_deps (pl_by b P) m op de le ri oo so rb) (hinv : pl_inv os tg fs sc m n (rg, cz) (pl_D b P t m) re ce)
    (h : ∀ re' ce' : Nat → Int32, pl_inv os tg fs sc m n (rg, cz) (pl_D b P (t + 1) m) re' ce' → post (nI m, fc, fa, fp, nI P, op, de, le, ri, oo, rg, ce', so, rb, af, aa, ab, ar, be, he, ad, mu, wa, re')) :
    wpX_pulse post (nI m, fc, fa, fp, nI P, op, de, le, ri, oo, rg, ce, so, rb, af, aa, ab, ar, be, he, ad, mu, wa, re) (nI t) (nI n) := by
  unfold wpX_pulse
  refine nm_e ⟨m + 1, ?_⟩
  refine pl_pulse_lp hok hm hn hP1 hP ht hbe hdep (fun re' ce' k => h re' ce' (pl_inv_c (fun s j hs _ => pl_D_next s j hs) k)) (m + 1) m _ re ce ?_ (by omega) (by omega) hinv
  exact Int32.sub_eq_add_neg _ _

/-- the registers at the end: those below r are written -/
theorem pl_r112 {post : Int32 → SX → Prop} {rz : Nat → Int32} (hok : ∀ k, k < m → pl_ok op de le ri oo os tg fs sc k) (hm : m ≤ 10) (hm0 : 0 < m) (hn : n + 1 ≤ 12)
    (hinv : pl_inv os tg fs sc m (n + 1) (rz, cz) D re ce) (hD : ∀ s j, s < m → j < n + 1 → D s j)
    (h : post (nI (n + 1) * nI m) (nI m, fc, fa, fp, fe, op, de, le, ri, oo, (pl_S os tg fs sc m (rz, cz) ((n + 1) * m)).1, ce, so, rb, af, aa, ab, ar, be, he, ad, mu, wa, re)) :
    ∀ fu r (rg : Nat → Int32), r ≤ 6 → 6 - r < fu → (∀ r', r' < r → rg r' = (pl_S os tg fs sc m (rz, cz) ((n + 1) * m)).1 r') → (∀ r', r ≤ r' → rg r' = rz r') →
      wX_run_112 post (nI (n + 1)) (nI m) fc fa fp fe fu (nI r) op de le ri oo rg ce so rb af aa ab ar be he ad mu wa re := by
  intro fu
  induction fu with
  | zero => intro r rg _ h2; omega
  | succ fu ih =>
    intro r rg hr hf h1 h2
    rw [wX_run_112]
    refine pk_le 6 r (fun h6 => ?_) (fun h6 => ?_)
    · have e : rg = (pl_S os tg fs sc m (rz, cz) ((n + 1) * m)).1 := by
        funext r'
        by_cases hr' : r' < 6
        · exact h1 r' (by omega)
        · rw [h2 r' (by omega)]
          refine (pl_reg_st (os := os) (tg := tg) (fs := fs) (sc := sc) (m := m) (s0 := (rz, cz)) (r := r') (q1 := 0) (q2 := (n + 1) * m) (Nat.zero_le _) fun q _ _ => Or.inr ?_).symm
          have := pl_ok_tg (hok (q % m) (Nat.mod_lt _ hm0))
          omega
      rw [e]
      exact h
    · have go : ∀ rg' : Nat → Int32, rg' r = (pl_S os tg fs sc m (rz, cz) ((n + 1) * m)).1 r → (∀ r', r' ≠ r → rg' r' = rg r') →
          wX_run_112 post (nI (n + 1)) (nI m) fc fa fp fe fu (nI (r + 1)) op de le ri oo rg' ce so rb af aa ab ar be he ad mu wa re := by
        intro rg' g1 g2
        refine ih (r + 1) rg' (by omega) (by omega) (fun r' hr' => ?_) fun r' hr' => ?_
        · by_cases e : r' = r
          · rw [e]; exact g1
          · rw [g2 r' e]; exact h1 r' (by omega)
        · rw [g2 r' (by omega)]; exact h2 r' (by omega)
      refine pl_giver hm ?_
      rcases pl_gv_spec de (nI r) m with ⟨f1, f2⟩ | ⟨g, hg, f1, f2, f3⟩
      · refine br_t f1 (nm_r (nI_1 r) (go rg ?_ fun _ _ => rfl))
        rw [pl_sv_none hm0 hok f2]
        exact h2 r (Nat.le_refl r)
      · rw [f1]
        have hx : nI g * 12 + nI (n + 1) - 1 = nI (g * 12 + n) := by
          show nI g * nI 12 + nI (n + 1) - 1 = _
          rw [pk_mul, nI_add, ← Nat.add_assoc, nI_pred]
        rw [hx, nI_clamp (by omega), nI_clamp (by omega)]
        refine br_f (pl_nm1 (by omega)) ⟨vp_in_nI (by omega) (by omega), vp_in_nI (by omega) (by omega), nm_e (nm_r (nI_1 r) (go _ ?_ fun r' hr' => pk_un hr'))⟩
        rw [pk_us]
        have key := pl_sv_last (p := 0) (i := n) hok h6 hm0 (by omega) hg (fun k hk => by omega) f2 f3 hinv (hD g n hg (by omega))
        rw [Nat.add_zero] at key
        exact key
end
end
section
section
variable {fz fc fa fp fe : Int32} {op de le ri oo rg ce so rb af aa ab ar be he ad mu wa re : Nat → Int32}
variable {os tg fs sc cz : Nat → Int32} {m n P : Nat} {b : Nat → Nat}

theorem pl_r82 {post : Int32 → SX → Prop} {E : Nat} (hok : ∀ k, k < m → pl_ok op de le ri oo os tg fs sc k) (hm : m ≤ 10) (hm0 : 0 < m) (hn : n + 1 ≤ 12) (hP1 : 1 ≤ P) (hP : P ≤ 40) (hE : E < 1000)
    (hbe : ∀ i, i < m → be i = nI (b i) ∧ b i ≤ 420) (hdep : pl_deps (pl_by b P) m op de le ri oo so rb) (hlast : ∀ i, i < m → b i + P * n ≤ E)
    (h : ∀ re' : Nat → Int32, post (nI (n + 1) * nI m) (nI m, fc, fa, fp, nI P, op, de, le, ri, oo, (pl_S os tg fs sc m (rg, cz) ((n + 1) * m)).1, (pl_S os tg fs sc m (rg, cz) ((n + 1) * m)).2, so, rb, af, aa, ab, ar, be, he, ad, mu, wa, re')) :
    ∀ fu t (re ce : Nat → Int32), t ≤ E + 1 → E + 1 - t < fu → pl_inv os tg fs sc m (n + 1) (rg, cz) (pl_D b P t m) re ce → wX_run_82 post (nI (n + 1)) (nI E) fu (nI t) (nI m) fc fa fp (nI P) op de le ri oo rg ce so rb af aa ab ar be he ad mu wa re := by
  intro fu
  induction fu with
  | zero => intro t re ce _ h2; omega
  | succ fu ih =>
    intro t re ce ht hf hinv
    rw [wX_run_82]
    refine pk_lt E t (fun hEt => ?_) (fun htE => ?_)
    · have hD : ∀ s j, s < m → j < n + 1 → pl_D b P t m s j := by
        intro s j hs hj
        have h1 := hlast s hs
        have h2 : P * j ≤ P * n := Nat.mul_le_mul_left P (by omega)
        exact Or.inl (by omega)
      have hce := pl_inv_e hD hinv
      have h' := h re
      rw [← hce] at h'
      exact ⟨7, pl_r112 hok hm hm0 hn hinv hD h' 7 0 rg (by omega) (by omega) (fun r' hr' => by omega) (fun r' _ => rfl)⟩
    · refine br_f (nI_ge (b := 1000) (by omega) (by decide)) ?_
      refine pl_pulse hok hm hn hP1 hP (by omega) hbe hdep hinv fun re' ce' hinv' => ?_
      exact nm_r (nI_1 t) (ih (t + 1) re' ce' (by omega) (by omega) hinv')

theorem pl_r33 {post : Int32 → SX → Prop} (hok : ∀ k, k < m → pl_ok op de le ri oo os tg fs sc k) (hm : m ≤ 10) (hm0 : 0 < m) (hn : n + 1 ≤ 12) (hP1 : 1 ≤ P) (hP : P ≤ 40)
    (hbe : ∀ i, i < m → be i = nI (b i) ∧ b i ≤ 420) (hdep : pl_deps (pl_by b P) m op de le ri oo so rb)
    (h : ∀ re' : Nat → Int32, post (nI (n + 1) * nI m) (nI m, fc, fa, fp, nI P, op, de, le, ri, oo, (pl_S os tg fs sc m (rg, ce) ((n + 1) * m)).1, (pl_S os tg fs sc m (rg, ce) ((n + 1) * m)).2, so, rb, af, aa, ab, ar, be, he, ad, mu, wa, re')) :
    ∀ fu k l, k ≤ m → m - k < fu → l ≤ 420 → (∀ i, i < k → b i ≤ l) → wX_run_33 post (nI (n + 1)) (nI m) fc fa fp (nI P) op de le ri oo rg ce so rb af aa ab ar be he ad mu wa re fu (nI l) (nI k) := by
  intro fu
  induction fu with
  | zero => intro k l _ h2; omega
  | succ fu ih =>
    intro k l hk hf hl hb
    rw [wX_run_33]
    refine pk_le m k (fun hmk => ?_) (fun hkm => ?_)
    · have hPn : P * n ≤ 40 * 11 := Nat.mul_le_mul hP (by omega)
      have e : nI l + nI P * (nI (n + 1) - 1) = nI (l + P * n) := by rw [nI_pred, pk_mul, nI_add]
      refine nm_r e ⟨l + P * n + 2, ?_⟩
      refine pl_r82 hok hm hm0 hn hP1 hP (by omega) hbe hdep (fun i hi => ?_) h (l + P * n + 2) 0 re ce (by omega) (by omega) (pl_inv_0 fun s j hs hj d => ?_)
      · have := hb i (by omega)
        omega
      · unfold pl_D at d
        omega
    · have hin : vp_in (nI k) 10 := vp_in_nI (by omega) (by omega)
      have ⟨e1, e2⟩ := hbe k hkm
      rw [nI_clamp (by omega : k < 2 ^ 31), e1]
      refine ⟨hin, pk_le (b k) l (fun h1 => nm_r (nI_1 k) (ih (k + 1) l (by omega) (by omega) hl fun i hi => ?_)) fun h1 => ⟨hin, nm_e (nm_r (nI_1 k) (ih (k + 1) (b k) (by omega) (by omega) e2 fun i hi => ?_))⟩⟩
      · by_cases e : i = k
        · rw [e]; exact h1
        · exact hb i (by omega)
      · by_cases e : i = k
        · rw [e]; exact Nat.le_refl _
        · have := hb i (by omega)
          omega

theorem pl_runX {post : Int32 → SX → Prop} (hok : ∀ k, k < m → pl_ok op de le ri oo os tg fs sc k) (hm : m ≤ 10) (hm0 : 0 < m) (hn : n + 1 ≤ 12) (hpl : ¬ fp = 0 → pl_plan m op de le ri oo so rb be fe)
    (h : ∀ (fa fp fe : Int32) (so rb af aa ab ar be he ad mu wa re : Nat → Int32), pl_plan m op de le ri oo so rb be fe →
      post (nI (n + 1) * nI m) (nI m, fc, fa, fp, fe, op, de, le, ri, oo, (pl_S os tg fs sc m (rg, ce) ((n + 1) * m)).1, (pl_S os tg fs sc m (rg, ce) ((n + 1) * m)).2, so, rb, af, aa, ab, ar, be, he, ad, mu, wa, re)) :
    wpX_run post (nI m, fc, fa, fp, fe, op, de, le, ri, oo, rg, ce, so, rb, af, aa, ab, ar, be, he, ad, mu, wa, re) (nI (n + 1)) := by
  unfold wpX_run
  refine br_f (nI_pos (by omega)) (br_t (nI_le (b := 12) hn (by decide)) (br_f (nI_ne0 (by omega) (by omega)) (br_f (nI_ne0 hm0 (by omega)) ?_)))
  refine pl_plan_w hm (fun i hi => (hok i hi).2.1) hpl fun fa fp fe so rb af aa ab ar be he ad mu wa hp => ?_
  obtain ⟨b, P, rfl, hP1, hP, hbe, hdep⟩ := hp
  refine ⟨m + 1, pl_r33 hok hm hm0 hn hP1 hP hbe hdep (fun re' => h _ _ _ _ _ _ _ _ _ _ _ _ _ _ _ ⟨b, P, rfl, hP1, hP, hbe, hdep⟩) (m + 1) 0 0 (by omega) (by omega) (by omega) (fun i hi => by omega)⟩
end

section
variable {gz : Int32} {os tg fs sc : Nat → Int32}
variable {op de le ri oo rg ce : Nat → Int32} {m n : Nat}

theorem pl_result {post : Int32 → Prop} {o x y old : Int32} (h : post (pl_res o old x y)) : wpY_result post (gz, os, tg, fs, sc, rg, ce) o old x y := by
  unfold pl_res at h
  unfold wpY_result
  by_cases h2 : o = 2
  · rw [if_pos h2] at h; exact br_t h2 h
  · rw [if_neg h2] at h
    refine br_f h2 ?_
    by_cases h3 : o = 3
    · rw [if_pos h3] at h; exact br_t h3 h
    · rw [if_neg h3] at h
      refine br_f h3 ?_
      by_cases h4 : o = 4
      · rw [if_pos h4] at h; exact br_t h4 h
      · rw [if_neg h4] at h
        refine br_f h4 ?_
        by_cases h5 : o = 5
        · rw [if_pos h5] at h
          refine br_t h5 ?_
          by_cases hc : y ≤ x
          · rw [if_pos hc] at h; exact br_t hc h
          · rw [if_neg hc] at h; exact br_f hc h
        · rw [if_neg h5] at h
          refine br_f h5 ?_
          by_cases hc : old = 0
          · rw [if_pos hc] at h; exact br_t hc h
          · rw [if_neg hc] at h; exact br_f hc h

theorem pl_work {post : SY → Prop} {p i : Nat} (hp : p < 10) (hok : pl_ok op de le ri oo os tg fs sc p)
    (h : post (gz, os, tg, fs, sc, (pl_step os tg fs sc p i (rg, ce)).1, (pl_step os tg fs sc p i (rg, ce)).2)) : wpY_work post (gz, os, tg, fs, sc, rg, ce) (nI p) (nI i) := by
  have hin : vp_in (nI p) 10 := vp_in_nI hp (by omega)
  have hin16 : vp_in ((nI i + fs p) &&& 15) 16 := pk_andIn _ 4 (by decide) (by decide)
  unfold pl_step at h
  unfold wpY_work
  dsimp only
  rw [nI_clamp (by omega : p < 2 ^ 31)]
  refine ⟨hin, nm_e ⟨hin, ?_⟩⟩
  obtain ⟨eo, _, hk⟩ := hok
  rw [eo] at h ⊢
  have htg : ∀ d, d < 6 → tg p = nI d → vp_in (tg p) 6 := by
    intro d hd e
    rw [e]
    exact vp_in_nI hd (by omega)
  rcases hk with ⟨o, d, hd, e1, e2, e3⟩ | ⟨o, d, hd, e1, e2, e3, e4⟩ | ⟨o, d, hd, e1, e2, e3⟩ | ⟨ow, d, x, y, hd, hxx, hyy, e1, e2, e3, e4, e5, e6⟩
  · rw [if_pos o] at h
    exact br_t o ⟨hin, hin16, htg d hd e2, nm_e h⟩
  · have n0 : ¬ op p = 0 := by rw [o]; decide
    rw [if_neg n0, if_pos o] at h
    exact br_f n0 ⟨hin, br_t o ⟨hin, htg d hd e2, hin16, nm_e h⟩⟩
  · have n0 : ¬ op p = 0 := by rw [o]; decide
    have n1 : ¬ op p = 1 := by rw [o]; decide
    rw [if_neg n0, if_neg n1, if_pos o] at h
    exact br_f n0 ⟨hin, br_f n1 ⟨hin, br_t o ⟨hin, htg d hd e2, nm_e h⟩⟩⟩
  · have ⟨n0, n1, n6⟩ := pl_wk ow
    rw [if_neg n0, if_neg n1, if_neg n6] at h
    have hf : vp_in (fs p) 6 := by rw [e3]; exact vp_in_nI hxx (by omega)
    have hs : vp_in (sc p) 6 := by rw [e4]; exact vp_in_nI hyy (by omega)
    exact br_f n0 ⟨hin, br_f n1 ⟨hin, br_f n6 ⟨hin, htg d hd e2, hin, hf, hin, hs, pl_result ⟨htg d hd e2, nm_e h⟩⟩⟩⟩

theorem pl_y21 {post : Int32 → SY → Prop} {J : Int32 → Int32 → (Nat → Int32) → (Nat → Int32) → (Nat → Int32) → (Nat → Int32) → (Nat → Int32) → (Nat → Int32) → Prop} {i : Nat}
    {s0 : (Nat → Int32) × (Nat → Int32)} (hok : ∀ k, k < m → pl_ok op de le ri oo os tg fs sc k) (hm : m ≤ 10)
    (h : J (nI (i + 1)) (nI m) os tg fs sc ((pl_S os tg fs sc m s0 ((i + 1) * m)).1) ((pl_S os tg fs sc m s0 ((i + 1) * m)).2)) :
    ∀ fu p, p ≤ m → m - p < fu → wY_run_21 post J (nI n) (nI i) fu (nI p) (nI m) os tg fs sc ((pl_S os tg fs sc m s0 (i * m + p)).1) ((pl_S os tg fs sc m s0 (i * m + p)).2) := by
  intro fu
  induction fu with
  | zero => intro p _ h2; omega
  | succ fu ih =>
    intro p hp hf
    rw [wY_run_21]
    refine pk_le m p (fun hmp => ?_) (fun hpm => ?_)
    · have e : i * m + p = (i + 1) * m := by
        rw [Nat.add_mul, Nat.one_mul]
        omega
      rw [e]
      exact nm_r (nI_1 i) h
    · refine pl_work (by omega) (hok p hpm) (nm_r (nI_1 p) ?_)
      have k := ih (p + 1) (by omega) (by omega)
      rw [← Nat.add_assoc, pl_S_next i hpm] at k
      exact k

theorem pl_y14 {post : Int32 → SY → Prop} {s0 : (Nat → Int32) × (Nat → Int32)} (hok : ∀ k, k < m → pl_ok op de le ri oo os tg fs sc k) (hm : m ≤ 10) (hn : n ≤ 12)
    (h : post (nI n * nI m) (nI m, os, tg, fs, sc, (pl_S os tg fs sc m s0 (n * m)).1, (pl_S os tg fs sc m s0 (n * m)).2)) :
    ∀ fu i, i ≤ n → n - i < fu → wY_run_14 post (nI n) fu (nI i) (nI m) os tg fs sc ((pl_S os tg fs sc m s0 (i * m)).1) ((pl_S os tg fs sc m s0 (i * m)).2) := by
  intro fu
  induction fu with
  | zero => intro i _ h2; omega
  | succ fu ih =>
    intro i hi hf
    rw [wY_run_14]
    refine pk_le n i (fun hni => ?_) (fun hin => ?_)
    · have e : i = n := by omega
      subst e
      exact h
    · refine ⟨m + 1, ?_⟩
      have k := pl_y21 (post := post) (n := n) (i := i) (s0 := s0) hok hm (ih (i + 1) (by omega) (by omega)) (m + 1) 0 (by omega) (by omega)
      rw [Nat.add_zero] at k
      exact k

theorem pl_runY {post : Int32 → SY → Prop} (hok : ∀ k, k < m → pl_ok op de le ri oo os tg fs sc k) (hm : m ≤ 10) (hn : n ≤ 12)
    (h : post (nI n * nI m) (nI m, os, tg, fs, sc, (pl_S os tg fs sc m (rg, ce) (n * m)).1, (pl_S os tg fs sc m (rg, ce) (n * m)).2)) : wpY_run post (nI m, os, tg, fs, sc, rg, ce) (nI n) := by
  unfold wpY_run
  refine br_f (nI_pos (by omega)) (br_t (nI_le (b := 12) hn (by decide)) ⟨n + 1, ?_⟩)
  have k := pl_y14 (s0 := (rg, ce)) hok hm hn h (n + 1) 0 (by omega) (by omega)
  rw [Nat.zero_mul] at k
  exact k
end
end
section
/-! the relation, and its opening -/
def pl_R (fz fp fe : Int32) (op de le ri oo rg ce so rb be : Nat → Int32) (gz : Int32) (os tg fs sc rg' ce' : Nat → Int32) : Prop :=
  ∃ m : Nat, m ≤ 10 ∧ fz = nI m ∧ gz = nI m ∧ rg' = rg ∧ ce' = ce ∧ (∀ i, i < m → pl_ok op de le ri oo os tg fs sc i) ∧ (¬ fp = 0 → pl_plan m op de le ri oo so rb be fe)

def i_Rel (_ : Nat) (u : SX) (v : SY) : Prop := pl_R u.1 u.2.2.2.1 u.2.2.2.2.1 u.2.2.2.2.2.1 u.2.2.2.2.2.2.1 u.2.2.2.2.2.2.2.1 u.2.2.2.2.2.2.2.2.1 u.2.2.2.2.2.2.2.2.2.1 u.2.2.2.2.2.2.2.2.2.2.1 u.2.2.2.2.2.2.2.2.2.2.2.1 u.2.2.2.2.2.2.2.2.2.2.2.2.1 u.2.2.2.2.2.2.2.2.2.2.2.2.2.1 u.2.2.2.2.2.2.2.2.2.2.2.2.2.2.2.2.2.2.1 v.1 v.2.1 v.2.2.1 v.2.2.2.1 v.2.2.2.2.1 v.2.2.2.2.2.1 v.2.2.2.2.2.2

theorem i_up {k : Nat} {u : SX} {v : SY} (h : i_Rel k u v) : i_Rel (k + 5) u v := h

theorem pl_el {Q : SX → SY → Prop} {k : Nat} {u : SX} {v : SY}
    (h : ∀ (m : Nat) (fc fa fp fe : Int32) (op de le ri oo rg ce so rb af aa ab ar be he ad mu wa re os tg fs sc : Nat → Int32), m ≤ 10 → (∀ i, i < m → pl_ok op de le ri oo os tg fs sc i) →
      (¬ fp = 0 → pl_plan m op de le ri oo so rb be fe) → Q (nI m, fc, fa, fp, fe, op, de, le, ri, oo, rg, ce, so, rb, af, aa, ab, ar, be, he, ad, mu, wa, re) (nI m, os, tg, fs, sc, rg, ce)) (I : i_Rel k u v) : Q u v := by
  obtain ⟨fz, fc, fa, fp, fe, op, de, le, ri, oo, rg, ce, so, rb, af, aa, ab, ar, be, he, ad, mu, wa, re⟩ := u
  obtain ⟨gz, os, tg, fs, sc, rg', ce'⟩ := v
  have I' : pl_R fz fp fe op de le ri oo rg ce so rb be gz os tg fs sc rg' ce' := I
  obtain ⟨m, hm, rfl, rfl, rfl, rfl, h5, h6⟩ := I'
  exact h m fc fa fp fe op de le ri oo rg' ce' so rb af aa ab ar be he ad mu wa re os tg fs sc hm h5 h6

section
variable {fz fc fa fp fe : Int32} {op de le ri oo rg ce so rb af aa ab ar be he ad mu wa re : Nat → Int32}
variable {gz : Int32} {os tg fs sc : Nat → Int32}
variable {k m : Nat} {v1 v2 v3 v4 : Int32}

theorem pl_in (hm : m ≤ 10) (hok : ∀ i, i < m → pl_ok op de le ri oo os tg fs sc i) (hpl : ¬ fp = 0 → pl_plan m op de le ri oo so rb be fe) : i_Rel k (nI m, fc, fa, fp, fe, op, de, le, ri, oo, rg, ce, so, rb, af, aa, ab, ar, be, he, ad, mu, wa, re) (nI m, os, tg, fs, sc, rg, ce) :=
  ⟨m, hm, rfl, rfl, rfl, rfl, hok, hpl⟩

theorem pl_bad1 {post : Int32 → Prop} {x : Int32} (h : x < 0 ∨ nI 6 ≤ x) (hp : post 1) : wpX_bad post (fz, fc, fa, fp, fe, op, de, le, ri, oo, rg, ce, so, rb, af, aa, ab, ar, be, he, ad, mu, wa, re) x := by
  unfold wpX_bad
  refine br_c (fun _ => hp) fun z => br_f ?_ hp
  rcases h with h | h
  · exact absurd h z
  · exact Int32.not_lt.mpr h

theorem pl_bad0 {post : Int32 → Prop} {d : Nat} (h : d < 6) (hp : post 0) : wpX_bad post (fz, fc, fa, fp, fe, op, de, le, ri, oo, rg, ce, so, rb, af, aa, ab, ar, be, he, ad, mu, wa, re) (nI d) := by
  unfold wpX_bad
  exact br_f (nI_pos (by omega)) (br_t (nI_lt (b := 6) h (by decide)) hp)

theorem pl_reg0 {post : Int32 → Prop} {x : Int32} (h : x < 0 ∨ nI 6 ≤ x) (hp : post 0) : wpY_isRegister post (gz, os, tg, fs, sc, rg, ce) x := by
  unfold wpY_isRegister
  refine br_c (fun _ => hp) fun z => br_t ?_ hp
  rcases h with h | h
  · exact absurd h z
  · exact Int32.lt_of_lt_of_le (by decide) h

theorem pl_reg1 {post : Int32 → Prop} {d : Nat} (h : d < 6) (hp : post 1) : wpY_isRegister post (gz, os, tg, fs, sc, rg, ce) (nI d) := by
  unfold wpY_isRegister
  exact br_f (nI_pos (by omega)) (br_f (nI_nlt (a := 5) (b := d) (by omega) (by decide)) hp)

theorem pl_bo1 {post : Int32 → Prop} {x : Int32} (h : ¬ (¬ x < -8 ∧ ¬ 8 < x)) (hp : post 1) : wpX_badOffset post (fz, fc, fa, fp, fe, op, de, le, ri, oo, rg, ce, so, rb, af, aa, ab, ar, be, he, ad, mu, wa, re) x := by
  unfold wpX_badOffset
  refine br_c (fun _ => hp) fun z => br_f (fun y => h ⟨z, Int32.not_lt.mpr y⟩) hp

theorem pl_bo0 {post : Int32 → Prop} {x : Int32} (h : ¬ x < -8 ∧ ¬ 8 < x) (hp : post 0) : wpX_badOffset post (fz, fc, fa, fp, fe, op, de, le, ri, oo, rg, ce, so, rb, af, aa, ab, ar, be, he, ad, mu, wa, re) x := by
  unfold wpX_badOffset
  exact br_f h.1 (br_t (Int32.not_lt.mp h.2) hp)

theorem pl_num0 {post : Int32 → Prop} {x : Int32} (h : ¬ (¬ x < -8 ∧ ¬ 8 < x)) (hp : post 0) : wpY_isNumber post (gz, os, tg, fs, sc, rg, ce) x := by
  unfold wpY_isNumber
  refine br_c (fun _ => hp) fun z => br_c (fun _ => hp) fun y => absurd ⟨z, y⟩ h

theorem pl_num1 {post : Int32 → Prop} {x : Int32} (h : ¬ x < -8 ∧ ¬ 8 < x) (hp : post 1) : wpY_isNumber post (gz, os, tg, fs, sc, rg, ce) x := by
  unfold wpY_isNumber
  exact br_f h.1 (br_f h.2 hp)

theorem pl_num_r {x : Int32} (h : ¬ x < -8 ∧ ¬ 8 < x) : -8 ≤ x.toInt ∧ x.toInt ≤ 8 := by
  have e1 : (-8 : Int32).toInt = -8 := by decide
  have e2 : (8 : Int32).toInt = 8 := by decide
  obtain ⟨h1, h2⟩ := h
  rw [Int32.lt_iff_toInt_lt, e1] at h1
  rw [Int32.lt_iff_toInt_lt, e2] at h2
  omega

theorem pl_appX {post : Int32 → SX → Prop} {p0 p1 p2 p3 p4 : Int32} (hm : m ≤ 10) (hf : m = 10 → post (-2) (nI m, fc, fa, fp, fe, op, de, le, ri, oo, rg, ce, so, rb, af, aa, ab, ar, be, he, ad, mu, wa, re))
    (hs : m < 10 → post (nI m) (nI (m + 1), fc, fa, 0, fe, upd op m p0, upd de m p1, upd le m p2, upd ri m p3, upd oo m p4, rg, ce, so, rb, af, aa, ab, ar, be, he, ad, mu, wa, re)) : wpX_append post (nI m, fc, fa, fp, fe, op, de, le, ri, oo, rg, ce, so, rb, af, aa, ab, ar, be, he, ad, mu, wa, re) p0 p1 p2 p3 p4 := by
  have hcl : (nI m).toNatClampNeg = m := nI_clamp (by omega)
  unfold wpX_append
  dsimp only
  rw [hcl]
  refine pk_eq m 10 hf (fun hne => ?_)
  have hin : vp_in (nI m) 10 := vp_in_nI (by omega) (by omega)
  refine ⟨hin, nm_e ⟨hin, nm_e ⟨hin, nm_e ⟨hin, nm_e ⟨hin, nm_e (nm_r (nI_1 m) ?_)⟩⟩⟩⟩⟩
  rw [nI_pred]
  exact hs (by omega)

theorem pl_appY {post : Int32 → SY → Prop} {p0 p1 p2 p3 : Int32} (hm : m ≤ 10) (hf : m = 10 → post (-2) (nI m, os, tg, fs, sc, rg, ce))
    (hs : m < 10 → post (nI m) (nI (m + 1), upd os m p0, upd tg m p1, upd fs m p2, upd sc m p3, rg, ce)) : wpY_append post (nI m, os, tg, fs, sc, rg, ce) p0 p1 p2 p3 := by
  have hcl : (nI m).toNatClampNeg = m := nI_clamp (by omega)
  unfold wpY_append
  dsimp only
  rw [hcl]
  refine pk_eq m 10 hf (fun hne => ?_)
  have hin : vp_in (nI m) 10 := vp_in_nI (by omega) (by omega)
  refine ⟨hin, nm_e ⟨hin, nm_e ⟨hin, nm_e ⟨hin, nm_e (nm_r (nI_1 m) ?_)⟩⟩⟩⟩
  rw [nI_pred]
  exact hs (by omega)
end
end
section
theorem i_vc0 : wpX_init (fun u => wpY_init (fun v => i_Rel 0 u v)) := by
  unfold wpX_init wpY_init
  exact ⟨0, by omega, rfl, rfl, rfl, rfl, fun i hi => absurd hi (Nat.not_lt_zero i), fun z => absurd rfl z⟩

theorem i_vc_load {k : Nat} {u : SX} {v : SY} (I : i_Rel k u v) (hk : k + 5 ≤ 2560) (v1 : Int32) (v2 : Int32) : wpX_load (fun r u' => wpY_load (fun r' v' => r' = r ∧ i_Rel (k + 5) u' v') v v1 v2) u v1 v2 := by
  refine pl_el (Q := fun u v => wpX_load (fun r u' => wpY_load (fun r' v' => r' = r ∧ i_Rel (k + 5) u' v') v v1 v2) u v1 v2) ?_ I
  intro m fc fa fp fe op de le ri oo rg ce so rb af aa ab ar be he ad mu wa re os tg fs sc hm hok hpl
  try dsimp only
  have same : i_Rel (k + 5) (nI m, fc, fa, fp, fe, op, de, le, ri, oo, rg, ce, so, rb, af, aa, ab, ar, be, he, ad, mu, wa, re) (nI m, os, tg, fs, sc, rg, ce) := pl_in hm hok hpl
  have hno : v1 < 0 ∨ nI 6 ≤ v1 ∨ ∃ j : Nat, j < 6 ∧ v1 = nI j := pk_ix v1 (by decide)
  have no1 : (v1 < 0 ∨ nI 6 ≤ v1) → wpX_load (fun r u' => wpY_load (fun r' v' => r' = r ∧ i_Rel (k + 5) u' v') (nI m, os, tg, fs, sc, rg, ce) v1 v2) (nI m, fc, fa, fp, fe, op, de, le, ri, oo, rg, ce, so, rb, af, aa, ab, ar, be, he, ad, mu, wa, re) v1 v2 := by
    intro hb
    unfold wpX_load
    refine pl_bad1 hb (br_f (by decide) ?_)
    unfold wpY_load
    exact pl_reg0 hb (br_t rfl ⟨rfl, same⟩)
  rcases hno with hb | hb | ⟨d, hd, rfl⟩
  · exact no1 (Or.inl hb)
  · exact no1 (Or.inr hb)
  · unfold wpX_load
    refine pl_bad0 hd (br_t rfl ?_)
    by_cases hb : ¬ v2 < -8 ∧ ¬ 8 < v2
    · refine pl_bo0 hb (br_t rfl ?_)
      refine pl_appX hm (fun hf => ?_) (fun hf => ?_)
      · unfold wpY_load
        exact pl_reg1 hd (br_f (by decide) (pl_num1 hb (br_f (by decide) (pl_appY hm (fun _ => ⟨rfl, same⟩) fun z => absurd hf (by omega)))))
      · unfold wpY_load
        refine pl_reg1 hd (br_f (by decide) (pl_num1 hb (br_f (by decide) (pl_appY hm (fun z => absurd z (by omega)) fun _ => ⟨rfl, pl_in hf (pl_ok_up hok ?_) fun z => absurd rfl z⟩))))
        exact ⟨rfl, pl_num_r hb, Or.inl ⟨rfl, d, hd, rfl, rfl, rfl⟩⟩
    · refine pl_bo1 hb (br_f (by decide) ?_)
      unfold wpY_load
      exact pl_reg1 hd (br_f (by decide) (pl_num0 hb (br_t rfl ⟨rfl, same⟩)))

theorem i_vc_store {k : Nat} {u : SX} {v : SY} (I : i_Rel k u v) (hk : k + 5 ≤ 2560) (v1 : Int32) (v2 : Int32) : wpX_store (fun r u' => wpY_store (fun r' v' => r' = r ∧ i_Rel (k + 5) u' v') v v1 v2) u v1 v2 := by
  refine pl_el (Q := fun u v => wpX_store (fun r u' => wpY_store (fun r' v' => r' = r ∧ i_Rel (k + 5) u' v') v v1 v2) u v1 v2) ?_ I
  intro m fc fa fp fe op de le ri oo rg ce so rb af aa ab ar be he ad mu wa re os tg fs sc hm hok hpl
  try dsimp only
  have same : i_Rel (k + 5) (nI m, fc, fa, fp, fe, op, de, le, ri, oo, rg, ce, so, rb, af, aa, ab, ar, be, he, ad, mu, wa, re) (nI m, os, tg, fs, sc, rg, ce) := pl_in hm hok hpl
  have hno : v1 < 0 ∨ nI 6 ≤ v1 ∨ ∃ j : Nat, j < 6 ∧ v1 = nI j := pk_ix v1 (by decide)
  have no1 : (v1 < 0 ∨ nI 6 ≤ v1) → wpX_store (fun r u' => wpY_store (fun r' v' => r' = r ∧ i_Rel (k + 5) u' v') (nI m, os, tg, fs, sc, rg, ce) v1 v2) (nI m, fc, fa, fp, fe, op, de, le, ri, oo, rg, ce, so, rb, af, aa, ab, ar, be, he, ad, mu, wa, re) v1 v2 := by
    intro hb
    unfold wpX_store
    refine pl_bad1 hb (br_f (by decide) ?_)
    unfold wpY_store
    exact pl_reg0 hb (br_t rfl ⟨rfl, same⟩)
  rcases hno with hb | hb | ⟨d, hd, rfl⟩
  · exact no1 (Or.inl hb)
  · exact no1 (Or.inr hb)
  · unfold wpX_store
    refine pl_bad0 hd (br_t rfl ?_)
    by_cases hb : ¬ v2 < -8 ∧ ¬ 8 < v2
    · refine pl_bo0 hb (br_t rfl ?_)
      refine pl_appX hm (fun hf => ?_) (fun hf => ?_)
      · unfold wpY_store
        exact pl_reg1 hd (br_f (by decide) (pl_num1 hb (br_f (by decide) (pl_appY hm (fun _ => ⟨rfl, same⟩) fun z => absurd hf (by omega)))))
      · unfold wpY_store
        refine pl_reg1 hd (br_f (by decide) (pl_num1 hb (br_f (by decide) (pl_appY hm (fun z => absurd z (by omega)) fun _ => ⟨rfl, pl_in hf (pl_ok_up hok ?_) fun z => absurd rfl z⟩))))
        exact ⟨rfl, pl_num_r hb, Or.inr (Or.inl ⟨rfl, d, hd, rfl, rfl, rfl, rfl⟩)⟩
    · refine pl_bo1 hb (br_f (by decide) ?_)
      unfold wpY_store
      exact pl_reg1 hd (br_f (by decide) (pl_num0 hb (br_t rfl ⟨rfl, same⟩)))

theorem i_vc_constant {k : Nat} {u : SX} {v : SY} (I : i_Rel k u v) (hk : k + 5 ≤ 2560) (v1 : Int32) (v2 : Int32) : wpX_constant (fun r u' => wpY_constant (fun r' v' => r' = r ∧ i_Rel (k + 5) u' v') v v1 v2) u v1 v2 := by
  refine pl_el (Q := fun u v => wpX_constant (fun r u' => wpY_constant (fun r' v' => r' = r ∧ i_Rel (k + 5) u' v') v v1 v2) u v1 v2) ?_ I
  intro m fc fa fp fe op de le ri oo rg ce so rb af aa ab ar be he ad mu wa re os tg fs sc hm hok hpl
  try dsimp only
  have same : i_Rel (k + 5) (nI m, fc, fa, fp, fe, op, de, le, ri, oo, rg, ce, so, rb, af, aa, ab, ar, be, he, ad, mu, wa, re) (nI m, os, tg, fs, sc, rg, ce) := pl_in hm hok hpl
  have hno : v1 < 0 ∨ nI 6 ≤ v1 ∨ ∃ j : Nat, j < 6 ∧ v1 = nI j := pk_ix v1 (by decide)
  have no1 : (v1 < 0 ∨ nI 6 ≤ v1) → wpX_constant (fun r u' => wpY_constant (fun r' v' => r' = r ∧ i_Rel (k + 5) u' v') (nI m, os, tg, fs, sc, rg, ce) v1 v2) (nI m, fc, fa, fp, fe, op, de, le, ri, oo, rg, ce, so, rb, af, aa, ab, ar, be, he, ad, mu, wa, re) v1 v2 := by
    intro hb
    unfold wpX_constant
    refine pl_bad1 hb (br_f (by decide) ?_)
    unfold wpY_constant
    exact pl_reg0 hb (br_t rfl ⟨rfl, same⟩)
  rcases hno with hb | hb | ⟨d, hd, rfl⟩
  · exact no1 (Or.inl hb)
  · exact no1 (Or.inr hb)
  · unfold wpX_constant
    refine pl_bad0 hd (br_t rfl ?_)
    by_cases hb : ¬ v2 < -8 ∧ ¬ 8 < v2
    · refine pl_bo0 hb (br_t rfl ?_)
      refine pl_appX hm (fun hf => ?_) (fun hf => ?_)
      · unfold wpY_constant
        exact pl_reg1 hd (br_f (by decide) (pl_num1 hb (br_f (by decide) (pl_appY hm (fun _ => ⟨rfl, same⟩) fun z => absurd hf (by omega)))))
      · unfold wpY_constant
        refine pl_reg1 hd (br_f (by decide) (pl_num1 hb (br_f (by decide) (pl_appY hm (fun z => absurd z (by omega)) fun _ => ⟨rfl, pl_in hf (pl_ok_up hok ?_) fun z => absurd rfl z⟩))))
        exact ⟨rfl, pl_num_r hb, Or.inr (Or.inr (Or.inl ⟨rfl, d, hd, rfl, rfl, rfl⟩))⟩
    · refine pl_bo1 hb (br_f (by decide) ?_)
      unfold wpY_constant
      exact pl_reg1 hd (br_f (by decide) (pl_num0 hb (br_t rfl ⟨rfl, same⟩)))

theorem i_vc_unappend {k : Nat} {u : SX} {v : SY} (I : i_Rel k u v) (hk : k + 5 ≤ 2560) : wpX_unappend (fun r u' => wpY_unappend (fun r' v' => r' = r ∧ i_Rel (k + 5) u' v') v) u := by
  refine pl_el (Q := fun u v => wpX_unappend (fun r u' => wpY_unappend (fun r' v' => r' = r ∧ i_Rel (k + 5) u' v') v) u) ?_ I
  intro m fc fa fp fe op de le ri oo rg ce so rb af aa ab ar be he ad mu wa re os tg fs sc hm hok hpl
  try dsimp only
  have same : i_Rel (k + 5) (nI m, fc, fa, fp, fe, op, de, le, ri, oo, rg, ce, so, rb, af, aa, ab, ar, be, he, ad, mu, wa, re) (nI m, os, tg, fs, sc, rg, ce) := pl_in hm hok hpl
  unfold wpX_unappend
  refine pk_eq m 0 (fun hz => ?_) (fun hz => ?_)
  · unfold wpY_unappend
    exact br_t (by rw [hz]; rfl) ⟨rfl, same⟩
  · obtain ⟨m', rfl⟩ : ∃ m', m = m' + 1 := ⟨m - 1, by omega⟩
    refine nm_r (nI_pred m') ?_
    unfold wpY_unappend
    refine br_f (nI_ne0 (by omega) (by omega)) (nm_r (nI_pred m') ⟨rfl, pl_in (by omega) (fun i hi => hok i (by omega)) fun z => absurd rfl z⟩)

theorem i_vc_clear {k : Nat} {u : SX} {v : SY} (I : i_Rel k u v) (hk : k + 5 ≤ 2560) : wpX_clear (fun u' => wpY_clear (fun v' => i_Rel (k + 5) u' v') v) u := by
  refine pl_el (Q := fun u v => wpX_clear (fun u' => wpY_clear (fun v' => i_Rel (k + 5) u' v') v) u) ?_ I
  intro m fc fa fp fe op de le ri oo rg ce so rb af aa ab ar be he ad mu wa re os tg fs sc hm hok hpl
  try dsimp only
  unfold wpX_clear wpY_clear
  exact pl_in (m := 0) (by omega) (fun i hi => absurd hi (Nat.not_lt_zero i)) fun z => absurd rfl z

theorem i_vc_size {k : Nat} {u : SX} {v : SY} (I : i_Rel k u v) (hk : k + 5 ≤ 2560) : wpX_size (fun r => wpY_size (fun r' => r' = r ∧ i_Rel (k + 5) u v) v) u := by
  refine pl_el (Q := fun u v => wpX_size (fun r => wpY_size (fun r' => r' = r ∧ i_Rel (k + 5) u v) v) u) ?_ I
  intro m fc fa fp fe op de le ri oo rg ce so rb af aa ab ar be he ad mu wa re os tg fs sc hm hok hpl
  try dsimp only
  unfold wpX_size wpY_size
  exact ⟨rfl, pl_in hm hok hpl⟩

theorem i_vc_set {k : Nat} {u : SX} {v : SY} (I : i_Rel k u v) (hk : k + 5 ≤ 2560) (v1 : Int32) (v2 : Int32) : wpX_set (fun r u' => wpY_set (fun r' v' => r' = r ∧ i_Rel (k + 5) u' v') v v1 v2) u v1 v2 := by
  refine pl_el (Q := fun u v => wpX_set (fun r u' => wpY_set (fun r' v' => r' = r ∧ i_Rel (k + 5) u' v') v v1 v2) u v1 v2) ?_ I
  intro m fc fa fp fe op de le ri oo rg ce so rb af aa ab ar be he ad mu wa re os tg fs sc hm hok hpl
  try dsimp only
  have same : i_Rel (k + 5) (nI m, fc, fa, fp, fe, op, de, le, ri, oo, rg, ce, so, rb, af, aa, ab, ar, be, he, ad, mu, wa, re) (nI m, os, tg, fs, sc, rg, ce) := pl_in hm hok hpl
  have no1 : (v1 < 0 ∨ nI 6 ≤ v1) → wpX_set (fun r u' => wpY_set (fun r' v' => r' = r ∧ i_Rel (k + 5) u' v') (nI m, os, tg, fs, sc, rg, ce) v1 v2) (nI m, fc, fa, fp, fe, op, de, le, ri, oo, rg, ce, so, rb, af, aa, ab, ar, be, he, ad, mu, wa, re) v1 v2 := by
    intro hb
    unfold wpX_set
    refine pl_bad1 hb (br_f (by decide) ?_)
    unfold wpY_set
    exact pl_reg0 hb (br_t rfl ⟨rfl, same⟩)
  rcases pk_ix v1 (n := 6) (by decide) with hb | hb | ⟨d, hd, rfl⟩
  · exact no1 (Or.inl hb)
  · exact no1 (Or.inr hb)
  · have hin : vp_in (nI d) 6 := vp_in_nI hd (by omega)
    unfold wpX_set
    refine pl_bad0 hd (br_t rfl ⟨hin, nm_e ?_⟩)
    unfold wpY_set
    exact pl_reg1 hd (br_f (by decide) ⟨hin, nm_e ⟨rfl, pl_in hm hok hpl⟩⟩)

theorem i_vc_get {k : Nat} {u : SX} {v : SY} (I : i_Rel k u v) (hk : k + 5 ≤ 2560) (v1 : Int32) : wpX_get (fun r => wpY_get (fun r' => r' = r ∧ i_Rel (k + 5) u v) v v1) u v1 := by
  refine pl_el (Q := fun u v => wpX_get (fun r => wpY_get (fun r' => r' = r ∧ i_Rel (k + 5) u v) v v1) u v1) ?_ I
  intro m fc fa fp fe op de le ri oo rg ce so rb af aa ab ar be he ad mu wa re os tg fs sc hm hok hpl
  try dsimp only
  have same : i_Rel (k + 5) (nI m, fc, fa, fp, fe, op, de, le, ri, oo, rg, ce, so, rb, af, aa, ab, ar, be, he, ad, mu, wa, re) (nI m, os, tg, fs, sc, rg, ce) := pl_in hm hok hpl
  have no1 : (v1 < 0 ∨ nI 6 ≤ v1) → wpX_get (fun r => wpY_get (fun r' => r' = r ∧ i_Rel (k + 5) (nI m, fc, fa, fp, fe, op, de, le, ri, oo, rg, ce, so, rb, af, aa, ab, ar, be, he, ad, mu, wa, re) (nI m, os, tg, fs, sc, rg, ce)) (nI m, os, tg, fs, sc, rg, ce) v1) (nI m, fc, fa, fp, fe, op, de, le, ri, oo, rg, ce, so, rb, af, aa, ab, ar, be, he, ad, mu, wa, re) v1 := by
    intro hb
    unfold wpX_get
    refine pl_bad1 hb (br_f (by decide) ?_)
    unfold wpY_get
    exact pl_reg0 hb (br_t rfl ⟨rfl, same⟩)
  rcases pk_ix v1 (n := 6) (by decide) with hb | hb | ⟨d, hd, rfl⟩
  · exact no1 (Or.inl hb)
  · exact no1 (Or.inr hb)
  · have hin : vp_in (nI d) 6 := vp_in_nI hd (by omega)
    unfold wpX_get
    refine pl_bad0 hd (br_t rfl ⟨hin, ?_⟩)
    unfold wpY_get
    exact pl_reg1 hd (br_f (by decide) ⟨hin, ⟨rfl, same⟩⟩)

theorem i_vc_put {k : Nat} {u : SX} {v : SY} (I : i_Rel k u v) (hk : k + 5 ≤ 2560) (v1 : Int32) (v2 : Int32) : wpX_put (fun r u' => wpY_put (fun r' v' => r' = r ∧ i_Rel (k + 5) u' v') v v1 v2) u v1 v2 := by
  refine pl_el (Q := fun u v => wpX_put (fun r u' => wpY_put (fun r' v' => r' = r ∧ i_Rel (k + 5) u' v') v v1 v2) u v1 v2) ?_ I
  intro m fc fa fp fe op de le ri oo rg ce so rb af aa ab ar be he ad mu wa re os tg fs sc hm hok hpl
  try dsimp only
  have same : i_Rel (k + 5) (nI m, fc, fa, fp, fe, op, de, le, ri, oo, rg, ce, so, rb, af, aa, ab, ar, be, he, ad, mu, wa, re) (nI m, os, tg, fs, sc, rg, ce) := pl_in hm hok hpl
  unfold wpX_put
  refine br_c (fun h0 => ?_) fun h0 => br_c (fun h15 => ?_) fun h15 => ?_
  · unfold wpY_put
    exact br_t h0 ⟨rfl, same⟩
  · obtain ⟨c, hc, rfl⟩ := nI_of2 (M := 15) (n := 15) (by decide) h0 h15
    have hin : vp_in (nI c) 16 := vp_in_nI (by omega) (by omega)
    refine ⟨hin, nm_e ?_⟩
    unfold wpY_put
    exact br_f h0 (br_t h15 ⟨hin, nm_e ⟨rfl, pl_in hm hok hpl⟩⟩)
  · unfold wpY_put
    exact br_f h0 (br_f h15 ⟨rfl, same⟩)

theorem i_vc_cell {k : Nat} {u : SX} {v : SY} (I : i_Rel k u v) (hk : k + 5 ≤ 2560) (v1 : Int32) : wpX_cell (fun r => wpY_cell (fun r' => r' = r ∧ i_Rel (k + 5) u v) v v1) u v1 := by
  refine pl_el (Q := fun u v => wpX_cell (fun r => wpY_cell (fun r' => r' = r ∧ i_Rel (k + 5) u v) v v1) u v1) ?_ I
  intro m fc fa fp fe op de le ri oo rg ce so rb af aa ab ar be he ad mu wa re os tg fs sc hm hok hpl
  try dsimp only
  have same : i_Rel (k + 5) (nI m, fc, fa, fp, fe, op, de, le, ri, oo, rg, ce, so, rb, af, aa, ab, ar, be, he, ad, mu, wa, re) (nI m, os, tg, fs, sc, rg, ce) := pl_in hm hok hpl
  unfold wpX_cell
  refine br_c (fun h0 => ?_) fun h0 => br_c (fun h15 => ?_) fun h15 => ?_
  · unfold wpY_cell
    exact br_t h0 ⟨rfl, same⟩
  · obtain ⟨c, hc, rfl⟩ := nI_of2 (M := 15) (n := 15) (by decide) h0 h15
    have hin : vp_in (nI c) 16 := vp_in_nI (by omega) (by omega)
    refine ⟨hin, ?_⟩
    unfold wpY_cell
    exact br_f h0 (br_t h15 ⟨hin, ⟨rfl, same⟩⟩)
  · unfold wpY_cell
    exact br_f h0 (br_f h15 ⟨rfl, same⟩)

theorem i_vc_mode {k : Nat} {u : SX} {v : SY} (I : i_Rel k u v) (hk : k + 5 ≤ 2560) (v1 : Int32) : wpX_mode (fun r u' => wpY_mode (fun r' => r' = r ∧ i_Rel (k + 5) u' v) v v1) u v1 := by
  refine pl_el (Q := fun u v => wpX_mode (fun r u' => wpY_mode (fun r' => r' = r ∧ i_Rel (k + 5) u' v) v v1) u v1) ?_ I
  intro m fc fa fp fe op de le ri oo rg ce so rb af aa ab ar be he ad mu wa re os tg fs sc hm hok hpl
  try dsimp only
  have same : i_Rel (k + 5) (nI m, fc, fa, fp, fe, op, de, le, ri, oo, rg, ce, so, rb, af, aa, ab, ar, be, he, ad, mu, wa, re) (nI m, os, tg, fs, sc, rg, ce) := pl_in hm hok hpl
  unfold wpX_mode
  refine br_c (fun h0 => ?_) fun h0 => br_c (fun h15 => ?_) fun h15 => ?_
  · unfold wpY_mode
    exact br_t h0 ⟨rfl, same⟩
  · unfold wpY_mode
    exact br_f h0 (br_t h15 ⟨rfl, pl_in hm hok fun z => absurd rfl z⟩)
  · unfold wpY_mode
    exact br_f h0 (br_f h15 ⟨rfl, same⟩)
end
section
theorem pl_ap1 {x : Int32} (h : x = 2 ∨ x = 3 ∨ x = 4 ∨ x = 5 ∨ x = 7) : ¬ x < 2 ∧ ¬ 7 < x ∧ ¬ x = 6 := by
  rcases h with rfl | rfl | rfl | rfl | rfl <;> decide

theorem pl_ap2 {x : Int32} (h1 : ¬ x < 2) (h2 : ¬ 7 < x) (h3 : ¬ x = 6) : x = 2 ∨ x = 3 ∨ x = 4 ∨ x = 5 ∨ x = 7 := by
  have h0 : ¬ x < 0 := fun z => h1 (Int32.lt_trans z (by decide))
  obtain ⟨j, hj, rfl⟩ := nI_of2 (M := 7) (n := 7) (by decide) h0 (Int32.not_lt.mp h2)
  have hj' : j = 0 ∨ j = 1 ∨ j = 2 ∨ j = 3 ∨ j = 4 ∨ j = 5 ∨ j = 6 ∨ j = 7 := by omega
  rcases hj' with rfl | rfl | rfl | rfl | rfl | rfl | rfl | rfl
  · exact absurd (by decide) h1
  · exact absurd (by decide) h1
  · exact Or.inl rfl
  · exact Or.inr (Or.inl rfl)
  · exact Or.inr (Or.inr (Or.inl rfl))
  · exact Or.inr (Or.inr (Or.inr (Or.inl rfl)))
  · exact absurd rfl h3
  · exact Or.inr (Or.inr (Or.inr (Or.inr rfl)))

section
variable {fz fc fa fp fe : Int32} {op de le ri oo rg ce so rb af aa ab ar be he ad mu wa re : Nat → Int32}
variable {gz : Int32} {os tg fs sc : Nat → Int32}
variable {k m : Nat} {v1 v2 v3 v4 : Int32}

theorem pl_badc {post : Int32 → Prop} {x : Int32} (h1 : x < 0 ∨ nI 6 ≤ x → post 1) (h0 : ∀ d, d < 6 → x = nI d → post 0) : wpX_bad post (fz, fc, fa, fp, fe, op, de, le, ri, oo, rg, ce, so, rb, af, aa, ab, ar, be, he, ad, mu, wa, re) x := by
  rcases pk_ix x (n := 6) (by decide) with hb | hb | ⟨d, hd, rfl⟩
  · exact pl_bad1 (Or.inl hb) (h1 (Or.inl hb))
  · exact pl_bad1 (Or.inr hb) (h1 (Or.inr hb))
  · exact pl_bad0 hd (h0 d hd rfl)

theorem pl_apY {Q : Int32 → SY → Prop} (h : v1 = 2 ∨ v1 = 3 ∨ v1 = 4 ∨ v1 = 5 ∨ v1 = 7) (hQ : wY_apply_21 Q v1 v2 v3 v4 1 gz os tg fs sc rg ce) : wpY_apply Q (gz, os, tg, fs, sc, rg, ce) v1 v2 v3 v4 := by
  unfold wpY_apply
  refine br_f (pl_ap1 h).1 (br_c (fun _ => hQ) fun c => ?_)
  unfold wY_apply_10
  refine br_t ?_ hQ
  rcases h with rfl | rfl | rfl | rfl | rfl
  · exact absurd (by decide) c
  · exact absurd (by decide) c
  · exact absurd (by decide) c
  · exact absurd (by decide) c
  · rfl

theorem pl_apN {Q : Int32 → SY → Prop} (h : ¬ (v1 = 2 ∨ v1 = 3 ∨ v1 = 4 ∨ v1 = 5 ∨ v1 = 7)) (hQ : Q (-1) (gz, os, tg, fs, sc, rg, ce)) : wpY_apply Q (gz, os, tg, fs, sc, rg, ce) v1 v2 v3 v4 := by
  have h10 : wY_apply_10 Q v1 v2 v3 v4 gz os tg fs sc rg ce := by
    unfold wY_apply_10
    refine br_f (fun z => h (Or.inr (Or.inr (Or.inr (Or.inr z))))) ?_
    unfold wY_apply_21
    exact br_t rfl hQ
  unfold wpY_apply
  refine br_c (fun _ => h10) fun c1 => br_c (fun c5 => ?_) fun _ => h10
  have c7 : ¬ 7 < v1 := fun z => absurd (Int32.lt_of_lt_of_le z c5) (by decide)
  have c6 : ¬ v1 = 6 := fun z => by rw [z] at c5; exact absurd c5 (by decide)
  exact absurd (pl_ap2 c1 c7 c6) h

def pl_rmp (a b : Int32) (ce : Nat → Int32) : Nat → Nat → Int32
  | 0 => ce
  | k + 1 => upd (pl_rmp a b ce k) k (a + b * nI k)

theorem pl_rampX {post : Int32 → SX → Prop} {a b : Int32} (h : post 0 (fz, fc, fa, fp, fe, op, de, le, ri, oo, rg, pl_rmp a b ce 16, so, rb, af, aa, ab, ar, be, he, ad, mu, wa, re)) :
    ∀ fu k, k ≤ 16 → 16 - k < fu → wX_ramp_2 post a b fz fc fa fp fe fu (nI k) op de le ri oo rg (pl_rmp a b ce k) so rb af aa ab ar be he ad mu wa re := by
  intro fu
  induction fu with
  | zero => intro k _ h2; omega
  | succ fu ih =>
    intro k hk hf
    rw [wX_ramp_2]
    refine pk_le 16 k (fun h1 => ?_) (fun h1 => ?_)
    · have e : k = 16 := by omega
      subst e
      exact h
    · rw [nI_clamp (by omega : k < 2 ^ 31)]
      exact ⟨vp_in_nI (by omega) (by omega), nm_e (nm_r (nI_1 k) (ih (k + 1) (by omega) (by omega)))⟩

theorem pl_rampY {post : Int32 → SY → Prop} {a b : Int32} (h : post 0 (gz, os, tg, fs, sc, rg, pl_rmp a b ce 16)) :
    ∀ fu k, k ≤ 16 → 16 - k < fu → wY_ramp_2 post a b gz fu (nI k) os tg fs sc rg (pl_rmp a b ce k) := by
  intro fu
  induction fu with
  | zero => intro k _ h2; omega
  | succ fu ih =>
    intro k hk hf
    rw [wY_ramp_2]
    refine pk_le 16 k (fun h1 => ?_) (fun h1 => ?_)
    · have e : k = 16 := by omega
      subst e
      exact h
    · rw [nI_clamp (by omega : k < 2 ^ 31)]
      exact ⟨vp_in_nI (by omega) (by omega), nm_e (nm_r (nI_1 k) (ih (k + 1) (by omega) (by omega)))⟩

/-- one sum of products on both sides -/
def pl_dg (c : Nat) (f : Nat → Int32) (s : Int32) : Nat → Int32
  | 0 => s
  | k + 1 => pl_dg c f s k + (nI k + nI c) * f k

theorem pl_dgX2 {post : Int32 → Prop} {s : Int32} (h : post (pl_dg 7 ce s 16)) : ∀ fu k, k ≤ 16 → 16 - k < fu → wX_digest_31 post fz fc fa fp fe op de le ri oo rg ce so rb af aa ab ar be he ad mu wa re fu (pl_dg 7 ce s k) (nI k) := by
  intro fu
  induction fu with
  | zero => intro k _ h2; omega
  | succ fu ih =>
    intro k hk hf
    rw [wX_digest_31]
    refine pk_le 16 k (fun h1 => ?_) (fun h1 => ?_)
    · have e : k = 16 := by omega
      subst e
      exact h
    · rw [nI_clamp (by omega : k < 2 ^ 31)]
      exact ⟨vp_in_nI (by omega) (by omega), nm_e (nm_r (nI_1 k) (ih (k + 1) (by omega) (by omega)))⟩

theorem pl_dgX1 {post : Int32 → Prop} (h : post (pl_dg 7 ce (pl_dg 1 rg 0 6) 16)) : ∀ fu k, k ≤ 6 → 6 - k < fu → wX_digest_4 post fz fc fa fp fe op de le ri oo rg ce so rb af aa ab ar be he ad mu wa re fu (pl_dg 1 rg 0 k) (nI k) := by
  intro fu
  induction fu with
  | zero => intro k _ h2; omega
  | succ fu ih =>
    intro k hk hf
    rw [wX_digest_4]
    refine pk_le 6 k (fun h1 => ?_) (fun h1 => ?_)
    · have e : k = 6 := by omega
      subst e
      exact ⟨17, pl_dgX2 h 17 0 (by omega) (by omega)⟩
    · rw [nI_clamp (by omega : k < 2 ^ 31)]
      exact ⟨vp_in_nI (by omega) (by omega), nm_e (nm_r (nI_1 k) (ih (k + 1) (by omega) (by omega)))⟩

theorem pl_dgY2 {post : Int32 → Prop} {s : Int32} (h : post (pl_dg 7 ce s 16)) : ∀ fu k, k ≤ 16 → 16 - k < fu → wY_digest_31 post gz os tg fs sc rg ce fu (pl_dg 7 ce s k) (nI k) := by
  intro fu
  induction fu with
  | zero => intro k _ h2; omega
  | succ fu ih =>
    intro k hk hf
    rw [wY_digest_31]
    refine pk_le 16 k (fun h1 => ?_) (fun h1 => ?_)
    · have e : k = 16 := by omega
      subst e
      exact h
    · rw [nI_clamp (by omega : k < 2 ^ 31)]
      exact ⟨vp_in_nI (by omega) (by omega), nm_e (nm_r (nI_1 k) (ih (k + 1) (by omega) (by omega)))⟩

theorem pl_dgY1 {post : Int32 → Prop} (h : post (pl_dg 7 ce (pl_dg 1 rg 0 6) 16)) : ∀ fu k, k ≤ 6 → 6 - k < fu → wY_digest_4 post gz os tg fs sc rg ce fu (pl_dg 1 rg 0 k) (nI k) := by
  intro fu
  induction fu with
  | zero => intro k _ h2; omega
  | succ fu ih =>
    intro k hk hf
    rw [wY_digest_4]
    refine pk_le 6 k (fun h1 => ?_) (fun h1 => ?_)
    · have e : k = 6 := by omega
      subst e
      exact ⟨17, pl_dgY2 h 17 0 (by omega) (by omega)⟩
    · rw [nI_clamp (by omega : k < 2 ^ 31)]
      exact ⟨vp_in_nI (by omega) (by omega), nm_e (nm_r (nI_1 k) (ih (k + 1) (by omega) (by omega)))⟩
end

theorem i_vc_apply {k : Nat} {u : SX} {v : SY} (I : i_Rel k u v) (hk : k + 5 ≤ 2560) (v1 : Int32) (v2 : Int32) (v3 : Int32) (v4 : Int32) : wpX_apply (fun r u' => wpY_apply (fun r' v' => r' = r ∧ i_Rel (k + 5) u' v') v v1 v2 v3 v4) u v1 v2 v3 v4 := by
  refine pl_el (Q := fun u v => wpX_apply (fun r u' => wpY_apply (fun r' v' => r' = r ∧ i_Rel (k + 5) u' v') v v1 v2 v3 v4) u v1 v2 v3 v4) ?_ I
  intro m fc fa fp fe op de le ri oo rg ce so rb af aa ab ar be he ad mu wa re os tg fs sc hm hok hpl
  try dsimp only
  have same : i_Rel (k + 5) (nI m, fc, fa, fp, fe, op, de, le, ri, oo, rg, ce, so, rb, af, aa, ab, ar, be, he, ad, mu, wa, re) (nI m, os, tg, fs, sc, rg, ce) := pl_in hm hok hpl
  have hcase : (v1 = 2 ∨ v1 = 3 ∨ v1 = 4 ∨ v1 = 5 ∨ v1 = 7) ∨ ¬ (v1 = 2 ∨ v1 = 3 ∨ v1 = 4 ∨ v1 = 5 ∨ v1 = 7) := Classical.em _
  rcases hcase with hw | hw
  · have ⟨c1, c2, c3⟩ := pl_ap1 hw
    have yes : ∀ (Q : Int32 → SY → Prop), wY_apply_21 Q v1 v2 v3 v4 1 (nI m) os tg fs sc rg ce → wpY_apply Q (nI m, os, tg, fs, sc, rg, ce) v1 v2 v3 v4 := fun Q hQ => pl_apY hw hQ
    unfold wpX_apply
    refine br_f c1 (br_f c2 (br_f c3 ?_))
    have bad2 : ∀ post : Int32 → Prop, (v2 < 0 ∨ nI 6 ≤ v2 → post 1) → (∀ d, d < 6 → v2 = nI d → post 0) → wpX_bad post (nI m, fc, fa, fp, fe, op, de, le, ri, oo, rg, ce, so, rb, af, aa, ab, ar, be, he, ad, mu, wa, re) v2 := fun post => pl_badc
    refine pl_badc (fun b2 => br_f (by decide) (yes _ ?_)) fun d hd e2 => br_t rfl ?_
    · unfold wY_apply_21
      exact br_f (by decide) (pl_reg0 b2 (br_t rfl ⟨rfl, same⟩))
    subst e2
    refine pl_badc (fun b3 => br_f (by decide) (yes _ ?_)) fun a ha e3 => br_t rfl ?_
    · unfold wY_apply_21
      exact br_f (by decide) (pl_reg1 hd (br_f (by decide) (pl_reg0 b3 (br_t rfl ⟨rfl, same⟩))))
    subst e3
    refine pl_badc (fun b4 => br_f (by decide) (yes _ ?_)) fun b hb e4 => br_t rfl ?_
    · unfold wY_apply_21
      exact br_f (by decide) (pl_reg1 hd (br_f (by decide) (pl_reg1 ha (br_f (by decide) (pl_reg0 b4 (br_t rfl ⟨rfl, same⟩))))))
    subst e4
    refine pl_appX hm (fun hf => yes _ ?_) (fun hf => yes _ ?_)
    · unfold wY_apply_21
      exact br_f (by decide) (pl_reg1 hd (br_f (by decide) (pl_reg1 ha (br_f (by decide) (pl_reg1 hb (br_f (by decide) (pl_appY hm (fun _ => ⟨rfl, same⟩) fun z => absurd hf (by omega))))))))
    · unfold wY_apply_21
      refine br_f (by decide) (pl_reg1 hd (br_f (by decide) (pl_reg1 ha (br_f (by decide) (pl_reg1 hb (br_f (by decide) (pl_appY hm (fun z => absurd z (by omega)) fun _ => ⟨rfl, pl_in hf (pl_ok_up hok ?_) fun z => absurd rfl z⟩)))))))
      exact ⟨rfl, by decide, Or.inr (Or.inr (Or.inr ⟨hw, d, a, b, hd, ha, hb, rfl, rfl, rfl, rfl, rfl, rfl⟩))⟩
  · have no : ∀ (Q : Int32 → SY → Prop), Q (-1) (nI m, os, tg, fs, sc, rg, ce) → wpY_apply Q (nI m, os, tg, fs, sc, rg, ce) v1 v2 v3 v4 := fun Q hQ => pl_apN hw hQ
    have fin := no (fun r' v' => r' = -1 ∧ i_Rel (k + 5) (nI m, fc, fa, fp, fe, op, de, le, ri, oo, rg, ce, so, rb, af, aa, ab, ar, be, he, ad, mu, wa, re) v') ⟨rfl, same⟩
    unfold wpX_apply
    refine br_c (fun _ => fin) fun c1 => br_c (fun _ => fin) fun c2 => br_c (fun _ => fin) fun c3 => absurd (pl_ap2 c1 c2 c3) hw

theorem i_vc_ramp {k : Nat} {u : SX} {v : SY} (I : i_Rel k u v) (hk : k + 5 ≤ 2560) (v1 : Int32) (v2 : Int32) : wpX_ramp (fun r u' => wpY_ramp (fun r' v' => r' = r ∧ i_Rel (k + 5) u' v') v v1 v2) u v1 v2 := by
  refine pl_el (Q := fun u v => wpX_ramp (fun r u' => wpY_ramp (fun r' v' => r' = r ∧ i_Rel (k + 5) u' v') v v1 v2) u v1 v2) ?_ I
  intro m fc fa fp fe op de le ri oo rg ce so rb af aa ab ar be he ad mu wa re os tg fs sc hm hok hpl
  try dsimp only
  unfold wpX_ramp
  refine ⟨17, pl_rampX ?_ 17 0 (by omega) (by omega)⟩
  unfold wpY_ramp
  exact ⟨17, pl_rampY ⟨rfl, pl_in hm hok hpl⟩ 17 0 (by omega) (by omega)⟩

theorem i_vc_digest {k : Nat} {u : SX} {v : SY} (I : i_Rel k u v) (hk : k + 5 ≤ 2560) : wpX_digest (fun r => wpY_digest (fun r' => r' = r ∧ i_Rel (k + 5) u v) v) u := by
  refine pl_el (Q := fun u v => wpX_digest (fun r => wpY_digest (fun r' => r' = r ∧ i_Rel (k + 5) u v) v) u) ?_ I
  intro m fc fa fp fe op de le ri oo rg ce so rb af aa ab ar be he ad mu wa re os tg fs sc hm hok hpl
  try dsimp only
  unfold wpX_digest
  refine ⟨7, pl_dgX1 ?_ 7 0 (by omega) (by omega)⟩
  unfold wpY_digest
  exact ⟨7, pl_dgY1 ⟨rfl, pl_in hm hok hpl⟩ 7 0 (by omega) (by omega)⟩

theorem i_vc_run {k : Nat} {u : SX} {v : SY} (I : i_Rel k u v) (hk : k + 5 ≤ 2560) (v1 : Int32) : wpX_run (fun r u' => wpY_run (fun r' v' => r' = r ∧ i_Rel (k + 5) u' v') v v1) u v1 := by
  refine pl_el (Q := fun u v => wpX_run (fun r u' => wpY_run (fun r' v' => r' = r ∧ i_Rel (k + 5) u' v') v v1) u v1) ?_ I
  intro m fc fa fp fe op de le ri oo rg ce so rb af aa ab ar be he ad mu wa re os tg fs sc hm hok hpl
  try dsimp only
  have same : i_Rel (k + 5) (nI m, fc, fa, fp, fe, op, de, le, ri, oo, rg, ce, so, rb, af, aa, ab, ar, be, he, ad, mu, wa, re) (nI m, os, tg, fs, sc, rg, ce) := pl_in hm hok hpl
  by_cases h0 : v1 < 0
  · unfold wpX_run
    refine br_t h0 ?_
    unfold wpY_run
    exact br_t h0 ⟨rfl, same⟩
  · by_cases h12 : v1 ≤ 12
    · obtain ⟨n, hn, rfl⟩ := nI_of2 (M := 12) (n := 12) (by decide) h0 h12
      cases n with
      | zero =>
        unfold wpX_run
        refine br_f h0 (br_t h12 (br_t rfl ?_))
        refine pl_runY hok hm (by omega) ⟨?_, ?_⟩
        · rw [pk_mul, Nat.zero_mul]
          rfl
        · rw [Nat.zero_mul]
          exact same
      | succ n =>
        by_cases hm0 : m = 0
        · subst hm0
          unfold wpX_run
          refine br_f h0 (br_t h12 (br_f (nI_ne0 (by omega) (by omega)) (br_t rfl ?_)))
          refine pl_runY hok hm (by omega) ⟨?_, ?_⟩
          · rw [pk_mul, Nat.mul_zero]
            rfl
          · rw [Nat.mul_zero]
            exact same
        · refine pl_runX hok hm (by omega) (by omega) hpl fun fa fp fe so rb af aa ab ar be he ad mu wa re hp => ?_
          exact pl_runY hok hm (by omega) ⟨rfl, pl_in hm hok fun _ => hp⟩
    · unfold wpX_run
      refine br_f h0 (br_f h12 ?_)
      unfold wpY_run
      exact br_f h0 (br_f h12 ⟨rfl, same⟩)
end
