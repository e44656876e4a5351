section
/-! rows of kit/rows (starting text) -/
theorem pk_us {f : Nat → Int32} {k : Nat} {x : Int32} : upd f k x k = x := if_pos rfl
theorem pk_un {f : Nat → Int32} {k j : Nat} {x : Int32} (h : j ≠ k) : upd f k x j = f j := if_neg h
theorem pk_sub {a b : Nat} (h : b ≤ a) : nI a - nI b = nI (a - b) := by
  obtain ⟨c, rfl⟩ : ∃ c, a = c + b := ⟨a - b, by omega⟩
  rw [← nI_add, Int32.add_sub_cancel, Nat.add_sub_cancel]
theorem pk_m1 (n : Nat) : nI (n + 1) + (-1) = nI n := by
  rw [← nI_1, Int32.add_assoc, show (1 : Int32) + (-1) = 0 from rfl, Int32.add_zero]
theorem pk_mul (a b : Nat) : nI a * nI b = nI (a * b) := (Int32.ofNat_mul a b).symm
theorem pk_div {a d : Nat} (ha : a < 2 ^ 31) (h0 : 0 < d) (hd : d < 2 ^ 31) : nI a / nI d = nI (a / d) := by
  apply Int32.toInt_inj.mp
  rw [lg_idiv_nonneg (by rw [nI_toInt ha]; omega) (by rw [nI_toInt hd]; omega), nI_toInt ha, nI_toInt hd, nI_toInt (Nat.lt_of_le_of_lt (Nat.div_le_self a d) ha)]
  first | rfl | exact (Int.natCast_ediv _ _).symm
theorem pk_rem {a d : Nat} (ha : a < 2 ^ 31) (h0 : 0 < d) (hd : d < 2 ^ 31) : nI a - nI a / nI d * nI d = nI (a % d) := by
  rw [pk_div ha h0 hd, pk_mul, pk_sub (Nat.div_mul_le_self a d)]
  exact congrArg nI (by have := Nat.div_add_mod' a d; omega)
theorem pk_sub_toInt {a b : Nat} (ha : a < 2 ^ 30) (hb : b < 2 ^ 30) : (nI a - nI b).toInt = (a : Int) - b := by
  rw [Int32.toInt_sub, nI_toInt (by omega), nI_toInt (by omega)]
  exact Int.bmod_eq_of_le (by omega) (by omega)
theorem pk_sneg {a b : Nat} (hb : b < 2 ^ 30) (h : a < b) : nI a - nI b < 0 := by
  rw [Int32.lt_iff_toInt_lt, pk_sub_toInt (by omega) hb, show (0 : Int32).toInt = 0 from by decide]
  omega
theorem pk_ix (x : Int32) {n : Nat} (hn : n < 2 ^ 31) : x < 0 ∨ nI n ≤ x ∨ ∃ j : Nat, j < n ∧ x = nI j := by
  by_cases h : x < 0
  · exact Or.inl h
  · obtain ⟨j, hj, rfl⟩ := nI_of h
    by_cases h2 : j < n
    · exact Or.inr (Or.inr ⟨j, h2, rfl⟩)
    · exact Or.inr (Or.inl (nI_le (by omega) hj))
theorem pk_le {x y : Int32} {A B : Prop} (a b : Nat) (f : a ≤ b → A) (g : b < a → B) (hx : x = nI a := by rfl) (hy : y = nI b := by rfl) (ha : a < 2 ^ 31 := by omega) (hb : b < 2 ^ 31 := by omega) : (x ≤ y → A) ∧ (¬ x ≤ y → B) := by
  subst hx hy
  rw [nI_leI ha hb]
  exact ⟨f, fun z => g (by omega)⟩
theorem pk_lt {x y : Int32} {A B : Prop} (a b : Nat) (f : a < b → A) (g : b ≤ a → B) (hx : x = nI a := by rfl) (hy : y = nI b := by rfl) (ha : a < 2 ^ 31 := by omega) (hb : b < 2 ^ 31 := by omega) : (x < y → A) ∧ (¬ x < y → B) := by
  subst hx hy
  rw [nI_ltI ha hb]
  exact ⟨f, fun z => g (by omega)⟩
theorem pk_eq {x y : Int32} {A B : Prop} (a b : Nat) (f : a = b → A) (g : a ≠ b → B) (hx : x = nI a := by rfl) (hy : y = nI b := by rfl) (ha : a < 2 ^ 31 := by omega) (hb : b < 2 ^ 31 := by omega) : (x = y → A) ∧ (¬ x = y → B) := by
  subst hx hy
  rw [nI_eq ha hb]
  exact ⟨f, g⟩
theorem pk_in {x : Int32} (n N : Nat) (h : n < N) (hx : x = nI n := by rfl) (hN : N < 2 ^ 31 := by omega) : vp_in x N := by
  subst hx
  exact vp_in_nI h hN
theorem pk_cl {x : Int32} (n : Nat) (hx : x = nI n := by rfl) (h : n < 2 ^ 31 := by omega) : x.toNatClampNeg = n := by
  subst hx
  exact nI_clamp h
theorem pk_tn {n : Nat} (h : n < 2 ^ 32) : (nI n).toBitVec.toNat = n := Nat.mod_eq_of_lt h
theorem pk_and (x : Int32) {m : Int32} (k : Nat) (hm : m.toBitVec.toNat = 2 ^ k - 1) : x &&& m = nI (x.toBitVec.toNat % 2 ^ k) := by
  apply Int32.toBitVec_inj.mp
  apply BitVec.eq_of_toNat_eq
  rw [Int32.toBitVec_and, BitVec.toNat_and, hm, Nat.and_two_pow_sub_one_eq_mod]
  show _ = (BitVec.ofNat 32 _).toNat
  rw [BitVec.toNat_ofNat]
  exact (Nat.mod_eq_of_lt (Nat.lt_of_le_of_lt (Nat.mod_le _ _) x.toBitVec.isLt)).symm
theorem pk_andN {n : Nat} (h : n < 2 ^ 32) {m : Int32} (k : Nat) (hm : m.toBitVec.toNat = 2 ^ k - 1) : nI n &&& m = nI (n % 2 ^ k) := by
  rw [pk_and _ k hm, pk_tn h]
theorem pk_andE (x : Int32) {m : Int32} (k : Nat) (hm : m.toBitVec.toNat = 2 ^ k - 1) : ∃ j : Nat, j < 2 ^ k ∧ x &&& m = nI j := ⟨_, Nat.mod_lt _ (Nat.two_pow_pos k), pk_and x k hm⟩
theorem pk_andIn (x : Int32) {m : Int32} (k : Nat) (hm : m.toBitVec.toNat = 2 ^ k - 1) (hk : k ≤ 30) : vp_in (x &&& m) (2 ^ k) := by
  obtain ⟨j, hj, e⟩ := pk_andE x k hm
  rw [e]
  exact vp_in_nI hj (Nat.lt_of_le_of_lt (Nat.pow_le_pow_right (by decide) hk) (by decide))
theorem pk_shl (a s : Int32) (k : Nat) (hs : (s.toBitVec.smod 32).toNat = k) : (a <<< s).toBitVec.toNat = a.toBitVec.toNat * 2 ^ k % 2 ^ 32 := by
  show (a.toBitVec <<< (s.toBitVec.smod 32).toNat).toNat = _
  rw [hs, BitVec.toNat_shiftLeft, Nat.shiftLeft_eq]
theorem pk_shlN {n : Nat} (s : Int32) (k : Nat) (hs : (s.toBitVec.smod 32).toNat = k) (h : n * 2 ^ k < 2 ^ 32) : nI n <<< s = nI (n * 2 ^ k) := by
  apply Int32.toBitVec_inj.mp
  apply BitVec.eq_of_toNat_eq
  have hn : n < 2 ^ 32 := Nat.lt_of_le_of_lt (Nat.le_mul_of_pos_right n (Nat.two_pow_pos k)) h
  rw [pk_shl _ _ k hs, pk_tn hn, pk_tn h, Nat.mod_eq_of_lt h]
theorem pk_shr (a s : Int32) (k : Nat) (hs : (s.toBitVec.smod 32).toNat = k) : (a >>> s).toInt = a.toInt >>> k := by
  show (a.toBitVec.sshiftRight (s.toBitVec.smod 32).toNat).toInt = _
  rw [hs, BitVec.toInt_sshiftRight]
  rfl
theorem pk_shrN {n : Nat} (h : n < 2 ^ 31) (s : Int32) (k : Nat) (hs : (s.toBitVec.smod 32).toNat = k) : nI n >>> s = nI (n / 2 ^ k) := by
  apply Int32.toInt_inj.mp
  have h2 : n / 2 ^ k ≤ n := Nat.div_le_self _ _
  rw [pk_shr _ _ k hs, nI_toInt h, nI_toInt (by omega), Int.shiftRight_eq_div_pow]
  rfl
theorem s_l : ∀ n, n < 32 → ((nI n &&& 31).toBitVec.smod 32).toNat = n := by decide +kernel
end
section
/-! the plain law: closed matrices of differences, times, plans -/
/-- the 5x5 matrix that lies from b on -/
def dt_D (s : Nat → Int32) (b p q : Nat) : Int := if p < 5 ∧ q < 5 then (s (b + (5 * p + q))).toInt else 0
theorem dt_Da {s : Nat → Int32} {b p q : Nat} (hp : p < 5) (hq : q < 5) : dt_D s b p q = (s (b + (5 * p + q))).toInt := if_pos ⟨hp, hq⟩
theorem dt_De {s s' : Nat → Int32} {b b' : Nat} (h : ∀ p q, p < 5 → q < 5 → dt_D s' b' p q = dt_D s b p q) : dt_D s' b' = dt_D s b := by
  funext p q
  by_cases hc : p < 5 ∧ q < 5
  · exact h p q hc.1 hc.2
  · unfold dt_D
    rw [if_neg hc, if_neg hc]
theorem dt_Dk {s s' : Nat → Int32} {b : Nat} (h : ∀ x, x < b + 25 → s' x = s x) : dt_D s' b = dt_D s b :=
  dt_De fun p q hp hq => by rw [dt_Da hp hq, dt_Da hp hq, h _ (by omega)]
def dt_Sat (D : Nat → Nat → Int) (t : Nat → Int) : Prop := ∀ p q, p < 5 → q < 5 → t p - t q ≤ D p q
def dt_Clo (n : Nat) (D : Nat → Nat → Int) : Prop :=
  (∀ p, p < 5 → D p p = 0) ∧ (∀ p q r, p < 5 → q < 5 → r < 5 → D p q ≤ D p r + D r q) ∧ (∀ p, p < 5 → D p n ≤ 7 ∧ D n p ≤ 0)
theorem dt_bd {n : Nat} {D : Nat → Nat → Int} (hn : n < 5) (h : dt_Clo n D) {p q : Nat} (hp : p < 5) (hq : q < 5) : -7 ≤ D p q ∧ D p q ≤ 7 := by
  have a := h.2.1 p q n hp hq hn
  have b := h.2.1 q p n hq hp hn
  have c := h.2.1 p p q hp hp hq
  have d := h.1 p hp
  have e := h.2.2 p hp
  have f := h.2.2 q hq
  omega
theorem dt_attain {n : Nat} {D : Nat → Nat → Int} (hn : n < 5) (h : dt_Clo n D) {i j : Nat} (hi : i < 5) (hj : j < 5) : ∃ t : Nat → Int, t n = 0 ∧ dt_Sat D t ∧ t i - t j = D i j := by
  refine ⟨fun p => D p j - D n j, ?_, fun p q hp hq => ?_, ?_⟩
  · show D n j - D n j = 0
    omega
  · have := h.2.1 p j q hp hj hq
    show (D p j - D n j) - (D q j - D n j) ≤ D p q
    omega
  · have := h.1 j hj
    show (D i j - D n j) - (D j j - D n j) = D i j
    omega
def dt_tig (D : Nat → Nat → Int) (i j : Nat) (l : Int) (p q : Nat) : Int := if D p i + l + D j q < D p q then D p i + l + D j q else D p q
theorem dt_tig3 (D : Nat → Nat → Int) (i j : Nat) (l : Int) (p q : Nat) : dt_tig D i j l p q ≤ D p q ∧ dt_tig D i j l p q ≤ D p i + l + D j q ∧ (dt_tig D i j l p q = D p q ∨ dt_tig D i j l p q = D p i + l + D j q) := by
  unfold dt_tig
  split <;> omega
theorem dt_tig_clo {n i j : Nat} {D D' : Nat → Nat → Int} {l : Int} (hn : n < 5) (h : dt_Clo n D) (hi : i < 5) (hj : j < 5) (h0 : 0 ≤ D j i + l) (e : ∀ p q, p < 5 → q < 5 → D' p q = dt_tig D i j l p q) : dt_Clo n D' := by
  refine ⟨fun p hp => ?_, fun p q r hp hq hr => ?_, fun p hp => ?_⟩
  · rw [e p p hp hp]
    have a := dt_tig3 D i j l p p
    have b := h.2.1 j i p hj hi hp
    have c := h.1 p hp
    omega
  · rw [e p q hp hq, e p r hp hr, e r q hr hq]
    have a1 := dt_tig3 D i j l p q
    have a2 := (dt_tig3 D i j l p r).2.2
    have a3 := (dt_tig3 D i j l r q).2.2
    have b1 := h.2.1 p q r hp hq hr
    have b2 := h.2.1 j q r hj hq hr
    have b3 := h.2.1 p i r hp hi hr
    have b4 := h.2.1 j i r hj hi hr
    omega
  · rw [e p n hp hn, e n p hn hp]
    have a1 := (dt_tig3 D i j l p n).1
    have a2 := (dt_tig3 D i j l n p).1
    have b := h.2.2 p hp
    omega
theorem dt_tig_sat {n i j : Nat} {D D' : Nat → Nat → Int} {l : Int} (h : dt_Clo n D) (hi : i < 5) (hj : j < 5) (e : ∀ p q, p < 5 → q < 5 → D' p q = dt_tig D i j l p q) (t : Nat → Int) : dt_Sat D' t ↔ dt_Sat D t ∧ t i - t j ≤ l := by
  constructor
  · intro s
    refine ⟨fun p q hp hq => ?_, ?_⟩
    · have a := s p q hp hq
      rw [e p q hp hq] at a
      have b := (dt_tig3 D i j l p q).1
      omega
    · have a := s i j hi hj
      rw [e i j hi hj] at a
      have b := (dt_tig3 D i j l i j).2.1
      have c := h.1 i hi
      have d := h.1 j hj
      omega
  · intro s p q hp hq
    rw [e p q hp hq]
    have a := s.1 p q hp hq
    have b := s.1 p i hp hi
    have c := s.1 j q hj hq
    have d := (dt_tig3 D i j l p q).2.2
    have f := s.2
    omega
theorem dt_tig_no {i j : Nat} {D : Nat → Nat → Int} {l : Int} (hi : i < 5) (hj : j < 5) (h0 : ¬ 0 ≤ D j i + l) {t : Nat → Int} (s : dt_Sat D t) : ¬ t i - t j ≤ l := by
  have a := s j i hj hi
  omega
/-- the times of plan k -/
def dt_pn (n k p : Nat) : Nat := if p < n then k / 8 ^ (n - 1 - p) % 8 else 0
def dt_pt (n k p : Nat) : Int := (dt_pn n k p : Int)
def dt_nm (t : Nat → Int) : Nat → Nat
  | 0 => 0
  | p + 1 => 8 * dt_nm t p + (t p).toNat
def dt_box (t : Nat → Int) : Prop := ∀ p, p < 5 → 0 ≤ t p ∧ t p ≤ 7
theorem dt_pn7 (n k p : Nat) : dt_pn n k p ≤ 7 := by
  unfold dt_pn
  split <;> omega
theorem dt_ptn (n k : Nat) : dt_pt n k n = 0 := by
  unfold dt_pt dt_pn
  rw [if_neg (by omega)]
  rfl
theorem dt_ptbox (n k : Nat) : dt_box (dt_pt n k) := fun p _ => by
  have := dt_pn7 n k p
  unfold dt_pt
  omega
theorem dt_nm_lt {t : Nat → Int} (h : dt_box t) : ∀ n, n ≤ 5 → dt_nm t n < 8 ^ n
  | 0, _ => by
    show 0 < 8 ^ 0
    decide
  | n + 1, hn => by
    have a := dt_nm_lt h n (by omega)
    have b := h n (by omega)
    rw [Nat.pow_succ]
    show 8 * dt_nm t n + (t n).toNat < _
    omega
theorem dt_step {n k p : Nat} (hp : p < n) : k / 8 ^ (n - (p + 1)) = 8 * (k / 8 ^ (n - p)) + dt_pn n k p := by
  unfold dt_pn
  rw [if_pos hp, show n - p = (n - 1 - p) + 1 by omega, show n - (p + 1) = n - 1 - p by omega, Nat.pow_succ, ← Nat.div_div_eq_div_mul]
  generalize k / 8 ^ (n - 1 - p) = y
  omega
/-- the digits of the number of t -/
theorem dt_nm_div {t : Nat → Int} (h : dt_box t) : ∀ d p, p + d ≤ 5 → dt_nm t (p + d) / 8 ^ d = dt_nm t p
  | 0, p, _ => by simp
  | d + 1, p, hp => by
    have a := h (p + d) (by omega)
    have ih := dt_nm_div h d p (by omega)
    show (8 * dt_nm t (p + d) + (t (p + d)).toNat) / 8 ^ (d + 1) = dt_nm t p
    rw [Nat.pow_succ, Nat.mul_comm (8 ^ d) 8, ← Nat.div_div_eq_div_mul, show (8 * dt_nm t (p + d) + (t (p + d)).toNat) / 8 = dt_nm t (p + d) by omega]
    exact ih
theorem dt_back {t : Nat → Int} {n : Nat} (h : dt_box t) (hn : n < 5) (h0 : t n = 0) {p : Nat} (hp : p ≤ n) : dt_pt n (dt_nm t n) p = t p := by
  unfold dt_pt dt_pn
  rcases Nat.lt_or_ge p n with hl | hg
  · rw [if_pos hl]
    have a := dt_nm_div h (n - 1 - p) (p + 1) (by omega)
    rw [show p + 1 + (n - 1 - p) = n by omega] at a
    rw [a]
    show ((8 * dt_nm t p + (t p).toNat) % 8 : Nat) = t p
    have b := h p (by omega)
    omega
  · rw [if_neg (by omega), show p = n by omega, h0]
    rfl
/-- alternative x (by its place), constraint c -/
def dt_al (e b l : Nat → Int32) (x : Nat) (t : Nat → Int) : Prop := t (e x).toNatClampNeg - t (b x).toNatClampNeg ≤ (l x).toInt
def dt_met (e b l z : Nat → Int32) (c : Nat) (t : Nat → Int) : Prop := ∃ a, a < (z c).toNatClampNeg ∧ dt_al e b l (3 * c + a) t
def dt_rest (e b l z : Nat → Int32) (d m : Nat) (fs : Int32) (t : Nat → Int) : Prop := ∀ c, d ≤ c → c < m → ¬ nI c = fs → dt_met e b l z c t
/-- constraint c is well formed -/
def dt_alok (n : Nat) (e b l : Nat → Int32) (x : Nat) : Prop := ∃ i j, i ≤ n ∧ j ≤ n ∧ e x = nI i ∧ b x = nI j ∧ -10 ≤ (l x).toInt ∧ (l x).toInt ≤ 10
def dt_ok (n : Nat) (e b l z : Nat → Int32) (c : Nat) : Prop := ∃ s, s ≤ 3 ∧ z c = nI s ∧ ∀ a, a < s → dt_alok n e b l (3 * c + a)
theorem dt_al_cg {n x : Nat} {e b l : Nat → Int32} (h : dt_alok n e b l x) (hn : n < 5) {t t' : Nat → Int} (ht : ∀ p, p ≤ n → t p = t' p) : dt_al e b l x t ↔ dt_al e b l x t' := by
  obtain ⟨i, j, hi, hj, ei, ej, _, _⟩ := h
  unfold dt_al
  rw [ei, ej, nI_clamp (by omega), nI_clamp (by omega), ht i hi, ht j hj]
theorem dt_met_cg {n c : Nat} {e b l z : Nat → Int32} (h : dt_ok n e b l z c) (hn : n < 5) {t t' : Nat → Int} (ht : ∀ p, p ≤ n → t p = t' p) : dt_met e b l z c t ↔ dt_met e b l z c t' := by
  obtain ⟨s, hs, es, H⟩ := h
  unfold dt_met
  rw [es, nI_clamp (by omega)]
  constructor
  · rintro ⟨a, ha, q⟩
    exact ⟨a, ha, (dt_al_cg (H a ha) hn ht).mp q⟩
  · rintro ⟨a, ha, q⟩
    exact ⟨a, ha, (dt_al_cg (H a ha) hn ht).mpr q⟩
theorem dt_rest_cg {n d m : Nat} {fs : Int32} {e b l z : Nat → Int32} (h : ∀ c, c < m → dt_ok n e b l z c) (hn : n < 5) {t t' : Nat → Int} (ht : ∀ p, p ≤ n → t p = t' p) : dt_rest e b l z d m fs t ↔ dt_rest e b l z d m fs t' := by
  constructor
  · intro q c h1 h2 h3
    exact (dt_met_cg (h c h2) hn ht).mp (q c h1 h2 h3)
  · intro q c h1 h2 h3
    exact (dt_met_cg (h c h2) hn ht).mpr (q c h1 h2 h3)
/-- plan k meets the first m constraints but for fs -/
def dt_sol (n : Nat) (e b l z : Nat → Int32) (m : Nat) (fs : Int32) (k : Nat) : Prop := dt_rest e b l z 0 m fs (dt_pt n k)
/-- constraint d is met by all that is in D, or is to be skipped -/
def dt_any (e b l z : Nat → Int32) (fs : Int32) (D : Nat → Nat → Int) (d : Nat) : Prop := nI d = fs ∨ ∃ a, a < (z d).toNatClampNeg ∧ D (e (3 * d + a)).toNatClampNeg (b (3 * d + a)).toNatClampNeg ≤ (l (3 * d + a)).toInt
/-- what of constraint d is still to be tried from turn y on -/
def dt_alt (e b l z : Nat → Int32) (fs : Int32) (D : Nat → Nat → Int) (d y : Nat) (t : Nat → Int) : Prop :=
  (dt_any e b l z fs D d ∧ y = 0) ∨ (¬ dt_any e b l z fs D d ∧ ∃ a, y ≤ a ∧ a < (z d).toNatClampNeg ∧ dt_al e b l (3 * d + a) t)
theorem dt_alt0 {n d m : Nat} {fs : Int32} {e b l z : Nat → Int32} {D : Nat → Nat → Int} (hn : n < 5) (hd : d < m) (h : dt_ok n e b l z d) {t : Nat → Int} (hs : dt_Sat D t) :
    (dt_rest e b l z (d + 1) m fs t ∧ dt_alt e b l z fs D d 0 t) ↔ dt_rest e b l z d m fs t := by
  obtain ⟨s, hs3, es, H⟩ := h
  constructor
  · rintro ⟨r, q⟩ c h1 h2 h3
    rcases Nat.lt_or_ge d c with hl | hg
    · exact r c hl h2 h3
    · have hc : c = d := by omega
      subst hc
      rcases q with ⟨q, _⟩ | ⟨_, a, _, ha, q⟩
      · rcases q with q | ⟨a, ha, q⟩
        · exact absurd q h3
        · refine ⟨a, ha, ?_⟩
          rw [es, nI_clamp (by omega)] at ha
          obtain ⟨i, j, hi, hj, ei, ej, _, _⟩ := H a ha
          unfold dt_al
          rw [ei, ej, nI_clamp (by omega), nI_clamp (by omega)] at q ⊢
          have := hs i j (by omega) (by omega)
          omega
      · exact ⟨a, ha, q⟩
  · intro q
    refine ⟨fun c h1 h2 h3 => q c (by omega) h2 h3, ?_⟩
    by_cases ha : dt_any e b l z fs D d
    · exact Or.inl ⟨ha, rfl⟩
    · refine Or.inr ⟨ha, ?_⟩
      obtain ⟨a, h1, h2⟩ := q d (Nat.le_refl _) hd (fun z => ha (Or.inl z))
      exact ⟨a, Nat.zero_le _, h1, h2⟩
/-- any and best after P has been looked through -/
def dt_upd (n : Nat) (val : (Nat → Int) → Int) (P : (Nat → Int) → Prop) (a b a' b' : Int32) : Prop :=
  ((a' = a ∧ b' = b) ∨ (a' = 1 ∧ ∃ t, t n = 0 ∧ P t ∧ val t = b'.toInt)) ∧ (∀ t, t n = 0 → P t → a' = 1 ∧ val t ≤ b'.toInt) ∧ (a = 1 → a' = 1 ∧ b.toInt ≤ b'.toInt)
def dt_ab (a b : Int32) : Prop := a = 1 ∨ (a = 0 ∧ b.toInt = -1000)
theorem dt_upd_no {n : Nat} {val : (Nat → Int) → Int} {P : (Nat → Int) → Prop} {a b : Int32} (h : ∀ t, t n = 0 → ¬ P t) : dt_upd n val P a b a b :=
  ⟨Or.inl ⟨rfl, rfl⟩, fun t h0 hp => absurd hp (h t h0), fun ha => ⟨ha, Int.le_refl _⟩⟩
theorem dt_upd_cut {n : Nat} {val : (Nat → Int) → Int} {P : (Nat → Int) → Prop} {a b : Int32} (ha : a = 1) (h : ∀ t, t n = 0 → P t → val t ≤ b.toInt) : dt_upd n val P a b a b :=
  ⟨Or.inl ⟨rfl, rfl⟩, fun t h0 hp => ⟨ha, h t h0 hp⟩, fun ha => ⟨ha, Int.le_refl _⟩⟩
theorem dt_upd_and {n : Nat} {val : (Nat → Int) → Int} {P P1 P2 : (Nat → Int) → Prop} {a b a1 b1 a2 b2 : Int32} (h1 : dt_upd n val P1 a b a1 b1) (h2 : dt_upd n val P2 a1 b1 a2 b2) (h : ∀ t, t n = 0 → (P t ↔ P1 t ∨ P2 t)) : dt_upd n val P a b a2 b2 := by
  obtain ⟨p1, q1, r1⟩ := h1
  obtain ⟨p2, q2, r2⟩ := h2
  refine ⟨?_, fun t h0 hp => ?_, fun ha => ?_⟩
  · rcases p2 with ⟨e1, e2⟩ | ⟨e1, t, h0, hp, hv⟩
    · rw [e1, e2]
      rcases p1 with g | ⟨g1, t, h0, hp, hv⟩
      · exact Or.inl g
      · exact Or.inr ⟨g1, t, h0, (h t h0).mpr (Or.inl hp), hv⟩
    · exact Or.inr ⟨e1, t, h0, (h t h0).mpr (Or.inr hp), hv⟩
  · rcases (h t h0).mp hp with g | g
    · have a := q1 t h0 g
      have b := r2 a.1
      exact ⟨b.1, Int.le_trans a.2 b.2⟩
    · exact q2 t h0 g
  · have a := r1 ha
    have b := r2 a.1
    exact ⟨b.1, Int.le_trans a.2 b.2⟩
theorem dt_upd_cg {n : Nat} {val : (Nat → Int) → Int} {P P1 : (Nat → Int) → Prop} {a b a1 b1 : Int32} (h1 : dt_upd n val P1 a b a1 b1) (h : ∀ t, t n = 0 → (P t ↔ P1 t)) : dt_upd n val P a b a1 b1 := by
  obtain ⟨p1, q1, r1⟩ := h1
  refine ⟨?_, fun t h0 hp => q1 t h0 ((h t h0).mp hp), r1⟩
  rcases p1 with g | ⟨g1, t, h0, hp, hv⟩
  · exact Or.inl g
  · exact Or.inr ⟨g1, t, h0, (h t h0).mpr hp, hv⟩
theorem dt_ab_upd {n : Nat} {val : (Nat → Int) → Int} {P : (Nat → Int) → Prop} {a b a1 b1 : Int32} (h1 : dt_upd n val P a b a1 b1) (h : dt_ab a b) : dt_ab a1 b1 := by
  rcases h1.1 with ⟨e1, e2⟩ | ⟨e1, _⟩
  · rw [e1, e2]; exact h
  · exact Or.inl e1
/-- a leaf: z is the matrix' greatest difference -/
theorem dt_upd_leaf {n : Nat} {val : (Nat → Int) → Int} {P : (Nat → Int) → Prop} {a b z b' : Int32} (hab : dt_ab a b) (hz : -7 ≤ z.toInt) (hx : ∃ t, t n = 0 ∧ P t ∧ val t = z.toInt) (hm : ∀ t, t n = 0 → P t → val t ≤ z.toInt)
    (hb : (z ≤ b ∧ b' = b) ∨ (¬ z ≤ b ∧ b' = z)) : dt_upd n val P a b 1 b' := by
  rcases hb with ⟨h, rfl⟩ | ⟨h, rfl⟩
  · rw [Int32.le_iff_toInt_le] at h
    have ha : a = 1 := by
      rcases hab with g | ⟨_, g⟩
      · exact g
      · omega
    subst ha
    exact dt_upd_cut rfl fun t h0 hp => Int.le_trans (hm t h0 hp) h
  · rw [Int32.le_iff_toInt_le] at h
    exact ⟨Or.inr ⟨rfl, hx⟩, fun t h0 hp => ⟨rfl, hm t h0 hp⟩, fun _ => ⟨rfl, by omega⟩⟩
/-- the steps that a subtree of height e may take -/
def dt_F : Nat → Nat
  | 0 => 1
  | e + 1 => 4 + 3 * dt_F e
theorem dt_F_mono (e : Nat) : dt_F e ≤ dt_F (e + 1) := by
  show dt_F e ≤ 4 + 3 * dt_F e
  omega
theorem dt_F8 : ∀ e, e ≤ 8 → dt_F e ≤ 40000 := by decide
end
section
/-! the loops over matrices -/
def dt_inv (s : Nat → Int32) (b k : Nat) (f g : Nat → Nat → Int) : Prop := ∀ p q, p < 5 → q < 5 → dt_D s b p q = if 5 * p + q < k then f p q else g p q
theorem dt_inv0 (s : Nat → Int32) (b : Nat) (f : Nat → Nat → Int) : dt_inv s b 0 f (dt_D s b) := fun p q _ _ => by
  rw [if_neg (by omega)]
theorem dt_inv_end {s : Nat → Int32} {b k : Nat} {f g : Nat → Nat → Int} (h : dt_inv s b k f g) (hk : k = 25) : ∀ p q, p < 5 → q < 5 → dt_D s b p q = f p q := fun p q hp hq => by
  rw [h p q hp hq, if_pos (by omega)]
theorem dt_inv_up {s : Nat → Int32} {b k : Nat} {f g : Nat → Nat → Int} (h : dt_inv s b k f g) {x : Nat} (hx : x = b + k) {v : Int32} (hv : v.toInt = f (k / 5) (k % 5)) : dt_inv (upd s x v) b (k + 1) f g := fun p q hp hq => by
  rcases Nat.lt_trichotomy (5 * p + q) k with hl | he | hg
  · have a := h p q hp hq
    rw [if_pos hl] at a
    rw [if_pos (by omega), ← a, dt_Da hp hq, dt_Da hp hq, pk_un (by omega)]
  · rw [if_pos (by omega), dt_Da hp hq]
    rw [show b + (5 * p + q) = x by omega, pk_us, hv, show k / 5 = p by omega, show k % 5 = q by omega]
  · have a := h p q hp hq
    rw [if_neg (by omega)] at a
    rw [if_neg (by omega), ← a, dt_Da hp hq, dt_Da hp hq, pk_un (by omega)]
theorem dt_inv_keep {s : Nat → Int32} {b k : Nat} {f g : Nat → Nat → Int} (h : dt_inv s b k f g) {x : Nat} (hx : x = b + k) (hv : (s x).toInt = f (k / 5) (k % 5)) : dt_inv s b (k + 1) f g := fun p q hp hq => by
  rcases Nat.lt_trichotomy (5 * p + q) k with hl | he | hg
  · have a := h p q hp hq
    rw [if_pos hl] at a
    rw [if_pos (by omega), ← a]
  · rw [if_pos (by omega), dt_Da hp hq]
    rw [show b + (5 * p + q) = x by omega, hv, show k / 5 = p by omega, show k % 5 = q by omega]
  · have a := h p q hp hq
    rw [if_neg (by omega)] at a
    rw [if_neg (by omega), ← a]
theorem dt_inv_at {s : Nat → Int32} {b k : Nat} {f g : Nat → Nat → Int} (h : dt_inv s b k f g) {x : Nat} (hx : x = b + k) (hk : k < 25) : (s x).toInt = g (k / 5) (k % 5) := by
  have a := h (k / 5) (k % 5) (by omega) (by omega)
  rw [if_neg (by omega)] at a
  rw [← a, dt_Da (by omega) (by omega)]
  rw [show b + (5 * (k / 5) + k % 5) = x by omega]
theorem dt_ix (b p q : Nat) : (nI b + 5 * nI p) + nI q = nI (b + (5 * p + q)) := by
  show (nI b + nI 5 * nI p) + nI q = _
  rw [pk_mul, nI_add, nI_add, Nat.add_assoc]
theorem dt_ix0 (p q : Nat) : (5 * nI p) + nI q = nI (0 + (5 * p + q)) := by
  show (nI 5 * nI p) + nI q = _
  rw [pk_mul, nI_add, Nat.zero_add]
theorem dt_way {x l y : Int32} (hx : -7 ≤ x.toInt ∧ x.toInt ≤ 7) (hl : -11 ≤ l.toInt ∧ l.toInt ≤ 10) (hy : -7 ≤ y.toInt ∧ y.toInt ≤ 7) : ((x + l) + y).toInt = x.toInt + l.toInt + y.toInt := by
  have a : (x + l).toInt = x.toInt + l.toInt := Jvm.Kit.i32_add (by omega) (by omega)
  rw [Jvm.Kit.i32_add (by omega) (by omega), a]
theorem dt_sum {x l : Int32} (hx : -7 ≤ x.toInt ∧ x.toInt ≤ 7) (hl : -11 ≤ l.toInt ∧ l.toInt ≤ 10) : (x + l).toInt = x.toInt + l.toInt := Jvm.Kit.i32_add (by omega) (by omega)
/-- the matrix of all plans -/
def dt_op (n p q : Nat) : Int := if p = q ∨ p = n then 0 else 7
section
variable {fn fc fd fa fs fb fz : Int32} {en bg li sz de db dl st ma tu : Nat → Int32}
theorem dt_open7 {post : SX → Prop} {n : Nat} (hn : n < 5) {g : Nat → Nat → Int}
    (H : ∀ st' : Nat → Int32, (∀ p q, p < 5 → q < 5 → dt_D st' 0 p q = dt_op n p q) → post (nI n, fc, fd, fa, fs, 0, fz, en, bg, li, sz, de, db, dl, st', ma, tu)) :
    ∀ d k, k + d = 25 → ∀ st : Nat → Int32, dt_inv st 0 k (dt_op n) g → wX_openStart_7 post (nI n) fc fd fa fs 0 fz (d + 1) (nI k) en bg li sz de db dl st ma tu := by
  intro d
  induction d with
  | zero =>
    intro k hk st I
    have h : (25 : Int32) ≤ nI k := nI_le (a := 25) (by omega) (by omega)
    exact br_t h (H st (dt_inv_end I (by omega)))
  | succ d ih =>
    intro k hk st I
    have h : ¬ (25 : Int32) ≤ nI k := nI_ge (b := 25) (by omega) (by decide)
    have hi : vp_in (nI k) 25 := vp_in_nI (by omega) (by decide)
    refine br_f h ⟨by decide, nm_r (e' := nI (k / 5)) (pk_div (d := 5) (by omega) (by decide) (by decide)) ⟨by decide, nm_r (e' := nI (k % 5)) (pk_rem (d := 5) (by omega) (by decide) (by decide)) ⟨hi, nm_r (e' := upd st k 7) (by rw [nI_clamp (by omega)]) (pk_eq (k / 5) (k % 5) (fun he => ?_) (fun hne => pk_eq (k / 5) n (fun he => ?_) (fun hne2 => ?_)))⟩⟩⟩
    · refine ⟨hi, nm_r (e' := upd (upd st k 7) k 0) (by rw [nI_clamp (by omega)]) (nm_r (e' := nI (k + 1)) (nI_1 k) (ih (k + 1) (by omega) _ ?_))⟩
      have e : upd (upd st k 7) k 0 = upd st k 0 := by
        funext j
        unfold upd
        split <;> rfl
      rw [e]
      refine dt_inv_up I (by omega) ?_
      unfold dt_op
      rw [if_pos (Or.inl he)]
      rfl
    · refine ⟨hi, nm_r (e' := upd (upd st k 7) k 0) (by rw [nI_clamp (by omega)]) (nm_r (e' := nI (k + 1)) (nI_1 k) (ih (k + 1) (by omega) _ ?_))⟩
      have e : upd (upd st k 7) k 0 = upd st k 0 := by
        funext j
        unfold upd
        split <;> rfl
      rw [e]
      refine dt_inv_up I (by omega) ?_
      unfold dt_op
      rw [if_pos (Or.inr he)]
      rfl
    · refine nm_r (e' := nI (k + 1)) (nI_1 k) (ih (k + 1) (by omega) _ ?_)
      refine dt_inv_up I (by omega) ?_
      unfold dt_op
      rw [if_neg (fun z => z.elim hne hne2)]
      rfl
theorem dt_open {post : SX → Prop} {n : Nat} (hn : n < 5)
    (H : ∀ st' : Nat → Int32, (∀ p q, p < 5 → q < 5 → dt_D st' 0 p q = dt_op n p q) → post (nI n, fc, fd, fa, fs, 0, fz, en, bg, li, sz, de, db, dl, st', ma, tu)) : wpX_openStart post (nI n, fc, fd, fa, fs, fb, fz, en, bg, li, sz, de, db, dl, st, ma, tu) :=
  Exists.intro 26 (dt_open7 hn (g := dt_D st 0) H 25 0 rfl st (dt_inv0 _ _ _))
theorem dt_copy2 {post : SX → Prop} {d : Nat} (hd : d < 8) {ma0 : Nat → Int32} {g : Nat → Nat → Int}
    (H : ∀ ma' : Nat → Int32, (∀ x, x < 25 * (d + 1) → ma' x = ma0 x) → (∀ p q, p < 5 → q < 5 → dt_D ma' (25 * (d + 1)) p q = dt_D ma0 (25 * d) p q) → post (fn, fc, fd, fa, fs, fb, fz, en, bg, li, sz, de, db, dl, st, ma', tu)) :
    ∀ r k, k + r = 25 → ∀ ma : Nat → Int32, (∀ x, x < 25 * (d + 1) → ma x = ma0 x) → dt_inv ma (25 * (d + 1)) k (dt_D ma0 (25 * d)) g → wX_copyOn_2 post (nI d) fn fc fd fa fs fb fz (r + 1) (nI k) en bg li sz de db dl st ma tu := by
  intro r
  induction r with
  | zero =>
    intro k hk ma hA I
    have h : (25 : Int32) ≤ nI k := nI_le (a := 25) (by omega) (by omega)
    exact br_t h (H ma hA (dt_inv_end I (by omega)))
  | succ r ih =>
    intro k hk ma hA I
    have h : ¬ (25 : Int32) ≤ nI k := nI_ge (b := 25) (by omega) (by decide)
    have e1 : (25 * nI d) + nI k = nI (25 * d + k) := by
      show (nI 25 * nI d) + nI k = _
      rw [pk_mul, nI_add]
    have e2 : ((25 * nI d) + 25) + nI k = nI (25 * (d + 1) + k) := by
      show ((nI 25 * nI d) + nI 25) + nI k = _
      rw [pk_mul, nI_add, nI_add, Nat.mul_succ]
    refine br_f h ⟨pk_in (25 * d + k) 225 (by omega) e1, ⟨pk_in (25 * (d + 1) + k) 225 (by omega) e2, nm_r (e' := upd ma (25 * (d + 1) + k) (ma (25 * d + k))) (by rw [e1, e2, nI_clamp (by omega), nI_clamp (by omega)]) (nm_r (e' := nI (k + 1)) (nI_1 k) (ih (k + 1) (by omega) _ (fun x hx => ?_) (dt_inv_up I rfl ?_)))⟩⟩
    · rw [pk_un (by omega)]
      exact hA x hx
    · rw [hA _ (by omega), dt_Da (by omega) (by omega)]
      rw [show 5 * (k / 5) + k % 5 = k by omega]
theorem dt_copy {post : SX → Prop} {d : Nat} (hd : d < 8)
    (H : ∀ ma' : Nat → Int32, (∀ x, x < 25 * (d + 1) → ma' x = ma x) → (∀ p q, p < 5 → q < 5 → dt_D ma' (25 * (d + 1)) p q = dt_D ma (25 * d) p q) → post (fn, fc, fd, fa, fs, fb, fz, en, bg, li, sz, de, db, dl, st, ma', tu)) : wpX_copyOn post (fn, fc, fd, fa, fs, fb, fz, en, bg, li, sz, de, db, dl, st, ma, tu) (nI d) :=
  Exists.intro 26 (dt_copy2 hd (g := dt_D ma (25 * (d + 1))) H 25 0 rfl ma (fun _ _ => rfl) (dt_inv0 _ _ _))
theorem dt_tight16 {post : SX → Prop} {d i j : Nat} {l : Int32} (hd : d < 8) (hi : i < 5) (hj : j < 5) {ma0 : Nat → Int32} (hl : -11 ≤ l.toInt ∧ l.toInt ≤ 10) (hb : ∀ p q, p < 5 → q < 5 → -7 ≤ dt_D ma0 (25 * d) p q ∧ dt_D ma0 (25 * d) p q ≤ 7)
    (H : ∀ ma' : Nat → Int32, (∀ x, x < 25 * (d + 1) → ma' x = ma0 x) → (∀ p q, p < 5 → q < 5 → dt_D ma' (25 * (d + 1)) p q = dt_tig (dt_D ma0 (25 * d)) i j l.toInt p q) → post (fn, fc, fd, fa, fs, fb, fz, en, bg, li, sz, de, db, dl, st, ma', tu)) :
    ∀ r k, k + r = 25 → ∀ ma : Nat → Int32, (∀ x, x < 25 * (d + 1) → ma x = ma0 x) → dt_inv ma (25 * (d + 1)) k (dt_tig (dt_D ma0 (25 * d)) i j l.toInt) (dt_D ma0 (25 * d)) → wX_tighten_16 post (nI i) (nI j) l (nI (25 * (d + 1))) (nI (25 * d)) fn fc fd fa fs fb fz (r + 1) (nI k) en bg li sz de db dl st ma tu := by
  intro r
  induction r with
  | zero =>
    intro k hk ma hA I
    have h : (25 : Int32) ≤ nI k := nI_le (a := 25) (by omega) (by omega)
    exact br_t h (H ma hA (dt_inv_end I (by omega)))
  | succ r ih =>
    intro k hk ma hA I
    have h : ¬ (25 : Int32) ≤ nI k := nI_ge (b := 25) (by omega) (by decide)
    have e1 := dt_ix (25 * d) (k / 5) i
    have e2 := dt_ix (25 * d) j (k % 5)
    have e3 := nI_add (25 * (d + 1)) k
    have c3 : (nI (25 * (d + 1)) + nI k).toNatClampNeg = 25 * (d + 1) + k := pk_cl _ e3
    have b1 := hb (k / 5) i (by omega) hi
    have b2 := hb j (k % 5) hj (by omega)
    have r1 : (ma (25 * d + (5 * (k / 5) + i))).toInt = dt_D ma0 (25 * d) (k / 5) i := by
      rw [hA _ (by omega), dt_Da (by omega) hi]
    have r2 : (ma (25 * d + (5 * j + k % 5))).toInt = dt_D ma0 (25 * d) j (k % 5) := by
      rw [hA _ (by omega), dt_Da hj (by omega)]
    have w := dt_way (x := ma (25 * d + (5 * (k / 5) + i))) (l := l) (y := ma (25 * d + (5 * j + k % 5))) (by rw [r1]; exact b1) hl (by rw [r2]; exact b2)
    rw [r1, r2] at w
    have v := dt_inv_at I rfl (by omega)
    refine br_f h ⟨by decide, nm_r (e' := nI (k / 5)) (pk_div (d := 5) (by omega) (by decide) (by decide)) ⟨by decide, nm_r (e' := nI (k % 5)) (pk_rem (d := 5) (by omega) (by decide) (by decide)) ⟨pk_in _ 225 (by omega) e1, ⟨pk_in _ 225 (by omega) e2, nm_r (e' := (ma (25 * d + (5 * (k / 5) + i)) + l) + ma (25 * d + (5 * j + k % 5))) (by rw [e1, e2, nI_clamp (by omega), nI_clamp (by omega)]) ⟨pk_in _ 225 (by omega) e3, br_c (fun hc => ?_) (fun hc => ?_)⟩⟩⟩⟩⟩
    · refine nm_r (e' := nI (k + 1)) (nI_1 k) (ih (k + 1) (by omega) _ hA (dt_inv_keep I rfl ?_))
      rw [c3, Int32.le_iff_toInt_le, w, v] at hc
      rw [v]
      unfold dt_tig
      rw [if_neg (by omega)]
    · rw [c3, Int32.le_iff_toInt_le, w, v] at hc
      refine ⟨pk_in _ 225 (by omega) e3, nm_r (e' := upd ma (25 * (d + 1) + k) ((ma (25 * d + (5 * (k / 5) + i)) + l) + ma (25 * d + (5 * j + k % 5)))) (by rw [c3]) (nm_r (e' := nI (k + 1)) (nI_1 k) (ih (k + 1) (by omega) _ (fun x hx => ?_) (dt_inv_up I rfl ?_)))⟩
      · rw [pk_un (by omega)]
        exact hA x hx
      · rw [w]
        unfold dt_tig
        rw [if_pos (by omega)]
theorem dt_tight {post : SX → Prop} {d i j : Nat} {l : Int32} (hd : d < 8) (hi : i < 5) (hj : j < 5) (hl : -11 ≤ l.toInt ∧ l.toInt ≤ 10) (hb : ∀ p q, p < 5 → q < 5 → -7 ≤ dt_D ma (25 * d) p q ∧ dt_D ma (25 * d) p q ≤ 7) (hc : ∀ p q, p < 5 → q < 5 → dt_D ma (25 * (d + 1)) p q = dt_D ma (25 * d) p q)
    (H : ∀ ma' : Nat → Int32, (∀ x, x < 25 * (d + 1) → ma' x = ma x) → (∀ p q, p < 5 → q < 5 → dt_D ma' (25 * (d + 1)) p q = dt_tig (dt_D ma (25 * d)) i j l.toInt p q) → post (fn, fc, fd, fa, fs, fb, fz, en, bg, li, sz, de, db, dl, st, ma', tu)) : wpX_tighten post (fn, fc, fd, fa, fs, fb, fz, en, bg, li, sz, de, db, dl, st, ma, tu) (nI d + 1) (nI i) (nI j) l := by
  have e1 : (25 : Int32) * (nI d + 1) = nI (25 * (d + 1)) := by
    show nI 25 * (nI d + 1) = _
    rw [nI_1, pk_mul]
  have e2 : nI (25 * (d + 1)) - 25 = nI (25 * d) := by
    show nI (25 * (d + 1)) - nI 25 = _
    rw [pk_sub (by omega)]
    rfl
  refine nm_r (e' := nI (25 * (d + 1))) e1 (nm_r (e' := nI (25 * d)) e2 (Exists.intro 26 (dt_tight16 hd hi hj hl hb H 25 0 rfl ma (fun _ _ => rfl) (fun p q hp hq => ?_))))
  rw [if_neg (by omega)]
  exact hc p q hp hq
theorem dt_tstart46 {post : SX → Prop} {i j : Nat} {l : Int32} (hi : i < 5) (hj : j < 5) {D : Nat → Nat → Int} (hl : -11 ≤ l.toInt ∧ l.toInt ≤ 10) (hb : ∀ p q, p < 5 → q < 5 → -7 ≤ D p q ∧ D p q ≤ 7) (h0 : 0 ≤ D j i + l.toInt)
    (H : ∀ st' : Nat → Int32, (∀ p q, p < 5 → q < 5 → dt_D st' 0 p q = dt_tig D i j l.toInt p q) → post (fn, fc, fd, fa, fs, fb, fz, en, bg, li, sz, de, db, dl, st', ma, tu)) :
    ∀ r k, k + r = 25 → ∀ st : Nat → Int32, dt_inv st 0 k (dt_tig D i j l.toInt) D → wX_tightenStart_46 post (nI i) (nI j) l fn fc fd fa fs fb fz (r + 1) (nI k) en bg li sz de db dl st ma tu := by
  intro r
  induction r with
  | zero =>
    intro k hk st I
    have h : (25 : Int32) ≤ nI k := nI_le (a := 25) (by omega) (by omega)
    exact br_t h (H st (dt_inv_end I (by omega)))
  | succ r ih =>
    intro k hk st I
    have h : ¬ (25 : Int32) ≤ nI k := nI_ge (b := 25) (by omega) (by decide)
    have hin : vp_in (nI k) 25 := vp_in_nI (by omega) (by decide)
    have e1 := dt_ix0 (k / 5) i
    have e2 := dt_ix0 j (k % 5)
    have c3 : (nI k).toNatClampNeg = k := nI_clamp (by omega)
    have b1 := hb (k / 5) i (by omega) hi
    have b2 := hb j (k % 5) hj (by omega)
    have r1 : (st (0 + (5 * (k / 5) + i))).toInt = D (k / 5) i := by
      have a := I (k / 5) i (by omega) hi
      rw [dt_Da (by omega) hi] at a
      have c : dt_tig D i j l.toInt (k / 5) i = D (k / 5) i := by
        unfold dt_tig
        rw [if_neg (by omega)]
      rw [c] at a
      refine Eq.trans a ?_
      split <;> rfl
    have r2 : (st (0 + (5 * j + k % 5))).toInt = D j (k % 5) := by
      have a := I j (k % 5) hj (by omega)
      rw [dt_Da hj (by omega)] at a
      have c : dt_tig D i j l.toInt j (k % 5) = D j (k % 5) := by
        unfold dt_tig
        rw [if_neg (by omega)]
      rw [c] at a
      refine Eq.trans a ?_
      split <;> rfl
    have w := dt_way (x := st (0 + (5 * (k / 5) + i))) (l := l) (y := st (0 + (5 * j + k % 5))) (by rw [r1]; exact b1) hl (by rw [r2]; exact b2)
    rw [r1, r2] at w
    have v := dt_inv_at I (x := k) (by omega) (by omega)
    refine br_f h ⟨by decide, nm_r (e' := nI (k / 5)) (pk_div (d := 5) (by omega) (by decide) (by decide)) ⟨by decide, nm_r (e' := nI (k % 5)) (pk_rem (d := 5) (by omega) (by decide) (by decide)) ⟨pk_in _ 25 (by omega) e1, ⟨pk_in _ 25 (by omega) e2, nm_r (e' := (st (0 + (5 * (k / 5) + i)) + l) + st (0 + (5 * j + k % 5))) (by rw [e1, e2, nI_clamp (by omega), nI_clamp (by omega)]) ⟨hin, br_c (fun hc => ?_) (fun hc => ?_)⟩⟩⟩⟩⟩
    · rw [c3, Int32.le_iff_toInt_le, w, v] at hc
      refine ⟨hin, ⟨hin, nm_r (e' := upd st k (st k)) (by rw [c3]) (nm_r (e' := nI (k + 1)) (nI_1 k) (ih (k + 1) (by omega) _ (dt_inv_up I (by omega) ?_)))⟩⟩
      rw [v]
      unfold dt_tig
      rw [if_neg (by omega)]
    · rw [c3, Int32.le_iff_toInt_le, w, v] at hc
      refine ⟨hin, nm_r (e' := upd st k ((st (0 + (5 * (k / 5) + i)) + l) + st (0 + (5 * j + k % 5)))) (by rw [c3]) (nm_r (e' := nI (k + 1)) (nI_1 k) (ih (k + 1) (by omega) _ (dt_inv_up I (by omega) ?_)))⟩
      rw [w]
      unfold dt_tig
      rw [if_pos (by omega)]
end
end
section
/-! the start matrix as a set of plans; the step goOn -/
theorem dt_fwd_at {n k : Nat} (hk : k < 8 ^ n) : ∀ p, p ≤ n → dt_nm (dt_pt n k) p = k / 8 ^ (n - p)
  | 0, _ => by
    rw [Nat.sub_zero, Nat.div_eq_of_lt hk]
    rfl
  | p + 1, hp => by
    have a := dt_fwd_at hk p (by omega)
    rw [dt_step (by omega), ← a]
    show 8 * dt_nm (dt_pt n k) p + (dt_pt n k p).toNat = _
    unfold dt_pt
    rw [Int.toNat_natCast]
theorem dt_fwd {n k : Nat} (hk : k < 8 ^ n) : dt_nm (dt_pt n k) n = k := by
  rw [dt_fwd_at hk n (Nat.le_refl _), Nat.sub_self, Nat.pow_zero, Nat.div_one]
/-- the start matrix (or its flag) stands for the plans in Q -/
def dt_start (n : Nat) (fb : Int32) (st : Nat → Int32) (Q : Nat → Prop) : Prop :=
  (fb = 0 ∧ dt_Clo n (dt_D st 0) ∧ ∀ t, t n = 0 → (dt_Sat (dt_D st 0) t ↔ dt_box t ∧ Q (dt_nm t n))) ∨ (fb = 1 ∧ ∀ k, k < 8 ^ n → ¬ Q k)
theorem dt_start_cg {n : Nat} {fb : Int32} {st : Nat → Int32} {Q Q' : Nat → Prop} (h : dt_start n fb st Q) (hn : n < 5) (e : ∀ k, k < 8 ^ n → (Q' k ↔ Q k)) : dt_start n fb st Q' := by
  rcases h with ⟨h1, h2, h3⟩ | ⟨h1, h2⟩
  · refine Or.inl ⟨h1, h2, fun t h0 => ?_⟩
    rw [h3 t h0]
    constructor
    · rintro ⟨a, b⟩
      exact ⟨a, (e _ (dt_nm_lt a n (by omega))).mpr b⟩
    · rintro ⟨a, b⟩
      exact ⟨a, (e _ (dt_nm_lt a n (by omega))).mp b⟩
  · exact Or.inr ⟨h1, fun k hk q => h2 k hk ((e k hk).mp q)⟩
theorem dt_op_start {n : Nat} {st : Nat → Int32} (hn : n < 5) (h : ∀ p q, p < 5 → q < 5 → dt_D st 0 p q = dt_op n p q) : dt_start n 0 st (fun _ => True) := by
  refine Or.inl ⟨rfl, ⟨fun p hp => ?_, fun p q r hp hq hr => ?_, fun p hp => ?_⟩, fun t h0 => ⟨fun s => ⟨fun p hp => ?_, trivial⟩, fun b p q hp hq => ?_⟩⟩
  · rw [h p p hp hp]
    exact if_pos (Or.inl rfl)
  · rw [h p q hp hq, h p r hp hr, h r q hr hq]
    unfold dt_op
    split <;> split <;> split <;> omega
  · rw [h p n hp hn, h n p hn hp]
    unfold dt_op
    rw [if_pos (c := n = p ∨ n = n) (Or.inr rfl)]
    split <;> omega
  · have a := s p n hp hn
    have c := s n p hn hp
    rw [h p n hp hn] at a
    rw [h n p hn hp] at c
    unfold dt_op at a c
    rw [if_pos (Or.inr rfl)] at c
    split at a <;> omega
  · rw [h p q hp hq]
    have a := b.1 p hp
    have c := b.1 q hq
    unfold dt_op
    split
    · rename_i g
      rcases g with g | g
      · subst g
        omega
      · subst g
        omega
    · omega
section
variable {fn fc fd fa fs fb fz : Int32} {en bg li sz de db dl st ma tu : Nat → Int32}
theorem dt_open_s {post : SX → Prop} {n : Nat} (hn : n < 5)
    (H : ∀ st' : Nat → Int32, dt_start n 0 st' (fun _ => True) → post (nI n, fc, fd, fa, fs, 0, fz, en, bg, li, sz, de, db, dl, st', ma, tu)) : wpX_openStart post (nI n, fc, fd, fa, fs, fb, fz, en, bg, li, sz, de, db, dl, st, ma, tu) :=
  dt_open hn fun st' h => H st' (dt_op_start hn h)
theorem dt_tstart {post : SX → Prop} {n i j : Nat} {l : Int32} {Q : Nat → Prop} (hn : n < 5) (hi : i ≤ n) (hj : j ≤ n) (hl : -11 ≤ l.toInt ∧ l.toInt ≤ 10) (hS : dt_start n fb st Q)
    (H : ∀ (fb' : Int32) (st' : Nat → Int32), dt_start n fb' st' (fun k => Q k ∧ dt_pt n k i - dt_pt n k j ≤ l.toInt) → post (fn, fc, fd, fa, fs, fb', fz, en, bg, li, sz, de, db, dl, st', ma, tu)) : wpX_tightenStart post (fn, fc, fd, fa, fs, fb, fz, en, bg, li, sz, de, db, dl, st, ma, tu) (nI i) (nI j) l := by
  rcases hS with ⟨h1, hC, hQ⟩ | ⟨h1, h2⟩
  · subst h1
    have e1 := dt_ix0 i j
    have e2 := dt_ix0 j i
    have c1 : ((5 * nI i) + nI j).toNatClampNeg = 0 + (5 * i + j) := pk_cl _ e1
    have c2 : ((5 * nI j) + nI i).toNatClampNeg = 0 + (5 * j + i) := pk_cl _ e2
    have d1 : (st (0 + (5 * i + j))).toInt = dt_D st 0 i j := (dt_Da (by omega) (by omega)).symm
    have d2 : (st (0 + (5 * j + i))).toInt = dt_D st 0 j i := (dt_Da (by omega) (by omega)).symm
    have b2 := dt_bd hn hC (p := j) (q := i) (by omega) (by omega)
    have w : (st (0 + (5 * j + i)) + l).toInt = dt_D st 0 j i + l.toInt := by
      rw [dt_sum (by rw [d2]; exact b2) hl, d2]
    refine br_t rfl ⟨pk_in _ 25 (by omega) e1, br_c (fun hc => ⟨pk_in _ 25 (by omega) e2, br_c (fun h0 => ?_) (fun h0 => ?_)⟩) (fun hc => ?_)⟩
    · rw [c2, Int32.le_iff_toInt_le, w] at h0
      have h0' : 0 ≤ dt_D st 0 j i + l.toInt := h0
      refine Exists.intro 26 (dt_tstart46 (D := dt_D st 0) (by omega) (by omega) hl (fun p q hp hq => dt_bd hn hC hp hq) h0' (fun st' hT => H 0 st' ?_) 25 0 rfl st (fun p q hp hq => ?_))
      · refine Or.inl ⟨rfl, dt_tig_clo hn hC (by omega) (by omega) h0' hT, fun t t0 => ?_⟩
        rw [dt_tig_sat hC (by omega) (by omega) hT t, hQ t t0]
        constructor
        · rintro ⟨⟨a, b⟩, c⟩
          refine ⟨a, b, ?_⟩
          rw [dt_back a hn t0 hi, dt_back a hn t0 hj]
          exact c
        · rintro ⟨a, b, c⟩
          rw [dt_back a hn t0 hi, dt_back a hn t0 hj] at c
          exact ⟨⟨a, b⟩, c⟩
      · rw [if_neg (by omega)]
    · rw [c2, Int32.le_iff_toInt_le, w] at h0
      have h0' : ¬ 0 ≤ dt_D st 0 j i + l.toInt := h0
      refine H 1 st (Or.inr ⟨rfl, fun k hk q => ?_⟩)
      have s : dt_Sat (dt_D st 0) (dt_pt n k) := (hQ _ (dt_ptn n k)).mpr ⟨dt_ptbox n k, by rw [dt_fwd hk]; exact q.1⟩
      exact dt_tig_no (by omega) (by omega) h0' s q.2
    · rw [c1, Int32.lt_iff_toInt_lt, d1] at hc
      refine H 0 st (Or.inl ⟨rfl, hC, fun t t0 => ?_⟩)
      constructor
      · intro s
        have a := (hQ t t0).mp s
        refine ⟨a.1, a.2, ?_⟩
        rw [dt_back a.1 hn t0 hi, dt_back a.1 hn t0 hj]
        have := s i j (by omega) (by omega)
        omega
      · rintro ⟨a, b, _⟩
        exact (hQ t t0).mpr ⟨a, b⟩
  · subst h1
    exact br_f (by decide) (H 1 st (Or.inr ⟨rfl, fun k hk q => h2 k hk q.1⟩))
end
theorem dt_altn {e b l z : Nat → Int32} {fs : Int32} {D : Nat → Nat → Int} {d y : Nat} {t : Nat → Int} (h : ¬ dt_any e b l z fs D d) : dt_alt e b l z fs D d y t ↔ ∃ a, y ≤ a ∧ a < (z d).toNatClampNeg ∧ dt_al e b l (3 * d + a) t := by
  constructor
  · rintro (⟨q, _⟩ | ⟨_, q⟩)
    · exact absurd q h
    · exact q
  · intro q
    exact Or.inr ⟨h, q⟩
theorem dt_alty {e b l z : Nat → Int32} {fs : Int32} {D : Nat → Nat → Int} {d y : Nat} {t : Nat → Int} (h : dt_any e b l z fs D d) : dt_alt e b l z fs D d y t ↔ y = 0 := by
  constructor
  · rintro (⟨_, q⟩ | ⟨q, _⟩)
    · exact q
    · exact absurd h q
  · intro q
    exact Or.inl ⟨h, q⟩
section
variable {fn fc fd fa fs fb fz : Int32} {en bg li sz de db dl st ma tu : Nat → Int32}
theorem dt_go145 {post : Int32 → SX → Prop} {n d y0 s : Nat} {D : Nat → Nat → Int} {ma0 tu0 : Nat → Int32} (hn : n < 5) (hd : d < 8) (hs : s ≤ 3) (es : sz d = nI s) (ok : ∀ a, a < s → dt_alok n en bg li (3 * d + a)) (eD : D = dt_D ma (25 * d)) (hC : dt_Clo n D) (hN : ¬ dt_any en bg li sz fs D d)
    (H0 : ∀ ma' tu' : Nat → Int32, (∀ x, x < 25 * (d + 1) → ma' x = ma x) → (∀ x, x ≠ d → tu' x = tu0 x) → (∀ t, dt_Sat D t → ¬ dt_alt en bg li sz fs D d y0 t) → post 0 (fn, fc, fd, fa, fs, fb, fz, en, bg, li, sz, de, db, dl, st, ma', tu'))
    (H1 : ∀ (ma' tu' : Nat → Int32) (y : Nat), (∀ x, x < 25 * (d + 1) → ma' x = ma x) → (∀ x, x ≠ d → tu' x = tu0 x) → tu' d = nI y → y0 < y → y ≤ 3 → dt_Clo n (dt_D ma' (25 * (d + 1))) → (∀ t, (dt_Sat D t ∧ dt_alt en bg li sz fs D d y0 t) ↔ (dt_Sat (dt_D ma' (25 * (d + 1))) t ∨ (dt_Sat D t ∧ dt_alt en bg li sz fs D d y t))) → post 1 (fn, fc, fd, fa, fs, fb, fz, en, bg, li, sz, de, db, dl, st, ma', tu')) :
    ∀ r j, j + r = 3 → ∀ (y : Nat) (tu : Nat → Int32), j ≤ y → y0 ≤ y → y ≤ 3 → tu d = nI y → (∀ x, x ≠ d → tu x = tu0 x) → (∀ t, dt_Sat D t → (dt_alt en bg li sz fs D d y0 t ↔ dt_alt en bg li sz fs D d y t)) → wX_goOn_145 post (nI d) (nI (25 * d)) (nI s) fn fc fd fa fs fb fz (r + 1) (nI j) en bg li sz de db dl st ma tu := by
  have none : ∀ y, s ≤ y → ∀ t, ¬ dt_alt en bg li sz fs D d y t := fun y hy t q => by
    obtain ⟨a, h1, h2, _⟩ := (dt_altn hN).mp q
    rw [es, nI_clamp (by omega)] at h2
    omega
  intro r
  induction r with
  | zero =>
    intro j hj y tu hjy hy0 hy3 ht hT hA
    have h : (3 : Int32) ≤ nI j := nI_le (a := 3) (by omega) (by omega)
    exact br_t h (H0 ma tu (fun _ _ => rfl) hT (fun t st q => none y (by omega) t ((hA t st).mp q)))
  | succ r ih =>
    intro j hj y tu hjy hy0 hy3 ht hT hA
    have h : ¬ (3 : Int32) ≤ nI j := nI_ge (b := 3) (by omega) (by decide)
    have hi9 : vp_in (nI d) 9 := vp_in_nI (by omega) (by decide)
    have cd : (nI d).toNatClampNeg = d := nI_clamp (by omega)
    have et : tu (nI d).toNatClampNeg = nI y := by rw [cd, ht]
    refine br_f h ⟨hi9, pk_le s y (fun hsy => ?_) (fun hsy => ?_) rfl et⟩
    · exact H0 ma tu (fun _ _ => rfl) hT (fun t st q => none y hsy t ((hA t st).mp q))
    · obtain ⟨i, k, hi, hk, ei, ek, l1, l2⟩ := ok y hsy
      have e6 : (3 * nI d) + tu (nI d).toNatClampNeg = nI (3 * d + y) := by
        rw [et]
        show nI 3 * nI d + nI y = _
        rw [pk_mul, nI_add]
      have c6 : (nI (3 * d + y)).toNatClampNeg = 3 * d + y := nI_clamp (by omega)
      have h24 : vp_in (nI (3 * d + y)) 24 := vp_in_nI (by omega) (by decide)
      have ix : (nI (25 * d) + 5 * bg (nI (3 * d + y)).toNatClampNeg) + en (nI (3 * d + y)).toNatClampNeg = nI (25 * d + (5 * k + i)) := by
        rw [c6, ei, ek]
        exact dt_ix _ _ _
      have ci : ((nI (25 * d) + 5 * bg (nI (3 * d + y)).toNatClampNeg) + en (nI (3 * d + y)).toNatClampNeg).toNatClampNeg = 25 * d + (5 * k + i) := pk_cl _ ix
      have dv : (ma (25 * d + (5 * k + i))).toInt = D k i := by
        rw [eD]
        exact (dt_Da (by omega) (by omega)).symm
      have bv := dt_bd hn hC (p := k) (q := i) (by omega) (by omega)
      have w : (ma (25 * d + (5 * k + i)) + li (3 * d + y)).toInt = D k i + (li (3 * d + y)).toInt := by
        rw [dt_sum (by rw [dv]; exact bv) (by omega), dv]
      have al : ∀ t : Nat → Int, dt_al en bg li (3 * d + y) t ↔ t i - t k ≤ (li (3 * d + y)).toInt := fun t => by
        unfold dt_al
        rw [ei, ek, nI_clamp (by omega), nI_clamp (by omega)]
      have sp : ∀ t, dt_alt en bg li sz fs D d y t ↔ dt_al en bg li (3 * d + y) t ∨ dt_alt en bg li sz fs D d (y + 1) t := fun t => by
        rw [dt_altn hN, dt_altn hN]
        constructor
        · rintro ⟨a, q1, q2, q3⟩
          rcases Nat.lt_or_ge y a with g | g
          · exact Or.inr ⟨a, g, q2, q3⟩
          · have : a = y := by omega
            subst this
            exact Or.inl q3
        · rintro (q | ⟨a, q1, q2, q3⟩)
          · exact ⟨y, Nat.le_refl _, by rw [es, nI_clamp (by omega)]; exact hsy, q⟩
          · exact ⟨a, by omega, q2, q3⟩
      refine ⟨hi9, nm_r (e' := nI (3 * d + y)) e6 ⟨hi9, ⟨hi9, nm_r (e' := upd tu d (nI (y + 1))) (by rw [et, cd, nI_1]) ⟨h24, ⟨h24, ⟨pk_in _ 225 (by omega) ix, ⟨h24, br_c (fun hc => ?_) (fun hc => ?_)⟩⟩⟩⟩⟩⟩⟩
      · rw [ci, c6, Int32.lt_iff_toInt_lt, w] at hc
        have hc' : ¬ 0 ≤ D k i + (li (3 * d + y)).toInt := by
          have : D k i + (li (3 * d + y)).toInt < 0 := hc
          omega
        refine nm_r (e' := nI (j + 1)) (nI_1 j) (ih (j + 1) (by omega) (y + 1) _ (by omega) (by omega) (by omega) pk_us (fun x hx => ?_) (fun t st => ?_))
        · rw [pk_un hx]
          exact hT x hx
        · rw [hA t st, sp t]
          constructor
          · rintro (q | q)
            · exact absurd ((al t).mp q) (dt_tig_no (by omega) (by omega) hc' st)
            · exact q
          · exact Or.inr
      · rw [ci, c6, Int32.lt_iff_toInt_lt, w] at hc
        have hc' : 0 ≤ D k i + (li (3 * d + y)).toInt := by
          have : ¬ D k i + (li (3 * d + y)).toInt < 0 := hc
          omega
        refine dt_copy hd (fun ma1 hA1 hD1 => ?_)
        refine And.intro h24 (And.intro h24 (And.intro h24 ?_))
        have D1 : dt_D ma1 (25 * d) = D := by
          rw [eD]
          exact dt_Dk fun x hx => hA1 x (by omega)
        have ee : en (nI (3 * d + y)).toNatClampNeg = nI i := by rw [c6, ei]
        have ek' : bg (nI (3 * d + y)).toNatClampNeg = nI k := by rw [c6, ek]
        have el : li (nI (3 * d + y)).toNatClampNeg = li (3 * d + y) := by rw [c6]
        rw [ee, ek', el]
        refine dt_tight hd (by omega) (by omega) (by omega) (fun p q hp hq => ?_) (fun p q hp hq => ?_) (fun ma2 hA2 hD2 => ?_)
        · rw [D1]
          exact dt_bd hn hC hp hq
        · rw [hD1 p q hp hq, ← eD, D1]
        · rw [D1] at hD2
          refine H1 ma2 (upd tu d (nI (y + 1))) (y + 1) (fun x hx => ?_) (fun x hx => ?_) pk_us (by omega) (by omega) (dt_tig_clo hn hC (by omega) (by omega) hc' hD2) (fun t => ?_)
          · rw [hA2 x hx, hA1 x hx]
          · rw [pk_un hx]
            exact hT x hx
          · rw [dt_tig_sat hC (by omega) (by omega) hD2 t]
            constructor
            · rintro ⟨st, q⟩
              rcases (sp t).mp ((hA t st).mp q) with g | g
              · exact Or.inl ⟨st, (al t).mp g⟩
              · exact Or.inr ⟨st, g⟩
            · rintro (⟨st, q⟩ | ⟨st, q⟩)
              · exact ⟨st, (hA t st).mpr ((sp t).mpr (Or.inl ((al t).mpr q)))⟩
              · exact ⟨st, (hA t st).mpr ((sp t).mpr (Or.inr q))⟩
theorem dt_go44 {post : Int32 → SX → Prop} {n d y0 s : Nat} {D : Nat → Nat → Int} (hn : n < 5) (hd : d < 8) (hs : s ≤ 3) (hsz : (sz d = nI s ∧ ∀ a, a < s → dt_alok n en bg li (3 * d + a)) ∨ (s = 0 ∧ nI d = fs)) (eD : D = dt_D ma (25 * d)) (hC : dt_Clo n D) (ht : tu d = nI y0) (hy : y0 ≤ 3)
    (H0 : ∀ ma' tu' : Nat → Int32, (∀ x, x < 25 * (d + 1) → ma' x = ma x) → (∀ x, x ≠ d → tu' x = tu x) → (∀ t, dt_Sat D t → ¬ dt_alt en bg li sz fs D d y0 t) → post 0 (fn, fc, fd, fa, fs, fb, fz, en, bg, li, sz, de, db, dl, st, ma', tu'))
    (H1 : ∀ (ma' tu' : Nat → Int32) (y : Nat), (∀ x, x < 25 * (d + 1) → ma' x = ma x) → (∀ x, x ≠ d → tu' x = tu x) → tu' d = nI y → y0 < y → y ≤ 3 → dt_Clo n (dt_D ma' (25 * (d + 1))) → (∀ t, (dt_Sat D t ∧ dt_alt en bg li sz fs D d y0 t) ↔ (dt_Sat (dt_D ma' (25 * (d + 1))) t ∨ (dt_Sat D t ∧ dt_alt en bg li sz fs D d y t))) → post 1 (fn, fc, fd, fa, fs, fb, fz, en, bg, li, sz, de, db, dl, st, ma', tu')) :
    ∀ r a, a + r = s → ∀ x4 : Int32, (x4 = 0 ∧ ¬ nI d = fs ∧ ∀ c, c < a → ¬ D (en (3 * d + c)).toNatClampNeg (bg (3 * d + c)).toNatClampNeg ≤ (li (3 * d + c)).toInt) ∨ (x4 = 1 ∧ dt_any en bg li sz fs D d) → wX_goOn_44 post (nI d) (nI (25 * d)) (nI s) fn fc fd fa fs fb fz en bg li sz de db dl st ma tu (r + 1) x4 (nI (3 * d + a)) := by
  have e3 : (3 * nI d) + nI s = nI (3 * d + s) := by
    show nI 3 * nI d + nI s = _
    rw [pk_mul, nI_add]
  have hi9 : vp_in (nI d) 9 := vp_in_nI (by omega) (by decide)
  have cd : (nI d).toNatClampNeg = d := nI_clamp (by omega)
  have et : tu (nI d).toNatClampNeg = nI y0 := by rw [cd, ht]
  intro r
  induction r with
  | zero =>
    intro a ha x4 hx
    refine pk_le (3 * d + s) (3 * d + a) (fun _ => ?_) (fun z => absurd z (by omega)) e3
    rcases hx with ⟨rfl, hk, hno⟩ | ⟨rfl, hany⟩
    · rcases hsz with ⟨es, ok⟩ | ⟨_, z⟩
      · refine br_t rfl (Exists.intro 4 (dt_go145 (ma0 := ma) (tu0 := tu) hn hd hs es ok eD hC ?_ H0 H1 3 0 rfl y0 tu (by omega) (by omega) hy ht (fun _ _ => rfl) (fun _ _ => Iff.rfl)))
        rintro (q | ⟨c, hc, q⟩)
        · exact hk q
        · rw [es, nI_clamp (by omega)] at hc
          exact hno c (by omega) q
      · exact absurd z hk
    · refine br_f (by decide) ⟨hi9, ⟨hi9, nm_r (e' := upd tu d (nI (y0 + 1))) (by rw [et, cd, nI_1]) (dt_copy hd (fun ma1 hA1 hD1 => ?_))⟩⟩
      have et1 : upd tu d (nI (y0 + 1)) (nI d).toNatClampNeg = nI (y0 + 1) := by rw [cd, pk_us]
      have D1 : dt_D ma1 (25 * (d + 1)) = D := by
        rw [eD]
        exact dt_De hD1
      refine And.intro hi9 (pk_eq (y0 + 1) 1 (fun hy1 => ?_) (fun hy1 => ?_) et1)
      · refine H1 ma1 _ (y0 + 1) hA1 (fun x hx => pk_un hx) pk_us (by omega) (by omega) (by rw [D1]; exact hC) (fun t => ?_)
        rw [D1, dt_alty hany, dt_alty hany]
        constructor
        · exact fun q => Or.inl q.1
        · rintro (q | ⟨_, q⟩)
          · exact ⟨q, by omega⟩
          · omega
      · refine H0 ma1 _ hA1 (fun x hx => pk_un hx) (fun t _ q => ?_)
        rw [dt_alty hany] at q
        omega
  | succ r ih =>
    intro a ha x4 hx
    refine pk_le (3 * d + s) (3 * d + a) (fun z => absurd z (by omega)) (fun _ => ?_) e3
    rcases hx with ⟨rfl, hk, hno⟩ | ⟨rfl, hany⟩
    · rcases hsz with ⟨es, ok⟩ | ⟨z, _⟩
      · obtain ⟨i, j, hi, hj, ei, ej, l1, l2⟩ := ok a (by omega)
        have h24 : vp_in (nI (3 * d + a)) 24 := vp_in_nI (by omega) (by decide)
        have c6 : (nI (3 * d + a)).toNatClampNeg = 3 * d + a := nI_clamp (by omega)
        have ix : (nI (25 * d) + 5 * en (nI (3 * d + a)).toNatClampNeg) + bg (nI (3 * d + a)).toNatClampNeg = nI (25 * d + (5 * i + j)) := by
          rw [c6, ei, ej]
          exact dt_ix _ _ _
        have ci : ((nI (25 * d) + 5 * en (nI (3 * d + a)).toNatClampNeg) + bg (nI (3 * d + a)).toNatClampNeg).toNatClampNeg = 25 * d + (5 * i + j) := pk_cl _ ix
        have dv : (ma (25 * d + (5 * i + j))).toInt = D i j := by
          rw [eD]
          exact (dt_Da (by omega) (by omega)).symm
        have dn : D (en (3 * d + a)).toNatClampNeg (bg (3 * d + a)).toNatClampNeg = D i j := by
          rw [ei, ej, nI_clamp (by omega), nI_clamp (by omega)]
        refine br_t rfl ⟨h24, ⟨h24, ⟨pk_in _ 225 (by omega) ix, ⟨h24, br_c (fun hc => ?_) (fun hc => ?_)⟩⟩⟩⟩
        · rw [ci, c6, Int32.lt_iff_toInt_lt, dv] at hc
          refine nm_r (e' := nI (3 * d + (a + 1))) (nI_1 _) (ih (a + 1) (by omega) 0 (Or.inl ⟨rfl, hk, fun c hcl => ?_⟩))
          rcases Nat.lt_or_ge c a with g | g
          · exact hno c g
          · have : c = a := by omega
            subst this
            rw [dn]
            omega
        · rw [ci, c6, Int32.lt_iff_toInt_lt, dv] at hc
          refine nm_r (e' := nI (3 * d + (a + 1))) (nI_1 _) (ih (a + 1) (by omega) 1 (Or.inr ⟨rfl, Or.inr ⟨a, ?_, ?_⟩⟩))
          · rw [es, nI_clamp (by omega)]
            omega
          · rw [dn]
            omega
      · omega
    · exact br_f (by decide) (nm_r (e' := nI (3 * d + (a + 1))) (nI_1 _) (ih (a + 1) (by omega) 1 (Or.inr ⟨rfl, hany⟩)))
theorem dt_goOn {post : Int32 → SX → Prop} {n d y0 : Nat} {D : Nat → Nat → Int} (hn : n < 5) (hd : d < 8) (ok : dt_ok n en bg li sz d) (eD : D = dt_D ma (25 * d)) (hC : dt_Clo n D) (ht : tu d = nI y0) (hy : y0 ≤ 3)
    (H0 : ∀ ma' tu' : Nat → Int32, (∀ x, x < 25 * (d + 1) → ma' x = ma x) → (∀ x, x ≠ d → tu' x = tu x) → (∀ t, dt_Sat D t → ¬ dt_alt en bg li sz fs D d y0 t) → post 0 (fn, fc, fd, fa, fs, fb, fz, en, bg, li, sz, de, db, dl, st, ma', tu'))
    (H1 : ∀ (ma' tu' : Nat → Int32) (y : Nat), (∀ x, x < 25 * (d + 1) → ma' x = ma x) → (∀ x, x ≠ d → tu' x = tu x) → tu' d = nI y → y0 < y → y ≤ 3 → dt_Clo n (dt_D ma' (25 * (d + 1))) → (∀ t, (dt_Sat D t ∧ dt_alt en bg li sz fs D d y0 t) ↔ (dt_Sat (dt_D ma' (25 * (d + 1))) t ∨ (dt_Sat D t ∧ dt_alt en bg li sz fs D d y t))) → post 1 (fn, fc, fd, fa, fs, fb, fz, en, bg, li, sz, de, db, dl, st, ma', tu')) :
    wpX_goOn post (fn, fc, fd, fa, fs, fb, fz, en, bg, li, sz, de, db, dl, st, ma, tu) (nI d) := by
  have e25 : (25 : Int32) * nI d = nI (25 * d) := pk_mul 25 d
  have e3 : (3 : Int32) * nI d = nI (3 * d + 0) := pk_mul 3 d
  refine nm_r (e' := nI (25 * d)) e25 (br_c (fun hk => ?_) (fun hk => ?_))
  · exact br_t hk (nm_r (e' := nI (3 * d + 0)) e3 (Exists.intro 1 (dt_go44 (s := 0) hn hd (by omega) (Or.inr ⟨rfl, hk⟩) eD hC ht hy H0 H1 0 0 rfl 1 (Or.inr ⟨rfl, Or.inl hk⟩))))
  · obtain ⟨s, hs, es, H⟩ := ok
    have es' : sz (nI d).toNatClampNeg = nI s := by rw [nI_clamp (by omega), es]
    refine ⟨vp_in_nI (by omega) (by decide), ?_⟩
    rw [es']
    exact br_f hk (nm_r (e' := nI (3 * d + 0)) e3 (Exists.intro (s + 1) (dt_go44 (s := s) hn hd hs (Or.inl ⟨es, H⟩) eD hC ht hy H0 H1 s 0 (Nat.zero_add _) 0 (Or.inl ⟨rfl, hk, fun c hc => absurd hc (Nat.not_lt_zero c)⟩))))
end
end
section
/-! the search -/
def dt_mode (n : Nat) (x1 x2 : Int32) (val : (Nat → Int) → Int) : Prop :=
  (∃ i j, i ≤ n ∧ j ≤ n ∧ x1 = nI i ∧ x2 = nI j ∧ val = fun t => t i - t j) ∨ (x1 = -1 ∧ val = fun _ => 0)
theorem dt_n1 : ¬ (0 : Int32) ≤ -1 := by decide
theorem dt_b01 {a b : Int32} (h : dt_ab a b) : narrow .boolean (.int a) = .int a := by
  rcases h with h | ⟨h, _⟩ <;> subst h <;> rfl
def dt_G (e k : Nat) : Nat := 1 + k * (1 + dt_F e)
theorem dt_G0 (e : Nat) : dt_G e 0 = 1 := by
  unfold dt_G
  rw [Nat.zero_mul]
theorem dt_Gs (e k : Nat) : dt_G e (k + 1) = dt_G e k + 1 + dt_F e := by
  unfold dt_G
  rw [Nat.succ_mul]
  omega
theorem dt_G3 (e : Nat) : dt_G e 3 = dt_F (e + 1) := by
  rw [dt_Gs, dt_Gs, dt_Gs, dt_G0]
  show _ = 4 + 3 * dt_F e
  omega
theorem dt_G1 (e k : Nat) : 1 ≤ dt_G e k := by
  unfold dt_G
  omega
section
variable {fn fc fd fa fs fb fz : Int32} {en bg li sz de db dl st ma tu : Nat → Int32}
theorem dt_s69 {post : Int32 → SX → Prop} {n d step f : Nat} {x1 x2 x3 : Int32} {val : (Nat → Int) → Int} (hn : n < 5) (hd : d ≤ 8) (hst : step < 40000) (hmode : dt_mode n x1 x2 val) (hC : dt_Clo n (dt_D ma (25 * d)))
    (K : ∀ z : Int32, -7 ≤ z.toInt → (∃ t, t n = 0 ∧ dt_Sat (dt_D ma (25 * d)) t ∧ val t = z.toInt) → (∀ t, dt_Sat (dt_D ma (25 * d)) t → val t ≤ z.toInt) → wX_search_105 post (wX_search_69 post x1 x2 f) x1 x2 x3 (nI d) (nI step) z fn fc fd fa fs fb fz en bg li sz de db dl st ma tu) :
    wX_search_69 post x1 x2 (f + 1) x3 (nI d) (nI step) fn fc fd fa fs fb fz en bg li sz de db dl st ma tu := by
  have h4 : ¬ (40000 : Int32) ≤ nI step := nI_ge (b := 40000) hst (by decide)
  refine br_f h4 (br_f (nI_pos (by omega)) ?_)
  rcases hmode with ⟨i, j, hi, hj, rfl, rfl, rfl⟩ | ⟨rfl, rfl⟩
  · have ix : ((25 * nI d) + (5 * nI i)) + nI j = nI (25 * d + (5 * i + j)) := by
      show ((nI 25 * nI d) + (5 * nI i)) + nI j = _
      rw [pk_mul]
      exact dt_ix _ _ _
    have ci : (((25 * nI d) + (5 * nI i)) + nI j).toNatClampNeg = 25 * d + (5 * i + j) := pk_cl _ ix
    refine br_t (nI_pos' (by omega)) ⟨pk_in _ 225 (by omega) ix, ?_⟩
    rw [ci]
    have dv : (ma (25 * d + (5 * i + j))).toInt = dt_D ma (25 * d) i j := (dt_Da (by omega) (by omega)).symm
    have bv := dt_bd hn hC (p := i) (q := j) (by omega) (by omega)
    refine K _ (by rw [dv]; exact bv.1) ?_ (fun t s => ?_)
    · rw [dv]
      exact dt_attain hn hC (by omega) (by omega)
    · rw [dv]
      exact s i j (by omega) (by omega)
  · refine br_f dt_n1 (K 0 (by decide) ?_ (fun t s => ?_))
    · obtain ⟨t, h1, h2, _⟩ := dt_attain hn hC hn hn
      exact ⟨t, h1, h2, rfl⟩
    · exact Int.le_refl _
theorem dt_node {post : Int32 → SX → Prop} {n m : Nat} {x1 x2 : Int32} {val : (Nat → Int) → Int} (hn : n < 5) (hm : m ≤ 8) (hmode : dt_mode n x1 x2 val) (ok : ∀ c, c < m → dt_ok n en bg li sz c) :
    ∀ e d, d + e = m → ∀ (x3 be : Int32) (ma tu : Nat → Int32) (step f : Nat), f + step = 40001 → step + dt_F e ≤ 40000 → dt_Clo n (dt_D ma (25 * d)) → dt_ab x3 be → tu d = nI 0 →
    (∀ (x3' be' : Int32) (ma' tu' : Nat → Int32) (step' f' : Nat), f' + step' = 40001 → step' ≤ step + dt_F e → (∀ x, x < 25 * (d + 1) → ma' x = ma x) → (∀ x, x < d → tu' x = tu x) → dt_upd n val (fun t => dt_Sat (dt_D ma (25 * d)) t ∧ dt_rest en bg li sz d m fs t) x3 be x3' be' → wX_search_69 post x1 x2 f' x3' (nI d + (-1)) (nI step') fn fc fd (nI m) fs fb be' en bg li sz de db dl st ma' tu') →
    (x1 = -1 → (∃ t, t n = 0 ∧ dt_Sat (dt_D ma (25 * d)) t ∧ dt_rest en bg li sz d m fs t) → ∀ (be' : Int32) (ma' tu' : Nat → Int32), post 1 (fn, fc, fd, nI m, fs, fb, be', en, bg, li, sz, de, db, dl, st, ma', tu')) →
    wX_search_69 post x1 x2 f x3 (nI d) (nI step) fn fc fd (nI m) fs fb be en bg li sz de db dl st ma tu := by
  intro e
  induction e with
  | zero =>
    intro d hd x3 be ma tu step f hf hF hC hab ht K KS
    have hF' : step + 1 ≤ 40000 := hF
    obtain ⟨f, rfl⟩ : ∃ g, f = g + 1 := ⟨f - 1, by omega⟩
    have hdm : d = m := by omega
    have rs : ∀ t, dt_rest en bg li sz d m fs t := fun t c h1 h2 => by omega
    refine dt_s69 hn (by omega) (by omega) hmode hC (fun z hz hx hle => ?_)
    have hx' : ∃ t, t n = 0 ∧ (dt_Sat (dt_D ma (25 * d)) t ∧ dt_rest en bg li sz d m fs t) ∧ val t = z.toInt := by
      obtain ⟨t, h1, h2, h3⟩ := hx
      exact ⟨t, h1, ⟨h2, rs t⟩, h3⟩
    have fin : ∀ be' : Int32, (z ≤ be ∧ be' = be) ∨ (¬ z ≤ be ∧ be' = z) → wX_search_137 post (wX_search_69 post x1 x2 f) x1 x2 1 (nI d) (nI step) be' fn fc fd (nI m) fs fb be en bg li sz de db dl st ma tu := fun be' hb => by
      refine br_c (fun _ => nm_e (nm_r (e' := nI (step + 1)) (nI_1 step) ?_)) (fun hneg => And.intro rfl ?_)
      · exact K 1 be' ma tu (step + 1) f (by omega) (Nat.le_refl _) (fun _ _ => rfl) (fun _ _ => rfl) (dt_upd_leaf hab hz hx' (fun t h0 hp => hle t hp.1) hb)
      · refine KS ?_ ?_ be' ma tu
        · rcases hmode with ⟨i, j, hi, hj, rfl, _⟩ | ⟨h, _⟩
          · exact absurd (nI_pos' (by omega)) hneg
          · exact h
        · obtain ⟨t, h1, h2, _⟩ := hx'
          exact ⟨t, h1, h2⟩
    exact br_t (congrArg nI hdm) (br_c (fun h => fin be (Or.inl ⟨h, rfl⟩)) (fun h => fin z (Or.inr ⟨h, rfl⟩)))
  | succ e ih =>
    intro d hd x3 be ma tu step f hf hF hC hab ht K KS
    have hdm : d < m := by omega
    have inner : ∀ k y, 3 ≤ y + k → y ≤ 3 → ∀ (x3 be : Int32) (ma1 tu1 : Nat → Int32) (step1 f1 : Nat), f1 + step1 = 40001 → step1 + dt_G e k ≤ 40000 → dt_D ma1 (25 * d) = dt_D ma (25 * d) → dt_ab x3 be → tu1 d = nI y →
        (∀ (x3' be' : Int32) (ma' tu' : Nat → Int32) (step' f' : Nat), f' + step' = 40001 → step' ≤ step1 + dt_G e k → (∀ x, x < 25 * (d + 1) → ma' x = ma1 x) → (∀ x, x < d → tu' x = tu1 x) → dt_upd n val (fun t => dt_Sat (dt_D ma (25 * d)) t ∧ dt_rest en bg li sz (d + 1) m fs t ∧ dt_alt en bg li sz fs (dt_D ma (25 * d)) d y t) x3 be x3' be' → wX_search_69 post x1 x2 f' x3' (nI d + (-1)) (nI step') fn fc fd (nI m) fs fb be' en bg li sz de db dl st ma' tu') →
        (x1 = -1 → (∃ t, t n = 0 ∧ dt_Sat (dt_D ma (25 * d)) t ∧ dt_rest en bg li sz (d + 1) m fs t ∧ dt_alt en bg li sz fs (dt_D ma (25 * d)) d y t) → ∀ (be' : Int32) (ma' tu' : Nat → Int32), post 1 (fn, fc, fd, nI m, fs, fb, be', en, bg, li, sz, de, db, dl, st, ma', tu')) →
        wX_search_69 post x1 x2 f1 x3 (nI d) (nI step1) fn fc fd (nI m) fs fb be en bg li sz de db dl st ma1 tu1 := by
      intro k
      induction k with
      | zero =>
        intro y hy hy3 x3 be ma1 tu1 step1 f1 hf1 hF1 hD1 hab1 ht1 K1 KS1
        rw [dt_G0] at hF1 K1
        obtain ⟨f1, rfl⟩ : ∃ g, f1 = g + 1 := ⟨f1 - 1, by omega⟩
        refine dt_s69 hn (by omega) (by omega) hmode (by rw [hD1]; exact hC) (fun z hz hx hle => ?_)
        rw [hD1] at hx hle
        have go : wX_search_172 post (wX_search_69 post x1 x2 f1) x1 x2 x3 (nI d) (nI step1) fn fc fd (nI m) fs fb be en bg li sz de db dl st ma1 tu1 := by
          refine dt_goOn hn (by omega) (ok d hdm) hD1.symm hC ht1 hy3 (fun ma2 tu2 hA2 hT2 hno => ?_) (fun ma2 tu2 y2 hA2 hT2 ht2 hy2 hy23 hC2 hiff => ?_)
          · exact br_t rfl (nm_e (nm_r (e' := nI (step1 + 1)) (nI_1 step1) (K1 x3 be ma2 tu2 (step1 + 1) f1 (by omega) (by omega) hA2 (fun x hx => hT2 x (by omega)) (dt_upd_no fun t _ hp => hno t hp.1 hp.2.2))))
          · omega
        exact br_f (fun q => by have := (nI_eq (by omega) (by omega)).mp q; omega) (br_c (fun _ => go) (fun h3 => br_c (fun _ => go) (fun hb => nm_e (nm_r (e' := nI (step1 + 1)) (nI_1 step1) (K1 x3 be ma1 tu1 (step1 + 1) f1 (by omega) (by omega) (fun _ _ => rfl) (fun _ _ => rfl) (dt_upd_cut (hab1.elim id (fun q => absurd q.1 h3)) fun t _ hp => by
          have := hle t hp.1
          rw [Int32.lt_iff_toInt_lt] at hb
          omega))))))
      | succ k ihk =>
        intro y hy hy3 x3 be ma1 tu1 step1 f1 hf1 hF1 hD1 hab1 ht1 K1 KS1
        rw [dt_Gs] at hF1 K1
        have hG1 := dt_G1 e k
        obtain ⟨f1, rfl⟩ : ∃ g, f1 = g + 1 := ⟨f1 - 1, by omega⟩
        refine dt_s69 hn (by omega) (by omega) hmode (by rw [hD1]; exact hC) (fun z hz hx hle => ?_)
        rw [hD1] at hx hle
        have go : wX_search_172 post (wX_search_69 post x1 x2 f1) x1 x2 x3 (nI d) (nI step1) fn fc fd (nI m) fs fb be en bg li sz de db dl st ma1 tu1 := by
          refine dt_goOn hn (by omega) (ok d hdm) hD1.symm hC ht1 hy3 (fun ma2 tu2 hA2 hT2 hno => ?_) (fun ma2 tu2 y2 hA2 hT2 ht2 hy2 hy23 hC2 hiff => ?_)
          · exact br_t rfl (nm_e (nm_r (e' := nI (step1 + 1)) (nI_1 step1) (K1 x3 be ma2 tu2 (step1 + 1) f1 (by omega) (by omega) hA2 (fun x hx => hT2 x (by omega)) (dt_upd_no fun t _ hp => hno t hp.1 hp.2.2))))
          · have c1 : (nI (d + 1)).toNatClampNeg = d + 1 := nI_clamp (by omega)
            refine br_f (by decide) (nm_r (e' := nI (d + 1)) (nI_1 d) ⟨vp_in_nI (by omega) (by decide), nm_r (e' := upd tu2 (d + 1) (nI 0)) (by rw [c1]; rfl) (nm_r (e' := nI (step1 + 1)) (nI_1 step1) ?_)⟩)
            refine ih (d + 1) (by omega) x3 be ma2 (upd tu2 (d + 1) (nI 0)) (step1 + 1) f1 (by omega) (by omega) hC2 hab1 pk_us (fun x3' be' ma' tu' step' f' hf' hs' hma htu hup => ?_) (fun h1 hex be' ma' tu' => ?_)
            · rw [pk_m1]
              have hma1 : ∀ x, x < 25 * (d + 1) → ma' x = ma1 x := fun x hx => by
                rw [hma x (by omega), hA2 x hx]
              refine ihk y2 (by omega) hy23 x3' be' ma' tu' step' f' hf' (by omega) ?_ (dt_ab_upd hup hab1) ?_ (fun x3'' be'' ma'' tu'' step'' f'' hf'' hs'' hma'' htu'' hup'' => ?_) (fun h1 hex be'' ma'' tu'' => ?_)
              · rw [← hD1]
                exact dt_Dk fun x hx => hma1 x (by omega)
              · rw [htu d (by omega), pk_un (by omega), ht2]
              · refine K1 x3'' be'' ma'' tu'' step'' f'' hf'' (by omega) (fun x hx => ?_) (fun x hx => ?_) (dt_upd_and hup hup'' (fun t _ => ?_))
                · rw [hma'' x hx, hma1 x hx]
                · rw [htu'' x hx, htu x (by omega), pk_un (by omega), hT2 x (by omega)]
                · constructor
                  · rintro ⟨q1, q2, q3⟩
                    rcases (hiff t).mp ⟨q1, q3⟩ with g | g
                    · exact Or.inl ⟨g, q2⟩
                    · exact Or.inr ⟨g.1, q2, g.2⟩
                  · rintro (⟨q1, q2⟩ | ⟨q1, q2, q3⟩)
                    · have g := (hiff t).mpr (Or.inl q1)
                      exact ⟨g.1, q2, g.2⟩
                    · have g := (hiff t).mpr (Or.inr ⟨q1, q3⟩)
                      exact ⟨g.1, q2, g.2⟩
              · obtain ⟨t, t0, q1, q2, q3⟩ := hex
                have g := (hiff t).mpr (Or.inr ⟨q1, q3⟩)
                exact KS1 h1 ⟨t, t0, g.1, q2, g.2⟩ be'' ma'' tu''
            · obtain ⟨t, t0, q1, q2⟩ := hex
              have g := (hiff t).mpr (Or.inl q1)
              exact KS1 h1 ⟨t, t0, g.1, q2, g.2⟩ be' ma' tu'
        exact br_f (fun q => by have := (nI_eq (by omega) (by omega)).mp q; omega) (br_c (fun _ => go) (fun h3 => br_c (fun _ => go) (fun hb => nm_e (nm_r (e' := nI (step1 + 1)) (nI_1 step1) (K1 x3 be ma1 tu1 (step1 + 1) f1 (by omega) (by omega) (fun _ _ => rfl) (fun _ _ => rfl) (dt_upd_cut (hab1.elim id (fun q => absurd q.1 h3)) fun t _ hp => by
          have := hle t hp.1
          rw [Int32.lt_iff_toInt_lt] at hb
          omega))))))
    refine inner 3 0 (by omega) (by omega) x3 be ma tu step f hf (by rw [dt_G3]; exact hF) rfl hab ht (fun x3' be' ma' tu' step' f' hf' hs' hma htu hup => ?_) (fun h1 hex be' ma' tu' => ?_)
    · rw [dt_G3] at hs'
      refine K x3' be' ma' tu' step' f' hf' hs' hma htu (dt_upd_cg hup fun t _ => ?_)
      constructor
      · rintro ⟨q1, q2⟩
        exact ⟨q1, (dt_alt0 hn hdm (ok d hdm) q1).mpr q2⟩
      · rintro ⟨q1, q2⟩
        exact ⟨q1, (dt_alt0 hn hdm (ok d hdm) q1).mp q2⟩
    · obtain ⟨t, t0, q1, q2⟩ := hex
      exact KS h1 ⟨t, t0, q1, (dt_alt0 hn hdm (ok d hdm) q1).mp q2⟩ be' ma' tu'
/-- what a search answers -/
def dt_res (n : Nat) (val : (Nat → Int) → Int) (P : (Nat → Int) → Prop) (x1 r be : Int32) : Prop :=
  (r = 0 ∧ ∀ t, t n = 0 → ¬ P t) ∨ (r = 1 ∧ (∃ t, t n = 0 ∧ P t ∧ (x1 = -1 ∨ val t = be.toInt)) ∧ (x1 = -1 ∨ ∀ t, t n = 0 → P t → val t ≤ be.toInt))
theorem dt_s32 {post : Int32 → SX → Prop} {n m : Nat} {x1 x2 : Int32} {val : (Nat → Int) → Int} (hn : n < 5) (hm : m ≤ 8) (hmode : dt_mode n x1 x2 val) (ok : ∀ c, c < m → dt_ok n en bg li sz c) (hC : dt_Clo n (dt_D st 0)) {g : Nat → Nat → Int}
    (H : ∀ (r be' : Int32) (ma' tu' : Nat → Int32), dt_res n val (fun t => dt_Sat (dt_D st 0) t ∧ dt_rest en bg li sz 0 m fs t) x1 r be' → post r (fn, fc, fd, nI m, fs, fb, be', en, bg, li, sz, de, db, dl, st, ma', tu')) :
    ∀ r k, k + r = 25 → ∀ ma : Nat → Int32, dt_inv ma 0 k (dt_D st 0) g → wX_search_32 post x1 x2 0 0 fn fc fd (nI m) fs fb (-1000) (r + 1) (nI k) en bg li sz de db dl st ma tu := by
  intro r
  induction r with
  | zero =>
    intro k hk ma I
    have h : (25 : Int32) ≤ nI k := nI_le (a := 25) (by omega) (by omega)
    have eD : dt_D ma (25 * 0) = dt_D st 0 := dt_De (dt_inv_end I (by omega))
    refine br_t h (nm_e (Exists.intro 40001 (dt_node (n := n) (m := m) (val := val) hn hm hmode ok m 0 (Nat.zero_add _) 0 (-1000) ma (upd tu 0 0) 0 40001 rfl (by have := dt_F8 m hm; omega) (by rw [eD]; exact hC) (Or.inr ⟨rfl, by decide⟩) pk_us ?_ ?_)))
    · intro x3' be' ma' tu' step' f' hf' hs' hma htu hup
      have hF := dt_F8 m hm
      obtain ⟨f', rfl⟩ : ∃ g, f' = g + 1 := ⟨f' - 1, by omega⟩
      rw [eD] at hup
      have hneg : nI 0 + (-1) < 0 := by decide
      have hab := dt_ab_upd hup (Or.inr ⟨rfl, by decide⟩)
      have fin : narrow .boolean (.int x3') = .int x3' ∧ post x3' (fn, fc, fd, nI m, fs, fb, be', en, bg, li, sz, de, db, dl, st, ma', tu') := by
        refine ⟨dt_b01 hab, H x3' be' ma' tu' ?_⟩
        obtain ⟨u1, u2, _⟩ := hup
        rcases u1 with ⟨e1, e2⟩ | ⟨e1, t, t0, hp, hv⟩
        · refine Or.inl ⟨e1, fun t t0 hp => ?_⟩
          have := (u2 t t0 hp).1
          rw [e1] at this
          exact absurd this (by decide)
        · exact Or.inr ⟨e1, ⟨t, t0, hp, Or.inr hv⟩, Or.inr fun t t0 hp => (u2 t t0 hp).2⟩
      exact br_c (fun _ => fin) (fun _ => br_t hneg fin)
    · intro h1 hex be' ma' tu'
      obtain ⟨t, t0, hp⟩ := hex
      rw [eD] at hp
      exact H 1 be' ma' tu' (Or.inr ⟨rfl, ⟨t, t0, hp, Or.inl h1⟩, Or.inl h1⟩)
  | succ r ih =>
    intro k hk ma I
    have h : ¬ (25 : Int32) ≤ nI k := nI_ge (b := 25) (by omega) (by decide)
    have c3 : (nI k).toNatClampNeg = k := nI_clamp (by omega)
    refine br_f h ⟨vp_in_nI (by omega) (by decide), ⟨vp_in_nI (by omega) (by decide), nm_r (e' := upd ma k (st k)) (by rw [c3]) (nm_r (e' := nI (k + 1)) (nI_1 k) (ih (k + 1) (by omega) _ (dt_inv_up I (by omega) ?_)))⟩⟩
    rw [dt_Da (by omega) (by omega), show 0 + (5 * (k / 5) + k % 5) = k by omega]
theorem dt_search {post : Int32 → SX → Prop} {n m : Nat} {x1 x2 : Int32} {val : (Nat → Int) → Int} (hn : n < 5) (hm : m ≤ 8) (hmode : dt_mode n x1 x2 val) (ok : ∀ c, c < m → dt_ok n en bg li sz c) {Q : Nat → Prop} (hS : dt_start n fb st Q)
    (H : ∀ (r fa' be' : Int32) (ma' tu' : Nat → Int32), dt_res n val (fun t => dt_box t ∧ Q (dt_nm t n) ∧ dt_rest en bg li sz 0 m fs t) x1 r be' → post r (fn, nI m, fd, fa', fs, fb, be', en, bg, li, sz, de, db, dl, st, ma', tu')) :
    wpX_search post (fn, nI m, fd, fa, fs, fb, fz, en, bg, li, sz, de, db, dl, st, ma, tu) x1 x2 := by
  rcases hS with ⟨h1, hC, hQ⟩ | ⟨h1, h2⟩
  · refine br_t h1 (Exists.intro 26 (dt_s32 (n := n) (m := m) (val := val) hn hm hmode ok hC (g := dt_D ma 0) (fun r be' ma' tu' hr => H r (nI m) be' ma' tu' ?_) 25 0 rfl ma (dt_inv0 _ _ _)))
    have ee : ∀ t : Nat → Int, t n = 0 → ((dt_box t ∧ Q (dt_nm t n) ∧ dt_rest en bg li sz 0 m fs t) ↔ (dt_Sat (dt_D st 0) t ∧ dt_rest en bg li sz 0 m fs t)) := fun t t0 => by
      rw [hQ t t0]
      exact and_assoc.symm
    rcases hr with ⟨e1, e2⟩ | ⟨e1, ⟨t, t0, hp, hv⟩, e3⟩
    · exact Or.inl ⟨e1, fun t t0 hp => e2 t t0 ((ee t t0).mp hp)⟩
    · refine Or.inr ⟨e1, ⟨t, t0, (ee t t0).mpr hp, hv⟩, e3.imp id fun g t t0 hp => g t t0 ((ee t t0).mp hp)⟩
  · exact br_f (by rw [h1]; decide) (H 0 fa fz ma tu (Or.inl ⟨rfl, fun t t0 hp => h2 _ (dt_nm_lt hp.1 n (by omega)) hp.2.1⟩))
/-- a search for the greatest difference, by plans -/
theorem dt_searchA {post : Int32 → SX → Prop} {n m i j : Nat} (hn : n < 5) (hm : m ≤ 8) (hi : i ≤ n) (hj : j ≤ n) (ok : ∀ c, c < m → dt_ok n en bg li sz c) {Q : Nat → Prop} (hS : dt_start n fb st Q)
    (H0 : ∀ (fa' be' : Int32) (ma' tu' : Nat → Int32), (∀ k, k < 8 ^ n → Q k → ¬ dt_sol n en bg li sz m fs k) → post 0 (fn, nI m, fd, fa', fs, fb, be', en, bg, li, sz, de, db, dl, st, ma', tu'))
    (H1 : ∀ (fa' be' : Int32) (ma' tu' : Nat → Int32) (k : Nat), k < 8 ^ n → Q k → dt_sol n en bg li sz m fs k → be'.toInt = dt_pt n k i - dt_pt n k j → (∀ k', k' < 8 ^ n → Q k' → dt_sol n en bg li sz m fs k' → dt_pt n k' i - dt_pt n k' j ≤ be'.toInt) → post 1 (fn, nI m, fd, fa', fs, fb, be', en, bg, li, sz, de, db, dl, st, ma', tu')) :
    wpX_search post (fn, nI m, fd, fa, fs, fb, fz, en, bg, li, sz, de, db, dl, st, ma, tu) (nI i) (nI j) := by
  refine dt_search (n := n) (m := m) (val := fun t => t i - t j) hn hm (Or.inl ⟨i, j, hi, hj, rfl, rfl, rfl⟩) ok hS (fun r fa' be' ma' tu' hr => ?_)
  have nn : ¬ nI i = -1 := fun q => by
    have a := nI_pos' (n := i) (by omega)
    rw [q] at a
    exact absurd a (by decide)
  rcases hr with ⟨e1, e2⟩ | ⟨e1, ⟨t, t0, ⟨hb, hq, hr⟩, hv⟩, e3⟩
  · subst e1
    refine H0 fa' be' ma' tu' (fun k hk hq hs => e2 (dt_pt n k) (dt_ptn n k) ⟨dt_ptbox n k, ?_, hs⟩)
    rw [dt_fwd hk]
    exact hq
  · subst e1
    have bk : ∀ p, p ≤ n → dt_pt n (dt_nm t n) p = t p := fun p hp => dt_back hb hn t0 hp
    have hv' := hv.resolve_left nn
    refine H1 fa' be' ma' tu' (dt_nm t n) (dt_nm_lt hb n (by omega)) hq ((dt_rest_cg ok hn bk).mpr hr) ?_ (fun k' hk' hq' hs' => ?_)
    · rw [bk i hi, bk j hj]
      exact hv'.symm
    · refine e3.resolve_left nn (dt_pt n k') (dt_ptn n k') ⟨dt_ptbox n k', ?_, hs'⟩
      rw [dt_fwd hk']
      exact hq'
theorem dt_canMeet {post : Int32 → SX → Prop} {n m : Nat} (hn : n < 5) (hm : m ≤ 8) (ok : ∀ c, c < m → dt_ok n en bg li sz c) {Q : Nat → Prop} (hS : dt_start n fb st Q)
    (H0 : ∀ (fa' be' : Int32) (ma' tu' : Nat → Int32), (∀ k, k < 8 ^ n → Q k → ¬ dt_sol n en bg li sz m fs k) → post 0 (fn, nI m, fd, fa', fs, fb, be', en, bg, li, sz, de, db, dl, st, ma', tu'))
    (H1 : ∀ (fa' be' : Int32) (ma' tu' : Nat → Int32) (k : Nat), k < 8 ^ n → Q k → dt_sol n en bg li sz m fs k → post 1 (fn, nI m, fd, fa', fs, fb, be', en, bg, li, sz, de, db, dl, st, ma', tu')) :
    wpX_canMeet post (fn, nI m, fd, fa, fs, fb, fz, en, bg, li, sz, de, db, dl, st, ma, tu) := by
  refine dt_search (n := n) (m := m) (x1 := -1) (x2 := -1) (val := fun _ => 0) hn hm (Or.inr ⟨rfl, rfl⟩) ok hS (fun r fa' be' ma' tu' hr => ?_)
  rcases hr with ⟨e1, e2⟩ | ⟨e1, ⟨t, t0, ⟨hb, hq, hr⟩, hv⟩, e3⟩
  · subst e1
    refine And.intro rfl (H0 fa' be' ma' tu' (fun k hk hq hs => e2 (dt_pt n k) (dt_ptn n k) ⟨dt_ptbox n k, ?_, hs⟩))
    rw [dt_fwd hk]
    exact hq
  · subst e1
    have bk : ∀ p, p ≤ n → dt_pt n (dt_nm t n) p = t p := fun p hp => dt_back hb hn t0 hp
    exact And.intro rfl (H1 fa' be' ma' tu' (dt_nm t n) (dt_nm_lt hb n (by omega)) hq ((dt_rest_cg ok hn bk).mpr hr))
end
end
section
/-! the reference: what its methods answer, by plans -/
theorem dt_p8 {n : Nat} (hn : n < 5) : 8 ^ n ≤ 4096 := Nat.pow_le_pow_right (n := 8) (by decide) (show n ≤ 4 by omega)
theorem dt_dig {k q : Nat} (hk : k < 2 ^ 31) (hq : q < 10) : (nI k >>> (nI (3 * q) &&& 31)) &&& 7 = nI (k / 8 ^ q % 8) := by
  rw [pk_shrN hk _ (3 * q) (s_l (3 * q) (by omega)), pk_andN (Nat.lt_of_le_of_lt (Nat.div_le_self _ _) (by omega)) 3 (by decide), Nat.pow_mul]
theorem dt_sh3 {n p : Nat} (hp : p < n) : (3 : Int32) * ((nI n - 1) - nI p) = nI (3 * (n - 1 - p)) := by
  show nI 3 * ((nI n - nI 1) - nI p) = _
  rw [pk_sub (by omega), pk_sub (by omega), pk_mul]
section
variable {gn gp gd gc : Int32} {ys yl yr yb : Nat → Int32}
theorem dt_time {post : Int32 → Prop} {n k p : Nat} (hn : n < 5) (hp : p ≤ n) (hk : k < 8 ^ n) (H : post (nI (dt_pn n k p))) : wpY_time post (nI n, gp, gd, gc, ys, yl, yr, yb) (nI k) (nI p) := by
  have h8 := dt_p8 hn
  refine pk_lt p n (fun h => ?_) (fun h => ?_)
  · rw [dt_sh3 h, dt_dig (by omega) (by omega)]
    unfold dt_pn at H
    rw [if_pos h] at H
    exact H
  · unfold dt_pn at H
    rw [if_neg (by omega)] at H
    exact H
theorem dt_ymet2 {post : Int32 → Prop} {n k c s : Nat} (hn : n < 5) (hk : k < 8 ^ n) (hc : c < 9) (hs : s ≤ 3) (es : ys c = nI s) (ok : ∀ a, a < s → dt_alok n yl yr yb (3 * c + a))
    (H1 : dt_met yl yr yb ys c (dt_pt n k) → post 1) (H0 : ¬ dt_met yl yr yb ys c (dt_pt n k) → post 0) :
    ∀ r a, a + r = s → (∀ b, b < a → ¬ dt_al yl yr yb (3 * c + b) (dt_pt n k)) → wY_met_2 post (nI c) (nI k) (nI n) gp gd gc ys yl yr yb (r + 1) (nI a) := by
  have hc9 : vp_in (nI c) 9 := vp_in_nI hc (by decide)
  have e1 : ys (nI c).toNatClampNeg = nI s := by rw [nI_clamp (by omega), es]
  intro r
  induction r with
  | zero =>
    intro a ha hno
    refine And.intro hc9 (pk_le s a (fun _ => H0 ?_) (fun z => absurd z (by omega)) e1)
    rintro ⟨b, hb, q⟩
    rw [es, nI_clamp (by omega)] at hb
    exact hno b (by omega) q
  | succ r ih =>
    intro a ha hno
    have e2 : (3 * nI c) + nI a = nI (3 * c + a) := by
      show nI 3 * nI c + nI a = _
      rw [pk_mul, nI_add]
    have c2 : ((3 * nI c) + nI a).toNatClampNeg = 3 * c + a := pk_cl _ e2
    have h27 : vp_in ((3 * nI c) + nI a) 27 := pk_in _ 27 (by omega) e2
    obtain ⟨i, j, hi, hj, ei, ej, l1, l2⟩ := ok a (by omega)
    refine And.intro hc9 (pk_le s a (fun z => absurd z (by omega)) (fun _ => pk_le 3 a (fun z => absurd z (by omega)) (fun _ => ⟨h27, nm_r (e' := nI i) (by rw [c2, ei]) ⟨h27, nm_r (e' := nI j) (by rw [c2, ej]) (dt_time hn hi hk (dt_time hn hj hk ⟨h27, br_c (fun hlt => ?_) (fun hlt => ?_)⟩))⟩⟩)) e1)
    all_goals
      have p1 := dt_pn7 n k i
      have p2 := dt_pn7 n k j
      have al : dt_al yl yr yb (3 * c + a) (dt_pt n k) ↔ (dt_pn n k i : Int) - (dt_pn n k j : Int) ≤ (yb (3 * c + a)).toInt := by
        unfold dt_al
        rw [ei, ej, nI_clamp (by omega), nI_clamp (by omega)]
        exact Iff.rfl
      rw [c2, Int32.lt_iff_toInt_lt, pk_sub_toInt (by omega) (by omega)] at hlt
    · refine nm_r (e' := nI (a + 1)) (nI_1 a) (ih (a + 1) (by omega) (fun b hb => ?_))
      rcases Nat.lt_or_ge b a with g | g
      · exact hno b g
      · have : b = a := by omega
        subst this
        rw [al]
        omega
    · refine H1 ⟨a, ?_, al.mpr (by omega)⟩
      rw [es, nI_clamp (by omega)]
      omega
theorem dt_ymet {post : Int32 → Prop} {n k c : Nat} (hn : n < 5) (hk : k < 8 ^ n) (hc : c < 9) (ok : dt_ok n yl yr yb ys c)
    (H1 : dt_met yl yr yb ys c (dt_pt n k) → post 1) (H0 : ¬ dt_met yl yr yb ys c (dt_pt n k) → post 0) : wpY_met post (nI n, gp, gd, gc, ys, yl, yr, yb) (nI c) (nI k) := by
  obtain ⟨s, hs, es, H⟩ := ok
  exact Exists.intro (s + 1) (dt_ymet2 hn hk hc hs es H H1 H0 s 0 (Nat.zero_add _) (fun b hb => absurd hb (Nat.not_lt_zero b)))
theorem dt_first3 {post : Int32 → Prop} {n k m : Nat} {wo : Int32} (hn : n < 5) (hk : k < 8 ^ n) (hm : m ≤ 8) (ok : ∀ c, c < m → dt_ok n yl yr yb ys c)
    (H1 : dt_sol n yl yr yb ys m wo k → post 1) (H0 : ¬ dt_sol n yl yr yb ys m wo k → post 0) :
    ∀ r c, c + r = m → (∀ b, b < c → ¬ nI b = wo → dt_met yl yr yb ys b (dt_pt n k)) → wY_meetsFirst_3 post (nI k) (nI m) wo (nI n) gp gd gc ys yl yr yb (r + 1) (nI c) := by
  intro r
  induction r with
  | zero =>
    intro c hc ha
    exact pk_le m c (fun _ => H1 (fun b _ hb hw => ha b (by omega) hw)) (fun z => absurd z (by omega))
  | succ r ih =>
    intro c hc ha
    refine pk_le m c (fun z => absurd z (by omega)) (fun _ => pk_le 8 c (fun z => absurd z (by omega)) (fun _ => br_c (fun hw => ?_) (fun hw => ?_)))
    · refine nm_r (e' := nI (c + 1)) (nI_1 c) (ih (c + 1) (by omega) (fun b hb hbw => ?_))
      rcases Nat.lt_or_ge b c with g | g
      · exact ha b g hbw
      · have : b = c := by omega
        subst this
        exact absurd hw hbw
    · refine dt_ymet hn hk (by omega) (ok c (by omega)) (fun hmet => br_f (by decide) ?_) (fun hmet => br_t rfl (H0 fun q => hmet (q c (Nat.zero_le _) (by omega) hw)))
      refine nm_r (e' := nI (c + 1)) (nI_1 c) (ih (c + 1) (by omega) (fun b hb hbw => ?_))
      rcases Nat.lt_or_ge b c with g | g
      · exact ha b g hbw
      · have : b = c := by omega
        subst this
        exact hmet
theorem dt_first {post : Int32 → Prop} {n k m : Nat} {wo : Int32} (hn : n < 5) (hk : k < 8 ^ n) (hm : m ≤ 8) (ok : ∀ c, c < m → dt_ok n yl yr yb ys c)
    (H1 : dt_sol n yl yr yb ys m wo k → post 1) (H0 : ¬ dt_sol n yl yr yb ys m wo k → post 0) : wpY_meetsFirst post (nI n, gp, gd, gc, ys, yl, yr, yb) (nI k) (nI m) wo :=
  Exists.intro (m + 1) (dt_first3 hn hk hm ok H1 H0 m 0 (Nat.zero_add _) (fun b hb => absurd hb (Nat.not_lt_zero b)))
theorem dt_solu {post : Int32 → Prop} {n k m : Nat} (hn : n < 5) (hk : k < 8 ^ n) (hm : m ≤ 8) (ok : ∀ c, c < m → dt_ok n yl yr yb ys c)
    (H1 : dt_sol n yl yr yb ys m (-1) k → post 1) (H0 : ¬ dt_sol n yl yr yb ys m (-1) k → post 0) : wpY_solution post (nI n, gp, gd, nI m, ys, yl, yr, yb) (nI k) :=
  dt_first (post := fun r => narrow .boolean (.int r) = .int r ∧ post r) hn hk hm ok (fun h => ⟨rfl, H1 h⟩) (fun h => ⟨rfl, H0 h⟩)
theorem dt_poss {post : Int32 → Prop} {n m : Nat} (hn : n < 5) (hm : m ≤ 8) (ok : ∀ c, c < m → dt_ok n yl yr yb ys c)
    (H1 : ∀ k, k < 8 ^ n → dt_sol n yl yr yb ys m (-1) k → post 1) (H0 : (∀ k, k < 8 ^ n → ¬ dt_sol n yl yr yb ys m (-1) k) → post 0) : wpY_possible post (nI n, nI (8 ^ n), gd, gc, ys, yl, yr, yb) (nI m) := by
  have h8 := dt_p8 hn
  have L : ∀ r k, k + r = 8 ^ n → (∀ b, b < k → ¬ dt_sol n yl yr yb ys m (-1) b) → wY_possible_2 post (nI m) (nI n) (nI (8 ^ n)) gd gc ys yl yr yb (r + 1) (nI k) := by
    intro r
    induction r with
    | zero =>
      intro k hk ha
      exact pk_le (8 ^ n) k (fun _ => H0 fun b hb => ha b (by omega)) (fun z => absurd z (by omega))
    | succ r ih =>
      intro k hk ha
      refine pk_le (8 ^ n) k (fun z => absurd z (by omega)) (fun hkl => dt_first hn hkl hm ok (fun h => br_f (by decide) (H1 k hkl h)) (fun h => br_t rfl (nm_r (e' := nI (k + 1)) (nI_1 k) (ih (k + 1) (by omega) (fun b hb => ?_)))))
      rcases Nat.lt_or_ge b k with g | g
      · exact ha b g
      · have : b = k := by omega
        subst this
        exact h
  exact Exists.intro (8 ^ n + 1) (L (8 ^ n) 0 (Nat.zero_add _) (fun b hb => absurd hb (Nat.not_lt_zero b)))
/-- x is the greatest difference of i and j in the first k plans -/
def dt_gr (S : Nat → Prop) (n i j k : Nat) (x : Int32) : Prop :=
  (x = -200 ∧ ∀ b, b < k → ¬ S b) ∨ ((∃ b, b < k ∧ S b ∧ x.toInt = dt_pt n b i - dt_pt n b j) ∧ ∀ b, b < k → S b → dt_pt n b i - dt_pt n b j ≤ x.toInt)
theorem dt_great {post : Int32 → Prop} {n m i j : Nat} (hn : n < 5) (hm : m ≤ 8) (hi : i ≤ n) (hj : j ≤ n) (ok : ∀ c, c < m → dt_ok n yl yr yb ys c)
    (H : ∀ r, dt_gr (dt_sol n yl yr yb ys m (-1)) n i j (8 ^ n) r → post r) : wpY_greatest post (nI n, nI (8 ^ n), gd, nI m, ys, yl, yr, yb) (nI i) (nI j) := by
  have h8 := dt_p8 hn
  have L : ∀ r k, k + r = 8 ^ n → ∀ x : Int32, dt_gr (dt_sol n yl yr yb ys m (-1)) n i j k x → wY_greatest_7 post (nI i) (nI j) (nI n) (nI (8 ^ n)) gd (nI m) ys yl yr yb (r + 1) x (nI k) := by
    intro r
    induction r with
    | zero =>
      intro k hk x hx
      have : k = 8 ^ n := by omega
      subst this
      exact pk_le (8 ^ n) (8 ^ n) (fun _ => H x hx) (fun z => absurd z (by omega))
    | succ r ih =>
      intro k hk x hx
      refine pk_le (8 ^ n) k (fun z => absurd z (by omega)) (fun hkl => dt_time hn hi hkl (dt_time hn hj hkl (nm_e (br_c (fun hle => ?_) (fun hle => ?_)))))
      all_goals
        have p1 := dt_pn7 n k i
        have p2 := dt_pn7 n k j
        have ev : (nI (dt_pn n k i) - nI (dt_pn n k j)).toInt = dt_pt n k i - dt_pt n k j := by
          rw [pk_sub_toInt (by omega) (by omega)]
          rfl
        have bv : -7 ≤ dt_pt n k i - dt_pt n k j := by
          unfold dt_pt
          omega
        have m2 : (-200 : Int32).toInt = -200 := by decide
      · rw [Int32.le_iff_toInt_le, ev] at hle
        refine nm_r (e' := nI (k + 1)) (nI_1 k) (ih (k + 1) (by omega) x ?_)
        rcases hx with ⟨rfl, _⟩ | ⟨⟨b, hb, hs, hv⟩, ha⟩
        · omega
        · refine Or.inr ⟨⟨b, by omega, hs, hv⟩, fun c hc hs => ?_⟩
          rcases Nat.lt_or_ge c k with g | g
          · exact ha c g hs
          · have : c = k := by omega
            subst this
            exact hle
      · rw [Int32.le_iff_toInt_le, ev] at hle
        refine dt_solu hn hkl hm ok (fun hs => br_f (by decide) (nm_r (e' := nI (k + 1)) (nI_1 k) (ih (k + 1) (by omega) _ ?_))) (fun hs => br_t rfl (nm_r (e' := nI (k + 1)) (nI_1 k) (ih (k + 1) (by omega) x ?_)))
        · refine Or.inr ⟨⟨k, by omega, hs, ev⟩, fun c hc hsc => ?_⟩
          rw [ev]
          rcases Nat.lt_or_ge c k with g | g
          · rcases hx with ⟨_, ha⟩ | ⟨_, ha⟩
            · exact absurd hsc (ha c g)
            · have := ha c g hsc
              omega
          · have : c = k := by omega
            subst this
            exact Int.le_refl _
        · rcases hx with ⟨e, ha⟩ | ⟨⟨b, hb, hsb, hv⟩, ha⟩
          · refine Or.inl ⟨e, fun c hc => ?_⟩
            rcases Nat.lt_or_ge c k with g | g
            · exact ha c g
            · have : c = k := by omega
              subst this
              exact hs
          · refine Or.inr ⟨⟨b, by omega, hsb, hv⟩, fun c hc hsc => ?_⟩
            rcases Nat.lt_or_ge c k with g | g
            · exact ha c g hsc
            · have : c = k := by omega
              subst this
              exact absurd hsc hs
  exact Exists.intro (8 ^ n + 1) (L (8 ^ n) 0 (Nat.zero_add _) (-200) (Or.inl ⟨rfl, fun b hb => absurd hb (Nat.not_lt_zero b)⟩))
theorem dt_ynext {post : Int32 → Prop} {n m : Nat} {after : Int32} (hn : n < 5) (hm : m ≤ 8) (ok : ∀ c, c < m → dt_ok n yl yr yb ys c)
    (H1 : ∀ k : Nat, k < 8 ^ n → after.toInt < k → dt_sol n yl yr yb ys m (-1) k → (∀ b : Nat, b < k → after.toInt < b → ¬ dt_sol n yl yr yb ys m (-1) b) → post (nI k))
    (H0 : (∀ k : Nat, k < 8 ^ n → after.toInt < k → ¬ dt_sol n yl yr yb ys m (-1) k) → post (-1)) : wpY_next post (nI n, nI (8 ^ n), gd, nI m, ys, yl, yr, yb) after := by
  have h8 := dt_p8 hn
  have L : ∀ r k, k + r = 8 ^ n → (∀ b : Nat, b < k → after.toInt < b → ¬ dt_sol n yl yr yb ys m (-1) b) → wY_next_2 post after (nI n) (nI (8 ^ n)) gd (nI m) ys yl yr yb (r + 1) (nI k) := by
    intro r
    induction r with
    | zero =>
      intro k hk ha
      exact pk_le (8 ^ n) k (fun _ => H0 fun b hb => ha b (by omega)) (fun z => absurd z (by omega))
    | succ r ih =>
      intro k hk ha
      refine pk_le (8 ^ n) k (fun z => absurd z (by omega)) (fun hkl => br_c (fun hle => ?_) (fun hle => ?_))
      all_goals rw [Int32.le_iff_toInt_le, nI_toInt (by omega)] at hle
      · refine nm_r (e' := nI (k + 1)) (nI_1 k) (ih (k + 1) (by omega) (fun b hb hab => ?_))
        exact ha b (by omega) hab
      · refine dt_solu hn hkl hm ok (fun hs => br_f (by decide) (H1 k hkl (by omega) hs ha)) (fun hs => br_t rfl (nm_r (e' := nI (k + 1)) (nI_1 k) (ih (k + 1) (by omega) (fun b hb hab => ?_))))
        rcases Nat.lt_or_ge b k with g | g
        · exact ha b g hab
        · have : b = k := by omega
          subst this
          exact hs
  exact Exists.intro (8 ^ n + 1) (L (8 ^ n) 0 (Nat.zero_add _) (fun b hb => absurd hb (Nat.not_lt_zero b)))
/-- the plan ends by time l -/
def dt_fit (n k l : Nat) : Prop := ∀ e, e < n → dt_pn n k e ≤ l
/-- x is the shortest of the first k plans -/
def dt_sh (S : Nat → Prop) (n k : Nat) (x : Int32) : Prop :=
  (x = -1 ∧ ∀ b, b < k → ¬ S b) ∨ ∃ l, l ≤ 7 ∧ x = nI l ∧ (∃ b, b < k ∧ S b ∧ dt_fit n b l) ∧ ∀ b, b < k → S b → ∀ l', l' < l → ¬ dt_fit n b l'
theorem dt_ysh17 {post : Int32 → Prop} {J : Int32 → Int32 → Prop} {n m k : Nat} {x1 : Int32} (hn : n < 5) (hk : k < 8 ^ n)
    (K : ∀ l, l ≤ 7 → dt_fit n k l → (∀ l', l' < l → ¬ dt_fit n k l') → ∀ g, wY_shortest_17 post J x1 (nI k) (nI n) (nI (8 ^ n)) gd (nI m) ys yl yr yb (g + 1) (nI l) (nI n)) :
    ∀ r e, e + r = n → ∀ l, l ≤ 7 → (∀ a, a < e → dt_pn n k a ≤ l) → (∀ l', l' < l → ∃ a, a < e ∧ l' < dt_pn n k a) → wY_shortest_17 post J x1 (nI k) (nI n) (nI (8 ^ n)) gd (nI m) ys yl yr yb (r + 1) (nI l) (nI e) := by
  intro r
  induction r with
  | zero =>
    intro e he l hl h1 h2
    have : e = n := by omega
    subst this
    refine K l hl h1 (fun l' hl' hf => ?_) 0
    obtain ⟨a, ha, q⟩ := h2 l' hl'
    have := hf a ha
    omega
  | succ r ih =>
    intro e he l hl h1 h2
    have p1 := dt_pn7 n k e
    refine pk_le n e (fun z => absurd z (by omega)) (fun _ => dt_time hn (by omega) hk (pk_le (dt_pn n k e) l (fun hle => ?_) (fun hgt => dt_time hn (by omega) hk ?_)))
    · refine nm_r (e' := nI (e + 1)) (nI_1 e) (ih (e + 1) (by omega) l hl (fun a ha => ?_) (fun l' hl' => ?_))
      · rcases Nat.lt_or_ge a e with g | g
        · exact h1 a g
        · have : a = e := by omega
          subst this
          exact hle
      · obtain ⟨a, ha, q⟩ := h2 l' hl'
        exact ⟨a, by omega, q⟩
    · refine nm_r (e' := nI (e + 1)) (nI_1 e) (ih (e + 1) (by omega) (dt_pn n k e) p1 (fun a ha => ?_) (fun l' hl' => ?_))
      · rcases Nat.lt_or_ge a e with g | g
        · have := h1 a g
          omega
        · have : a = e := by omega
          subst this
          exact Nat.le_refl _
      · exact ⟨e, by omega, hl'⟩
theorem dt_yshort {post : Int32 → Prop} {n m : Nat} (hn : n < 5) (hm : m ≤ 8) (ok : ∀ c, c < m → dt_ok n yl yr yb ys c)
    (H : ∀ r, dt_sh (dt_sol n yl yr yb ys m (-1)) n (8 ^ n) r → post r) : wpY_shortest post (nI n, nI (8 ^ n), gd, nI m, ys, yl, yr, yb) := by
  have h8 := dt_p8 hn
  have L : ∀ r k, k + r = 8 ^ n → ∀ x : Int32, dt_sh (dt_sol n yl yr yb ys m (-1)) n k x → wY_shortest_4 post (nI n) (nI (8 ^ n)) gd (nI m) ys yl yr yb (r + 1) x (nI k) := by
    intro r
    induction r with
    | zero =>
      intro k hk x hx
      have : k = 8 ^ n := by omega
      subst this
      exact pk_le (8 ^ n) (8 ^ n) (fun _ => H x hx) (fun z => absurd z (by omega))
    | succ r ih =>
      intro k hk x hx
      refine pk_le (8 ^ n) k (fun z => absurd z (by omega)) (fun hkl => Exists.intro (n + 1) (dt_ysh17 hn hkl (fun l hl hf hnf g => ?_) n 0 (Nat.zero_add _) 0 (by omega) (fun a ha => absurd ha (Nat.not_lt_zero a)) (fun l' hl' => absurd hl' (Nat.not_lt_zero l'))))
      have s60 : (∀ b, b < k → dt_sol n yl yr yb ys m (-1) b → ∀ l', l' < l → ¬ dt_fit n b l') → wY_shortest_60 post (wY_shortest_4 post (nI n) (nI (8 ^ n)) gd (nI m) ys yl yr yb (r + 1)) x (nI k) (nI l) (nI n) (nI (8 ^ n)) gd (nI m) ys yl yr yb := fun hb => by
        refine dt_solu hn hkl hm ok (fun hs => br_f (by decide) (nm_r (e' := nI (k + 1)) (nI_1 k) (ih (k + 1) (by omega) _ (Or.inr ⟨l, hl, rfl, ⟨k, by omega, hs, hf⟩, fun b hbk hsb => ?_⟩)))) (fun hs => br_t rfl (nm_r (e' := nI (k + 1)) (nI_1 k) (ih (k + 1) (by omega) x ?_)))
        · rcases Nat.lt_or_ge b k with g | g
          · exact hb b g hsb
          · have : b = k := by omega
            subst this
            exact hnf
        · rcases hx with ⟨e, ha⟩ | ⟨l0, hl0, e, ⟨b, hb1, hsb, hfb⟩, ha⟩
          · refine Or.inl ⟨e, fun c hc => ?_⟩
            rcases Nat.lt_or_ge c k with g | g
            · exact ha c g
            · have : c = k := by omega
              subst this
              exact hs
          · refine Or.inr ⟨l0, hl0, e, ⟨b, by omega, hsb, hfb⟩, fun c hc hsc => ?_⟩
            rcases Nat.lt_or_ge c k with g | g
            · exact ha c g hsc
            · have : c = k := by omega
              subst this
              exact absurd hsc hs
      refine pk_le n n (fun _ => br_c (fun hneg => s60 ?_) (fun hpos => br_c (fun hle => ?_) (fun hle => s60 ?_))) (fun z => absurd z (by omega))
      · rcases hx with ⟨e, ha⟩ | ⟨l0, hl0, e, _, _⟩
        · exact fun b hb hsb => absurd hsb (ha b hb)
        · rw [e] at hneg
          exact absurd hneg (nI_pos (by omega))
      · rcases hx with ⟨e, ha⟩ | ⟨l0, hl0, e, ⟨b, hb1, hsb, hfb⟩, ha⟩
        · rw [e] at hpos
          exact absurd (by decide) hpos
        · rw [e, nI_leI (by omega) (by omega)] at hle
          refine nm_r (e' := nI (k + 1)) (nI_1 k) (ih (k + 1) (by omega) x (Or.inr ⟨l0, hl0, e, ⟨b, by omega, hsb, hfb⟩, fun c hc hsc => ?_⟩))
          rcases Nat.lt_or_ge c k with g | g
          · exact ha c g hsc
          · have : c = k := by omega
            subst this
            exact fun l' hl' => hnf l' (by omega)
      · rcases hx with ⟨e, ha⟩ | ⟨l0, hl0, e, ⟨b, hb1, hsb, hfb⟩, ha⟩
        · exact fun b hb hsb => absurd hsb (ha b hb)
        · rw [e, nI_leI (by omega) (by omega)] at hle
          exact fun b hb hsb l' hl' => ha b hb hsb l' (by omega)
  exact Exists.intro (8 ^ n + 1) (L (8 ^ n) 0 (Nat.zero_add _) (-1) (Or.inl ⟨rfl, fun b hb => absurd hb (Nat.not_lt_zero b)⟩))
theorem dt_yent {post : Int32 → Prop} {n m : Nat} (hn : n < 5) (hm : m ≤ 8) (ok : ∀ c, c < m → dt_ok n yl yr yb ys c) (ok8 : dt_ok n yl yr yb ys 8) (hd : ¬ gd = 0)
    (H0 : ∀ k, k < 8 ^ n → ¬ dt_met yl yr yb ys 8 (dt_pt n k) → dt_sol n yl yr yb ys m (-1) k → post 0)
    (H1 : (∀ k, k < 8 ^ n → ¬ dt_met yl yr yb ys 8 (dt_pt n k) → ¬ dt_sol n yl yr yb ys m (-1) k) → post 1) : wpY_entailed post (nI n, nI (8 ^ n), gd, nI m, ys, yl, yr, yb) := by
  have h8 := dt_p8 hn
  have L : ∀ r k, k + r = 8 ^ n → (∀ b, b < k → ¬ dt_met yl yr yb ys 8 (dt_pt n b) → ¬ dt_sol n yl yr yb ys m (-1) b) → wY_entailed_11 post (nI n) (nI (8 ^ n)) gd (nI m) ys yl yr yb (r + 1) (nI k) := by
    intro r
    induction r with
    | zero =>
      intro k hk ha
      exact pk_le (8 ^ n) k (fun _ => H1 fun b hb => ha b (by omega)) (fun z => absurd z (by omega))
    | succ r ih =>
      intro k hk ha
      refine pk_le (8 ^ n) k (fun z => absurd z (by omega)) (fun hkl => dt_ymet (c := 8) hn hkl (by decide) ok8 (fun hmet => br_f (by decide) (nm_r (e' := nI (k + 1)) (nI_1 k) (ih (k + 1) (by omega) (fun b hb hnb => ?_)))) (fun hmet => br_t rfl (dt_solu hn hkl hm ok (fun hs => br_f (by decide) (H0 k hkl hmet hs)) (fun hs => br_t rfl (nm_r (e' := nI (k + 1)) (nI_1 k) (ih (k + 1) (by omega) (fun b hb hnb => ?_)))))))
      · rcases Nat.lt_or_ge b k with g | g
        · exact ha b g hnb
        · have : b = k := by omega
          subst this
          exact absurd hmet hnb
      · rcases Nat.lt_or_ge b k with g | g
        · exact ha b g hnb
        · have : b = k := by omega
          subst this
          exact hs
  exact br_f hd (Exists.intro (8 ^ n + 1) (L (8 ^ n) 0 (Nat.zero_add _) (fun b hb => absurd hb (Nat.not_lt_zero b))))
theorem dt_yred {post : Int32 → Prop} {n m c : Nat} (hn : n < 5) (hm : m ≤ 8) (ok : ∀ c, c < m → dt_ok n yl yr yb ys c) (hc : c < m)
    (H0 : ∀ k, k < 8 ^ n → ¬ dt_met yl yr yb ys c (dt_pt n k) → dt_sol n yl yr yb ys m (nI c) k → post 0)
    (H1 : (∀ k, k < 8 ^ n → ¬ dt_met yl yr yb ys c (dt_pt n k) → ¬ dt_sol n yl yr yb ys m (nI c) k) → post 1) : wpY_redundant post (nI n, nI (8 ^ n), gd, nI m, ys, yl, yr, yb) (nI c) := by
  have h8 := dt_p8 hn
  have L : ∀ r k, k + r = 8 ^ n → (∀ b, b < k → ¬ dt_met yl yr yb ys c (dt_pt n b) → ¬ dt_sol n yl yr yb ys m (nI c) b) → wY_redundant_16 post (nI c) (nI n) (nI (8 ^ n)) gd (nI m) ys yl yr yb (r + 1) (nI k) := by
    intro r
    induction r with
    | zero =>
      intro k hk ha
      exact pk_le (8 ^ n) k (fun _ => H1 fun b hb => ha b (by omega)) (fun z => absurd z (by omega))
    | succ r ih =>
      intro k hk ha
      refine pk_le (8 ^ n) k (fun z => absurd z (by omega)) (fun hkl => dt_ymet (c := c) hn hkl (by omega) (ok c hc) (fun hmet => br_f (by decide) (nm_r (e' := nI (k + 1)) (nI_1 k) (ih (k + 1) (by omega) (fun b hb hnb => ?_)))) (fun hmet => br_t rfl (dt_first hn hkl hm ok (fun hs => br_f (by decide) (H0 k hkl hmet hs)) (fun hs => br_t rfl (nm_r (e' := nI (k + 1)) (nI_1 k) (ih (k + 1) (by omega) (fun b hb hnb => ?_)))))))
      · rcases Nat.lt_or_ge b k with g | g
        · exact ha b g hnb
        · have : b = k := by omega
          subst this
          exact absurd hmet hnb
      · rcases Nat.lt_or_ge b k with g | g
        · exact ha b g hnb
        · have : b = k := by omega
          subst this
          exact hs
  exact br_f (nI_pos (by omega)) (pk_lt c m (fun _ => Exists.intro (8 ^ n + 1) (L (8 ^ n) 0 (Nat.zero_add _) (fun b hb => absurd hb (Nat.not_lt_zero b)))) (fun z => absurd z (by omega)))
/-- the first many constraints can be met -/
def dt_can (n : Nat) (e b l z : Nat → Int32) (m : Nat) : Prop := ∃ k, k < 8 ^ n ∧ dt_sol n e b l z m (-1) k
theorem dt_yexc {post : Int32 → Prop} {n m : Nat} (hn : n < 5) (hm : m ≤ 8) (ok : ∀ c, c < m → dt_ok n yl yr yb ys c)
    (H : ∀ o, o ≤ m → (o < m → dt_can n yl yr yb ys (m - o)) → (∀ p, p < o → ¬ dt_can n yl yr yb ys (m - p)) → post (nI o)) : wpY_excess post (nI n, nI (8 ^ n), gd, nI m, ys, yl, yr, yb) := by
  have L : ∀ r o, o + r = m → (∀ p, p < o → ¬ dt_can n yl yr yb ys (m - p)) → wY_excess_2 post (nI n) (nI (8 ^ n)) gd (nI m) ys yl yr yb (r + 1) (nI o) := by
    intro r
    induction r with
    | zero =>
      intro o ho ha
      exact pk_le m o (fun _ => H o (by omega) (fun z => absurd z (by omega)) ha) (fun z => absurd z (by omega))
    | succ r ih =>
      intro o ho ha
      refine pk_le m o (fun z => absurd z (by omega)) (fun hol => ?_)
      rw [pk_sub (by omega)]
      refine dt_poss hn (by omega) (fun c hc => ok c (by omega)) (fun k hk hs => br_f (by decide) (H o (by omega) (fun _ => ⟨k, hk, hs⟩) ha)) (fun hno => br_t rfl (nm_r (e' := nI (o + 1)) (nI_1 o) (ih (o + 1) (by omega) (fun p hp => ?_))))
      rcases Nat.lt_or_ge p o with g | g
      · exact ha p g
      · have : p = o := by omega
        subst this
        rintro ⟨k, hk, hs⟩
        exact hno k hk hs
  exact Exists.intro (m + 1) (L m 0 (Nat.zero_add _) (fun b hb => absurd hb (Nat.not_lt_zero b)))
end
end
section
/-! the relation, and the methods that edit -/
/-- comparison x of the component and y of the reference are one -/
def dt_pr (n : Nat) (e b l yl yr yb : Nat → Int32) (x y : Nat) : Prop :=
  ∃ i j, i ≤ n ∧ j ≤ n ∧ e x = nI i ∧ b x = nI j ∧ yl y = nI i ∧ yr y = nI j ∧ l x = yb y ∧ -10 ≤ (l x).toInt ∧ (l x).toInt ≤ 10
def dt_cn (n : Nat) (e b l z yl yr yb ys : Nat → Int32) (c : Nat) : Prop :=
  ∃ s, s ≤ 3 ∧ z c = nI s ∧ ys c = nI s ∧ ∀ a, a < s → dt_pr n e b l yl yr yb (3 * c + a) (3 * c + a)
def dt_R (fn fc fd fs : Int32) (en bg li sz de db dl : Nat → Int32) (gn gp gd gc : Int32) (ys yl yr yb : Nat → Int32) : Prop :=
  ∃ n m d : Nat, 2 ≤ n ∧ n ≤ 4 ∧ m ≤ 8 ∧ d ≤ 3 ∧ ys 8 = nI d ∧ (∀ c, c < m → dt_cn n en bg li sz yl yr yb ys c) ∧ (∀ a, a < d → dt_pr n de db dl yl yr yb a (24 + a)) ∧
    fn = nI n ∧ fc = nI m ∧ fd = nI d ∧ fs = -1 ∧ gn = nI n ∧ gp = nI (8 ^ n) ∧ gd = nI d ∧ gc = nI m
def i_Rel (k : Nat) (u : SX) (v : SY) : Prop := match u, v with
  | (fn, fc, fd, fa, fs, fb, fz, en, bg, li, sz, de, db, dl, st, ma, tu), (gn, gp, gd, gc, ys, yl, yr, yb) => dt_R fn fc fd fs en bg li sz de db dl gn gp gd gc ys yl yr yb
section
variable {fn fc fd fa fs fb fz : Int32} {en bg li sz de db dl st ma tu : Nat → Int32}
variable {gn gp gd gc : Int32} {ys yl yr yb : Nat → Int32}
theorem dt_in {k n m d : Nat} (h1 : 2 ≤ n) (h2 : n ≤ 4) (h3 : m ≤ 8) (h4 : d ≤ 3) (h5 : ys 8 = nI d) (h6 : ∀ c, c < m → dt_cn n en bg li sz yl yr yb ys c) (h7 : ∀ a, a < d → dt_pr n de db dl yl yr yb a (24 + a)) :
    i_Rel k (nI n, nI m, nI d, fa, -1, fb, fz, en, bg, li, sz, de, db, dl, st, ma, tu) (nI n, nI (8 ^ n), nI d, nI m, ys, yl, yr, yb) :=
  Exists.intro n (Exists.intro m (Exists.intro d ⟨h1, h2, h3, h4, h5, h6, h7, rfl, rfl, rfl, rfl, rfl, rfl, rfl, rfl⟩))
end
theorem dt_el {k : Nat} {P : SX → SY → Prop} (h : ∀ (n m d : Nat) (fa fb fz : Int32) (en bg li sz de db dl st ma tu ys yl yr yb : Nat → Int32), 2 ≤ n → n ≤ 4 → m ≤ 8 → d ≤ 3 → ys 8 = nI d → (∀ c, c < m → dt_cn n en bg li sz yl yr yb ys c) → (∀ a, a < d → dt_pr n de db dl yl yr yb a (24 + a)) → P (nI n, nI m, nI d, fa, -1, fb, fz, en, bg, li, sz, de, db, dl, st, ma, tu) (nI n, nI (8 ^ n), nI d, nI m, ys, yl, yr, yb))
    {u : SX} {v : SY} (I : i_Rel k u v) : P u v := by
  match u, v, I with
  | (fn, fc, fd, fa, fs, fb, fz, en, bg, li, sz, de, db, dl, st, ma, tu), (gn, gp, gd, gc, ys, yl, yr, yb), I =>
    obtain ⟨n, m, d, h1, h2, h3, h4, h5, h6, h7, e1, e2, e3, e4, e5, e6, e7, e8⟩ := I
    subst e1 e2 e3 e4 e5 e6 e7 e8
    exact h n m d fa fb fz en bg li sz de db dl st ma tu ys yl yr yb h1 h2 h3 h4 h5 h6 h7
theorem i_up {k : Nat} {u : SX} {v : SY} (h : i_Rel k u v) : i_Rel (k + 4) u v := h
theorem dt_vc0n {k n : Nat} (h1 : 2 ≤ n) (h2 : n ≤ 4) (P : Int32) (hP : P = nI (8 ^ n)) : i_Rel k (nI n, 0, 0, 0, -1, 0, 0, (fun _ => 0), (fun _ => 0), (fun _ => 0), (fun _ => 0), (fun _ => 0), (fun _ => 0), (fun _ => 0), (fun _ => 0), (fun _ => 0), (fun _ => 0)) (nI n, P, 0, 0, (fun _ => 0), (fun _ => 0), (fun _ => 0), (fun _ => 0)) := by
  subst hP
  exact dt_in (m := 0) (d := 0) h1 h2 (by omega) (by omega) rfl (fun c hc => absurd hc (Nat.not_lt_zero c)) (fun c hc => absurd hc (Nat.not_lt_zero c))
theorem i_vc0 (k0 : Int32) : wpX_init (fun u => wpY_init (fun v => i_Rel 1 u v) k0) k0 := by
  by_cases h2 : (2 : Int32) ≤ k0
  · by_cases h4 : k0 ≤ 4
    · have a := Int32.le_iff_toInt_le.mp h2
      have b := Int32.le_iff_toInt_le.mp h4
      have t2 : (2 : Int32).toInt = 2 := by decide
      have t4 : (4 : Int32).toInt = 4 := by decide
      have hk : k0 = nI 2 ∨ k0 = nI 3 ∨ k0 = nI 4 := by
        rw [← Int32.toInt_inj, ← Int32.toInt_inj, ← Int32.toInt_inj, nI_toInt (by decide), nI_toInt (by decide), nI_toInt (by decide)]
        omega
      refine br_t h2 (br_t h4 (br_t h2 (br_t h4 (nm_e ?_))))
      rcases hk with rfl | rfl | rfl
      · exact dt_vc0n (n := 2) (by omega) (by omega) _ (by decide)
      · exact dt_vc0n (n := 3) (by omega) (by omega) _ (by decide)
      · exact dt_vc0n (n := 4) (by omega) (by omega) _ (by decide)
    · exact br_t h2 (br_f h4 (br_t h2 (br_f h4 (nm_e (dt_vc0n (n := 4) (by omega) (by omega) _ (by decide))))))
  · exact br_f h2 (br_t (by decide) (br_f h2 (nm_e (dt_vc0n (n := 2) (by omega) (by omega) _ (by decide)))))
theorem i_vc_events {k : Nat} {u : SX} {v : SY} (I : i_Rel k u v) (hk : k + 4 ≤ 2049) : wpX_events (fun r => wpY_events (fun r' => r' = r ∧ i_Rel (k + 4) u v) v) u := by
  refine dt_el (P := fun u v => wpX_events (fun r => wpY_events (fun r' => r' = r ∧ i_Rel (k + 4) u v) v) u) ?_ I
  intro n m d fa fb fz en bg li sz de db dl st ma tu ys yl yr yb h1 h2 h3 h4 h5 h6 h7
  exact And.intro rfl (dt_in h1 h2 h3 h4 h5 h6 h7)
theorem i_vc_size {k : Nat} {u : SX} {v : SY} (I : i_Rel k u v) (hk : k + 4 ≤ 2049) : wpX_size (fun r => wpY_size (fun r' => r' = r ∧ i_Rel (k + 4) u v) v) u := by
  refine dt_el (P := fun u v => wpX_size (fun r => wpY_size (fun r' => r' = r ∧ i_Rel (k + 4) u v) v) u) ?_ I
  intro n m d fa fb fz en bg li sz de db dl st ma tu ys yl yr yb h1 h2 h3 h4 h5 h6 h7
  exact And.intro rfl (dt_in h1 h2 h3 h4 h5 h6 h7)
/-- what the edits keep -/
theorem dt_cn_ys {n c : Nat} {e b l z yl yr yb ys ys' : Nat → Int32} (h : dt_cn n e b l z yl yr yb ys c) (hy : ys' c = ys c) : dt_cn n e b l z yl yr yb ys' c := by
  obtain ⟨s, hs, e1, e2, H⟩ := h
  exact ⟨s, hs, e1, by rw [hy, e2], H⟩
theorem i_vc_clear {k : Nat} {u : SX} {v : SY} (I : i_Rel k u v) (hk : k + 4 ≤ 2049) : wpX_clear (fun r u' => wpY_clear (fun r' v' => r' = r ∧ i_Rel (k + 4) u' v') v) u := by
  refine dt_el (P := fun u v => wpX_clear (fun r u' => wpY_clear (fun r' v' => r' = r ∧ i_Rel (k + 4) u' v') v) u) ?_ I
  intro n m d fa fb fz en bg li sz de db dl st ma tu ys yl yr yb h1 h2 h3 h4 h5 h6 h7
  refine nm_e (And.intro rfl (dt_in (d := 0) h1 h2 h3 (by omega) pk_us (fun c hc => dt_cn_ys (h6 c hc) (pk_un (by omega))) (fun a ha => absurd ha (Nat.not_lt_zero a))))
theorem dt_cp (x : Int32) {n : Nat} (hn : n < 5) : (x < 0 ∨ nI n < x) ∨ ∃ j, j ≤ n ∧ x = nI j := by
  by_cases h : x < 0
  · exact Or.inl (Or.inl h)
  · obtain ⟨j, hj, rfl⟩ := nI_of h
    rcases Nat.lt_or_ge n j with g | g
    · exact Or.inl (Or.inr (nI_lt g hj))
    · exact Or.inr ⟨j, g, rfl⟩
theorem dt_ce (x : Int32) {n : Nat} (hn : n < 9) : (x < 0 ∨ nI n ≤ x) ∨ ∃ j, j < n ∧ x = nI j := by
  by_cases h : x < 0
  · exact Or.inl (Or.inl h)
  · obtain ⟨j, hj, rfl⟩ := nI_of h
    rcases Nat.lt_or_ge j n with g | g
    · exact Or.inr ⟨j, g, rfl⟩
    · exact Or.inl (Or.inr (nI_le g hj))
theorem dt_ltle {x y : Int32} (h : x < y) : ¬ y ≤ x := by
  rw [Int32.lt_iff_toInt_lt] at h
  rw [Int32.le_iff_toInt_le]
  omega
theorem dt_lelt {x y : Int32} (h : x ≤ y) : ¬ y < x := by
  rw [Int32.le_iff_toInt_le] at h
  rw [Int32.lt_iff_toInt_lt]
  omega
section
variable {fn fc fd fa fs fb fz : Int32} {en bg li sz de db dl st ma tu : Nat → Int32}
variable {gn gp gd gc : Int32} {ys yl yr yb : Nat → Int32}
theorem dt_pt1 {post : Int32 → Prop} {n j : Nat} (hn : n < 5) (hj : j ≤ n) (H : post 1) : wpX_isPoint post (nI n, fc, fd, fa, fs, fb, fz, en, bg, li, sz, de, db, dl, st, ma, tu) (nI j) := br_f (nI_pos (by omega)) (br_f (nI_nlt hj (by omega)) H)
theorem dt_pt0 {post : Int32 → Prop} {n : Nat} {x : Int32} (h : x < 0 ∨ nI n < x) (H : post 0) : wpX_isPoint post (nI n, fc, fd, fa, fs, fb, fz, en, bg, li, sz, de, db, dl, st, ma, tu) x := br_c (fun _ => H) (fun h0 => br_t (h.resolve_left h0) H)
theorem dt_bp0 {post : Int32 → Prop} {n j : Nat} (hn : n < 5) (hj : j ≤ n) (H : post 0) : wpY_badPoint post (nI n, gp, gd, gc, ys, yl, yr, yb) (nI j) := br_f (nI_pos (by omega)) (br_t (nI_le hj (by omega)) H)
theorem dt_bp1 {post : Int32 → Prop} {n : Nat} {x : Int32} (h : x < 0 ∨ nI n < x) (H : post 1) : wpY_badPoint post (nI n, gp, gd, gc, ys, yl, yr, yb) x := br_c (fun _ => H) (fun h0 => br_f (dt_ltle (h.resolve_left h0)) H)
theorem dt_ev1 {post : Int32 → Prop} {n j : Nat} (hn : n < 5) (hj : j < n) (H : post 1) : wpX_isEvent post (nI n, fc, fd, fa, fs, fb, fz, en, bg, li, sz, de, db, dl, st, ma, tu) (nI j) := br_f (nI_pos (by omega)) (br_f (nI_ge hj (by omega)) H)
theorem dt_ev0 {post : Int32 → Prop} {n : Nat} {x : Int32} (h : x < 0 ∨ nI n ≤ x) (H : post 0) : wpX_isEvent post (nI n, fc, fd, fa, fs, fb, fz, en, bg, li, sz, de, db, dl, st, ma, tu) x := br_c (fun _ => H) (fun h0 => br_t (h.resolve_left h0) H)
theorem dt_be0 {post : Int32 → Prop} {n j : Nat} (hn : n < 5) (hj : j < n) (H : post 0) : wpY_badEvent post (nI n, gp, gd, gc, ys, yl, yr, yb) (nI j) := br_f (nI_pos (by omega)) (br_t (nI_lt hj (by omega)) H)
theorem dt_be1 {post : Int32 → Prop} {n : Nat} {x : Int32} (h : x < 0 ∨ nI n ≤ x) (H : post 1) : wpY_badEvent post (nI n, gp, gd, gc, ys, yl, yr, yb) x := br_c (fun _ => H) (fun h0 => br_f (dt_lelt (h.resolve_left h0)) H)
theorem dt_ic1 {post : Int32 → Prop} {m j : Nat} (hm : m ≤ 8) (hj : j < m) (H : post 1) : wpX_isConstraint post (fn, nI m, fd, fa, fs, fb, fz, en, bg, li, sz, de, db, dl, st, ma, tu) (nI j) := br_f (nI_pos (by omega)) (br_f (nI_ge hj (by omega)) H)
theorem dt_ic0 {post : Int32 → Prop} {m : Nat} {x : Int32} (h : x < 0 ∨ nI m ≤ x) (H : post 0) : wpX_isConstraint post (fn, nI m, fd, fa, fs, fb, fz, en, bg, li, sz, de, db, dl, st, ma, tu) x := br_c (fun _ => H) (fun h0 => br_t (h.resolve_left h0) H)
theorem dt_offer {post : SX → Prop} {m s : Nat} {p0 p1 p2 : Int32} (hm : m < 8) (hs : s < 3) (es : sz m = nI s)
    (H : post (fn, nI m, fd, fa, fs, fb, fz, upd en (3 * m + s) p0, upd bg (3 * m + s) p1, upd li (3 * m + s) p2, upd sz m (nI (s + 1)), de, db, dl, st, ma, tu)) : wpX_offer post (fn, nI m, fd, fa, fs, fb, fz, en, bg, li, sz, de, db, dl, st, ma, tu) p0 p1 p2 := by
  have h8 : vp_in (nI m) 8 := vp_in_nI hm (by decide)
  have cm : (nI m).toNatClampNeg = m := nI_clamp (by omega)
  have ex : (3 * nI m) + sz (nI m).toNatClampNeg = nI (3 * m + s) := by
    rw [cm, es]
    show nI 3 * nI m + nI s = _
    rw [pk_mul, nI_add]
  have h24 : vp_in (nI (3 * m + s)) 24 := vp_in_nI (by omega) (by decide)
  have cx : (nI (3 * m + s)).toNatClampNeg = 3 * m + s := nI_clamp (by omega)
  exact And.intro h8 (nm_r ex ⟨h24, nm_r (e' := upd en (3 * m + s) p0) (by rw [cx]) ⟨h24, nm_r (e' := upd bg (3 * m + s) p1) (by rw [cx]) ⟨h24, nm_r (e' := upd li (3 * m + s) p2) (by rw [cx]) ⟨h8, ⟨h8, nm_r (e' := upd sz m (nI (s + 1))) (by rw [cm, es, nI_1]) H⟩⟩⟩⟩⟩)
theorem dt_cmp {post : SY → Prop} {c s : Nat} {p1 p2 p3 : Int32} (hc : c < 9) (hs : s < 3) (es : ys c = nI s)
    (H : post (gn, gp, gd, gc, upd ys c (nI (s + 1)), upd yl (3 * c + s) p1, upd yr (3 * c + s) p2, upd yb (3 * c + s) p3)) : wpY_compare post (gn, gp, gd, gc, ys, yl, yr, yb) (nI c) p1 p2 p3 := by
  have h9 : vp_in (nI c) 9 := vp_in_nI hc (by decide)
  have cc : (nI c).toNatClampNeg = c := nI_clamp (by omega)
  have ex : (3 * nI c) + nI s = nI (3 * c + s) := by
    show nI 3 * nI c + nI s = _
    rw [pk_mul, nI_add]
  have h27 : vp_in ((3 * nI c) + nI s) 27 := pk_in _ 27 (by omega) ex
  have cx : ((3 * nI c) + nI s).toNatClampNeg = 3 * c + s := pk_cl _ ex
  exact And.intro h9 (nm_r (e' := nI s) (by rw [cc, es]) (pk_le s 2 (fun _ => ⟨h27, nm_r (e' := upd yl (3 * c + s) p1) (by rw [cx]) ⟨h27, nm_r (e' := upd yr (3 * c + s) p2) (by rw [cx]) ⟨h27, nm_r (e' := upd yb (3 * c + s) p3) (by rw [cx]) ⟨h9, nm_r (e' := upd ys c (nI (s + 1))) (by rw [cc, nI_1]) H⟩⟩⟩⟩) (fun z => absurd z (by omega))))
end
theorem i_vc_alternative {k : Nat} {u : SX} {v : SY} (I : i_Rel k u v) (hk : k + 4 ≤ 2049) (v1 : Int32) (v2 : Int32) (v3 : Int32) : wpX_alternative (fun r u' => wpY_alternative (fun r' v' => r' = r ∧ i_Rel (k + 4) u' v') v v1 v2 v3) u v1 v2 v3 := by
  refine dt_el (P := fun u v => wpX_alternative (fun r u' => wpY_alternative (fun r' v' => r' = r ∧ i_Rel (k + 4) u' v') v v1 v2 v3) u v1 v2 v3) ?_ I
  intro n m d fa fb fz en bg li sz de db dl st ma tu ys yl yr yb h1 h2 h3 h4 h5 h6 h7
  have rel := dt_in (k := k + 4) (fa := fa) (fb := fb) (fz := fz) (st := st) (ma := ma) (tu := tu) h1 h2 h3 h4 h5 h6 h7
  have hn : n < 5 := by omega
  unfold wpX_alternative wpY_alternative
  dsimp only
  rcases dt_cp v1 hn with b1 | ⟨i, hi, rfl⟩
  · exact dt_pt0 b1 (br_t rfl (dt_bp1 b1 (br_f (by decide) ⟨rfl, rel⟩)))
  refine dt_pt1 hn hi (br_f (by decide) ?_)
  rcases dt_cp v2 hn with b2 | ⟨j, hj, rfl⟩
  · exact dt_pt0 b2 (br_t rfl (dt_bp0 hn hi (br_t rfl (dt_bp1 b2 (br_f (by decide) ⟨rfl, rel⟩)))))
  refine dt_pt1 hn hj (br_f (by decide) ?_)
  by_cases hij : nI i = nI j
  · exact br_t hij (dt_bp0 hn hi (br_t rfl (dt_bp0 hn hj (br_t rfl (br_t hij ⟨rfl, rel⟩)))))
  refine br_f hij ?_
  by_cases hl : v3 < -10
  · exact br_t hl (dt_bp0 hn hi (br_t rfl (dt_bp0 hn hj (br_t rfl (br_f hij (br_t hl ⟨rfl, rel⟩))))))
  refine br_f hl ?_
  by_cases hu : ¬ v3 ≤ 10
  · exact br_f hu (dt_bp0 hn hi (br_t rfl (dt_bp0 hn hj (br_t rfl (br_f hij (br_f hl (br_f hu ⟨rfl, rel⟩)))))))
  replace hu : v3 ≤ 10 := Classical.not_not.mp hu
  refine br_t hu (pk_eq d 3 (fun hd => ?_) (fun hd => ?_))
  · exact dt_bp0 hn hi (br_t rfl (dt_bp0 hn hj (br_t rfl (br_f hij (br_f hl (br_t hu (pk_lt d 3 (fun z => absurd z (by omega)) (fun _ => ⟨rfl, rel⟩))))))))
  · have hdi : vp_in (nI d) 3 := vp_in_nI (by omega) (by decide)
    have cd : (nI d).toNatClampNeg = d := nI_clamp (by omega)
    refine ⟨hdi, nm_r (e' := upd de d (nI i)) (by rw [cd]) ⟨hdi, nm_r (e' := upd db d (nI j)) (by rw [cd]) ⟨hdi, nm_r (e' := upd dl d v3) (by rw [cd]) (nm_r (e' := nI (d + 1)) (nI_1 d) ?_)⟩⟩⟩
    refine dt_bp0 hn hi (br_t rfl (dt_bp0 hn hj (br_t rfl (br_f hij (br_f hl (br_t hu (pk_lt d 3 (fun hd3 => ?_) (fun z => absurd z (by omega)))))))))
    refine dt_cmp (c := 8) (by decide) hd3 h5 (nm_r (e' := nI (d + 1)) (show upd ys 8 (nI (d + 1)) 8 = nI (d + 1) from pk_us) ?_)
    dsimp only
    refine ⟨rfl, dt_in h1 h2 h3 (by omega) pk_us (fun c hc => ?_) (fun a ha => ?_)⟩
    · obtain ⟨s, hs, e1, e2, H⟩ := h6 c hc
      refine ⟨s, hs, e1, by rw [pk_un (by omega), e2], fun a ha => ?_⟩
      obtain ⟨i', j', q1, q2, q3, q4, q5, q6, q7, q8, q9⟩ := H a ha
      exact ⟨i', j', q1, q2, q3, q4, by rw [pk_un (by omega), q5], by rw [pk_un (by omega), q6], by rw [pk_un (by omega), q7], q8, q9⟩
    · rcases Nat.lt_or_ge a d with g | g
      · obtain ⟨i', j', q1, q2, q3, q4, q5, q6, q7, q8, q9⟩ := h7 a g
        refine ⟨i', j', q1, q2, by rw [pk_un (by omega), q3], by rw [pk_un (by omega), q4], by rw [pk_un (by omega), q5], by rw [pk_un (by omega), q6], by rw [pk_un (by omega), pk_un (by omega), q7], ?_, ?_⟩
        · rw [pk_un (by omega)]
          exact q8
        · rw [pk_un (by omega)]
          exact q9
      · have : a = d := by omega
        subst this
        rw [Int32.lt_iff_toInt_lt] at hl
        rw [Int32.le_iff_toInt_le] at hu
        have t1 : (-10 : Int32).toInt = -10 := by decide
        have t2 : (10 : Int32).toInt = 10 := by decide
        refine ⟨i, j, hi, hj, pk_us, pk_us, pk_us, pk_us, by rw [pk_us, pk_us], ?_, ?_⟩
        · rw [pk_us]
          omega
        · rw [pk_us]
          omega
end
section
/-! add, apart, remove -/
/-- a cells from s on have been copied to t on -/
def dt_cpy (e e' : Nat → Int32) (s t a : Nat) : Prop := (∀ b, b < a → e' (t + b) = e (s + b)) ∧ ∀ x, (x < t ∨ t + a ≤ x) → e' x = e x
theorem dt_cpy0 (e : Nat → Int32) (s t : Nat) : dt_cpy e e s t 0 := ⟨fun b hb => absurd hb (Nat.not_lt_zero b), fun _ _ => rfl⟩
theorem dt_cpys {e e' : Nat → Int32} {s t a : Nat} (h : dt_cpy e e' s t a) (hst : s + 3 ≤ t ∨ t + 3 ≤ s) (ha : a < 3) : dt_cpy e (upd e' (t + a) (e' (s + a))) s t (a + 1) := by
  refine ⟨fun b hb => ?_, fun x hx => ?_⟩
  · rcases Nat.lt_or_ge b a with g | g
    · rw [pk_un (by omega)]
      exact h.1 b g
    · have : b = a := by omega
      subst this
      rw [pk_us]
      exact h.2 _ (by omega)
  · rw [pk_un (by omega)]
    exact h.2 x (by omega)
section
variable {fn fc fd fa fs fb fz : Int32} {en bg li sz de db dl st ma tu : Nat → Int32}
variable {gn gp gd gc : Int32} {ys yl yr yb : Nat → Int32}
theorem dt_ycopy {post : SY → Prop} {c1 c2 : Nat} (h1 : c1 < 9) (h2 : c2 < 9) (hne : c1 ≠ c2)
    (H : ∀ yl' yr' yb' : Nat → Int32, dt_cpy yl yl' (3 * c1) (3 * c2) 3 → dt_cpy yr yr' (3 * c1) (3 * c2) 3 → dt_cpy yb yb' (3 * c1) (3 * c2) 3 → post (gn, gp, gd, gc, upd ys c2 (ys c1), yl', yr', yb')) :
    wpY_copy post (gn, gp, gd, gc, ys, yl, yr, yb) (nI c1) (nI c2) := by
  have k1 : (nI c1).toNatClampNeg = c1 := nI_clamp (by omega)
  have k2 : (nI c2).toNatClampNeg = c2 := nI_clamp (by omega)
  have L : ∀ r a, a + r = 3 → ∀ yl' yr' yb' : Nat → Int32, dt_cpy yl yl' (3 * c1) (3 * c2) a → dt_cpy yr yr' (3 * c1) (3 * c2) a → dt_cpy yb yb' (3 * c1) (3 * c2) a → wY_copy_14 post (nI c1) (nI c2) gn gp gd gc (r + 1) (nI a) (upd ys c2 (ys c1)) yl' yr' yb' := by
    intro r
    induction r with
    | zero =>
      intro a ha yl' yr' yb' i1 i2 i3
      have : a = 3 := by omega
      subst this
      exact br_t (by decide) (H yl' yr' yb' i1 i2 i3)
    | succ r ih =>
      intro a ha yl' yr' yb' i1 i2 i3
      have h3 : ¬ (3 : Int32) ≤ nI a := nI_ge (b := 3) (by omega) (by decide)
      have e1 : (3 * nI c1) + nI a = nI (3 * c1 + a) := by
        show nI 3 * nI c1 + nI a = _
        rw [pk_mul, nI_add]
      have e2 : (3 * nI c2) + nI a = nI (3 * c2 + a) := by
        show nI 3 * nI c2 + nI a = _
        rw [pk_mul, nI_add]
      have x1 : ((3 * nI c1) + nI a).toNatClampNeg = 3 * c1 + a := pk_cl _ e1
      have x2 : ((3 * nI c2) + nI a).toNatClampNeg = 3 * c2 + a := pk_cl _ e2
      have v1 : vp_in ((3 * nI c1) + nI a) 27 := pk_in _ 27 (by omega) e1
      have v2 : vp_in ((3 * nI c2) + nI a) 27 := pk_in _ 27 (by omega) e2
      refine br_f h3 ⟨v1, ⟨v2, nm_r (e' := upd yl' (3 * c2 + a) (yl' (3 * c1 + a))) (by rw [x1, x2]) ⟨v1, ⟨v2, nm_r (e' := upd yr' (3 * c2 + a) (yr' (3 * c1 + a))) (by rw [x1, x2]) ⟨v1, ⟨v2, nm_r (e' := upd yb' (3 * c2 + a) (yb' (3 * c1 + a))) (by rw [x1, x2]) (nm_r (e' := nI (a + 1)) (nI_1 a) (ih (a + 1) (by omega) _ _ _ (dt_cpys i1 (by omega) (by omega)) (dt_cpys i2 (by omega) (by omega)) (dt_cpys i3 (by omega) (by omega))))⟩⟩⟩⟩⟩⟩
  exact And.intro (vp_in_nI h1 (by decide)) (And.intro (vp_in_nI h2 (by decide)) (nm_r (e' := upd ys c2 (ys c1)) (by rw [k1, k2]) (Exists.intro 4 (L 3 0 rfl yl yr yb (dt_cpy0 _ _ _) (dt_cpy0 _ _ _) (dt_cpy0 _ _ _)))))
theorem dt_add33 {post : Int32 → SX → Prop} {m d : Nat} (hm : m < 8) (hd : d ≤ 3) {en0 bg0 li0 sz0 : Nat → Int32}
    (H : ∀ en' bg' li' sz' : Nat → Int32, (∀ x, x < 3 * m → en' x = en0 x ∧ bg' x = bg0 x ∧ li' x = li0 x) → (∀ b, b < d → en' (3 * m + b) = de b ∧ bg' (3 * m + b) = db b ∧ li' (3 * m + b) = dl b) → sz' m = nI d → (∀ c, c < m → sz' c = sz0 c) → post (nI (m + 1)) (fn, nI (m + 1), 0, fa, fs, fb, fz, en', bg', li', sz', de, db, dl, st, ma, tu)) :
    ∀ r a, a + r = d → ∀ en bg li sz : Nat → Int32, (∀ x, x < 3 * m → en x = en0 x ∧ bg x = bg0 x ∧ li x = li0 x) → (∀ b, b < a → en (3 * m + b) = de b ∧ bg (3 * m + b) = db b ∧ li (3 * m + b) = dl b) → sz m = nI a → (∀ c, c < m → sz c = sz0 c) → wX_add_33 post (r + 1) (nI a) fn (nI m) (nI d) fa fs fb fz en bg li sz de db dl st ma tu := by
  intro r
  induction r with
  | zero =>
    intro a ha en bg li sz i1 i2 i3 i4
    have : a = d := by omega
    subst this
    exact pk_le a a (fun _ => nm_r (e' := nI (m + 1)) (nI_1 m) (H en bg li sz i1 i2 i3 i4)) (fun z => absurd z (by omega))
  | succ r ih =>
    intro a ha en bg li sz i1 i2 i3 i4
    have hi : vp_in (nI a) 3 := vp_in_nI (by omega) (by decide)
    have ca : (nI a).toNatClampNeg = a := nI_clamp (by omega)
    refine pk_le d a (fun z => absurd z (by omega)) (fun _ => ⟨hi, ⟨hi, ⟨hi, ?_⟩⟩⟩)
    rw [ca]
    refine dt_offer hm (by omega) i3 (nm_r (e' := nI (a + 1)) (nI_1 a) (ih (a + 1) (by omega) _ _ _ _ (fun x hx => ?_) (fun b hb => ?_) pk_us (fun c hc => ?_)))
    · rw [pk_un (by omega), pk_un (by omega), pk_un (by omega)]
      exact i1 x hx
    · rcases Nat.lt_or_ge b a with g | g
      · rw [pk_un (by omega), pk_un (by omega), pk_un (by omega)]
        exact i2 b g
      · have : b = a := by omega
        subst this
        exact ⟨pk_us, pk_us, pk_us⟩
    · rw [pk_un (by omega)]
      exact i4 c hc
end
theorem i_vc_add {k : Nat} {u : SX} {v : SY} (I : i_Rel k u v) (hk : k + 4 ≤ 2049) : wpX_add (fun r u' => wpY_add (fun r' v' => r' = r ∧ i_Rel (k + 4) u' v') v) u := by
  refine dt_el (P := fun u v => wpX_add (fun r u' => wpY_add (fun r' v' => r' = r ∧ i_Rel (k + 4) u' v') v) u) ?_ I
  intro n m d fa fb fz en bg li sz de db dl st ma tu ys yl yr yb h1 h2 h3 h4 h5 h6 h7
  have rel := dt_in (k := k + 4) (fa := fa) (fb := fb) (fz := fz) (st := st) (ma := ma) (tu := tu) h1 h2 h3 h4 h5 h6 h7
  unfold wpX_add wpY_add
  dsimp only
  refine pk_eq d 0 (fun hd => br_t (by rw [hd]; rfl) ⟨rfl, rel⟩) (fun hd => pk_eq m 8 (fun hm => ?_) (fun hm => ?_))
  · exact br_f (nI_ne0 (by omega) (by omega)) (br_f (nI_nlt (b := 8) (by omega) (by omega)) ⟨rfl, rel⟩)
  · have cm : (nI m).toNatClampNeg = m := nI_clamp (by omega)
    refine ⟨vp_in_nI (by omega) (by decide), nm_r (e' := upd sz m (nI 0)) (by rw [cm]; rfl) (Exists.intro (d + 1) (dt_add33 (m := m) (d := d) (en0 := en) (bg0 := bg) (li0 := li) (sz0 := sz) (by omega) h4 ?_ d 0 (Nat.zero_add _) en bg li _ (fun _ _ => ⟨rfl, rfl, rfl⟩) (fun b hb => absurd hb (Nat.not_lt_zero b)) pk_us (fun c hc => pk_un (by omega))))⟩
    intro en' bg' li' sz' j1 j2 j3 j4
    refine br_f (nI_ne0 (by omega) (by omega)) (br_t (nI_lt (b := 8) (by omega) (by omega)) (dt_ycopy (c1 := 8) (c2 := m) (by decide) (by omega) (by omega) (fun yl' yr' yb' y1 y2 y3 => ?_)))
    dsimp only
    refine nm_r (e' := nI (m + 1)) (nI_1 m) (nm_e (And.intro rfl (dt_in (d := 0) h1 h2 (by omega) (by omega) pk_us (fun c hc => ?_) (fun a ha => absurd ha (Nat.not_lt_zero a)))))
    rcases Nat.lt_or_ge c m with g | g
    · obtain ⟨s, hs, e1, e2, H⟩ := h6 c g
      refine ⟨s, hs, by rw [j4 c g, e1], by rw [pk_un (by omega), pk_un (by omega), e2], fun a ha => ?_⟩
      obtain ⟨i', j', q1, q2, q3, q4, q5, q6, q7, q8, q9⟩ := H a ha
      obtain ⟨w1, w2, w3⟩ := j1 (3 * c + a) (by omega)
      exact ⟨i', j', q1, q2, by rw [w1, q3], by rw [w2, q4], by rw [y1.2 _ (by omega), q5], by rw [y2.2 _ (by omega), q6], by rw [w3, y3.2 _ (by omega), q7], by rw [w3]; exact q8, by rw [w3]; exact q9⟩
    · have : c = m := by omega
      subst this
      refine ⟨d, h4, j3, by rw [pk_un (by omega), pk_us, h5], fun a ha => ?_⟩
      obtain ⟨i', j', q1, q2, q3, q4, q5, q6, q7, q8, q9⟩ := h7 a ha
      obtain ⟨w1, w2, w3⟩ := j2 a ha
      exact ⟨i', j', q1, q2, by rw [w1, q3], by rw [w2, q4], by rw [y1.1 a (by omega)]; exact q5, by rw [y2.1 a (by omega)]; exact q6, by rw [w3, y3.1 a (by omega)]; exact q7, by rw [w3]; exact q8, by rw [w3]; exact q9⟩
end
section
/-! apart, remove -/
theorem dt_ue {f : Nat → Int32} {k j : Nat} {x : Int32} (h : j = k) : upd f k x j = x := by
  rw [h, pk_us]
def dt_sr (p j c : Nat) : Nat := if p ≤ c ∧ c < j then c + 1 else c
def dt_mv (e e' : Nat → Int32) (p j : Nat) : Prop := ∀ c a, a < 3 → e' (3 * c + a) = e (3 * dt_sr p j c + a)
def dt_mz (z z' : Nat → Int32) (p j : Nat) : Prop := ∀ c, z' c = z (dt_sr p j c)
theorem dt_sr0 (p c : Nat) : dt_sr p p c = c := if_neg (by omega)
theorem dt_srs {p j c : Nat} (h : c ≠ j) : dt_sr p (j + 1) c = dt_sr p j c := by
  unfold dt_sr
  split
  · rw [if_pos (by omega)]
  · rw [if_neg (by omega)]
theorem dt_srj {p j : Nat} (h : p ≤ j) : dt_sr p (j + 1) j = j + 1 := if_pos (by omega)
theorem dt_sra {p j c : Nat} (h : j ≤ c) : dt_sr p j c = c := if_neg (by omega)
theorem dt_srl {p j c : Nat} (h : c < j) : dt_sr p j c < j + 1 := by
  unfold dt_sr
  split <;> omega
theorem dt_mv0 (e : Nat → Int32) (p : Nat) : dt_mv e e p p := fun c a _ => by rw [dt_sr0]
theorem dt_mz0 (e : Nat → Int32) (p : Nat) : dt_mz e e p p := fun c => by rw [dt_sr0]
theorem dt_mvs {e e' e'' : Nat → Int32} {p j : Nat} (h : dt_mv e e' p j) (hp : p ≤ j) (hc : dt_cpy e' e'' (3 * (j + 1)) (3 * j) 3) : dt_mv e e'' p (j + 1) := fun c a ha => by
  by_cases hcj : c = j
  · subst hcj
    rw [dt_srj hp, hc.1 a ha, h (c + 1) a ha, dt_sra (by omega)]
  · rw [dt_srs hcj, hc.2 _ (by omega), h c a ha]
theorem dt_mzs {z z' : Nat → Int32} {p j : Nat} (h : dt_mz z z' p j) (hp : p ≤ j) : dt_mz z (upd z' j (z' (j + 1))) p (j + 1) := fun c => by
  by_cases hcj : c = j
  · subst hcj
    rw [dt_srj hp, pk_us, h (c + 1), dt_sra (by omega)]
  · rw [dt_srs hcj, pk_un hcj, h c]
section
variable {fn fc fd fa fs fb fz : Int32} {en bg li sz de db dl st ma tu : Nat → Int32}
variable {gn gp gd gc : Int32} {ys yl yr yb : Nat → Int32}
theorem dt_rem38 {post : Int32 → SX → Prop} {J : Int32 → (Nat → Int32) → (Nat → Int32) → (Nat → Int32) → (Nat → Int32) → (Nat → Int32) → (Nat → Int32) → (Nat → Int32) → (Nat → Int32) → (Nat → Int32) → (Nat → Int32) → Prop} {j : Nat} (hj : j < 7) {en0 bg0 li0 : Nat → Int32}
    (H : ∀ en bg li : Nat → Int32, dt_cpy en0 en (3 * (j + 1)) (3 * j) 3 → dt_cpy bg0 bg (3 * (j + 1)) (3 * j) 3 → dt_cpy li0 li (3 * (j + 1)) (3 * j) 3 → J (nI (j + 2)) en bg li sz de db dl st ma tu) :
    ∀ r a, a + r = 3 → ∀ en bg li : Nat → Int32, dt_cpy en0 en (3 * (j + 1)) (3 * j) a → dt_cpy bg0 bg (3 * (j + 1)) (3 * j) a → dt_cpy li0 li (3 * (j + 1)) (3 * j) a → wX_remove_38 post J (nI (j + 1)) fn fc fd fa fs fb fz (r + 1) (nI a) en bg li sz de db dl st ma tu := by
  intro r
  induction r with
  | zero =>
    intro a ha en bg li i1 i2 i3
    have : a = 3 := by omega
    subst this
    exact br_t (by decide) (nm_r (e' := nI (j + 2)) (nI_1 (j + 1)) (H en bg li i1 i2 i3))
  | succ r ih =>
    intro a ha en bg li i1 i2 i3
    have h3 : ¬ (3 : Int32) ≤ nI a := nI_ge (b := 3) (by omega) (by decide)
    have e1 : (3 * nI (j + 1)) + nI a = nI (3 * (j + 1) + a) := by
      show nI 3 * nI (j + 1) + nI a = _
      rw [pk_mul, nI_add]
    have e2 : ((3 * nI (j + 1)) - 3) + nI a = nI (3 * j + a) := by
      show ((nI 3 * nI (j + 1)) - nI 3) + nI a = _
      rw [pk_mul, pk_sub (by omega), nI_add]
      exact congrArg nI (by omega)
    have x1 : ((3 * nI (j + 1)) + nI a).toNatClampNeg = 3 * (j + 1) + a := pk_cl _ e1
    have x2 : (((3 * nI (j + 1)) - 3) + nI a).toNatClampNeg = 3 * j + a := pk_cl _ e2
    have v1 : vp_in ((3 * nI (j + 1)) + nI a) 24 := pk_in _ 24 (by omega) e1
    have v2 : vp_in (((3 * nI (j + 1)) - 3) + nI a) 24 := pk_in _ 24 (by omega) e2
    refine br_f h3 ⟨v1, ⟨v2, nm_r (e' := upd en (3 * j + a) (en (3 * (j + 1) + a))) (by rw [x1, x2]) ⟨v1, ⟨v2, nm_r (e' := upd bg (3 * j + a) (bg (3 * (j + 1) + a))) (by rw [x1, x2]) ⟨v1, ⟨v2, nm_r (e' := upd li (3 * j + a) (li (3 * (j + 1) + a))) (by rw [x1, x2]) (nm_r (e' := nI (a + 1)) (nI_1 a) (ih (a + 1) (by omega) _ _ _ (dt_cpys i1 (by omega) (by omega)) (dt_cpys i2 (by omega) (by omega)) (dt_cpys i3 (by omega) (by omega))))⟩⟩⟩⟩⟩⟩
theorem dt_rem14 {post : Int32 → SX → Prop} {m p : Nat} (hm : m ≤ 8) (hp : p < m) {en0 bg0 li0 sz0 : Nat → Int32}
    (H : ∀ en bg li sz : Nat → Int32, dt_mv en0 en p (m - 1) → dt_mv bg0 bg p (m - 1) → dt_mv li0 li p (m - 1) → dt_mz sz0 sz p (m - 1) → post (nI (m - 1)) (fn, nI (m - 1), fd, fa, fs, fb, fz, en, bg, li, sz, de, db, dl, st, ma, tu)) :
    ∀ r j, j + r + 1 = m → p ≤ j → ∀ en bg li sz : Nat → Int32, dt_mv en0 en p j → dt_mv bg0 bg p j → dt_mv li0 li p j → dt_mz sz0 sz p j → wX_remove_14 post fn (nI m) fd fa fs fb fz (r + 1) (nI (j + 1)) en bg li sz de db dl st ma tu := by
  intro r
  induction r with
  | zero =>
    intro j hj hpj en bg li sz i1 i2 i3 i4
    have : j = m - 1 := by omega
    subst this
    exact pk_le m (m - 1 + 1) (fun _ => nm_r (e' := nI (m - 1)) (pk_sub (b := 1) (by omega)) (H en bg li sz i1 i2 i3 i4)) (fun z => absurd z (by omega))
  | succ r ih =>
    intro j hj hpj en bg li sz i1 i2 i3 i4
    have e1 : nI (j + 1) - 1 = nI j := nI_pred j
    have x1 : (nI (j + 1) - 1).toNatClampNeg = j := pk_cl _ e1
    have x2 : (nI (j + 1)).toNatClampNeg = j + 1 := nI_clamp (by omega)
    refine pk_le m (j + 1) (fun z => absurd z (by omega)) (fun _ => ⟨vp_in_nI (by omega) (by decide), ⟨pk_in j 8 (by omega) e1, nm_r (e' := upd sz j (sz (j + 1))) (by rw [x1, x2]) (Exists.intro 4 (dt_rem38 (en0 := en) (bg0 := bg) (li0 := li) (by omega) (fun en' bg' li' c1 c2 c3 => ?_) 3 0 rfl en bg li (dt_cpy0 _ _ _) (dt_cpy0 _ _ _) (dt_cpy0 _ _ _)))⟩⟩)
    exact ih (j + 1) (by omega) (by omega) _ _ _ _ (dt_mvs i1 hpj c1) (dt_mvs i2 hpj c2) (dt_mvs i3 hpj c3) (dt_mzs i4 hpj)
theorem dt_yrem16 {post : Int32 → SY → Prop} {m p : Nat} (hm : m ≤ 8) (hp : p < m) {ys0 yl0 yr0 yb0 : Nat → Int32}
    (H : ∀ ys yl yr yb : Nat → Int32, dt_mz ys0 ys p (m - 1) → dt_mv yl0 yl p (m - 1) → dt_mv yr0 yr p (m - 1) → dt_mv yb0 yb p (m - 1) → post (nI (m - 1)) (gn, gp, gd, nI (m - 1), ys, yl, yr, yb)) :
    ∀ r j, j + r + 1 = m → p ≤ j → ∀ ys yl yr yb : Nat → Int32, dt_mz ys0 ys p j → dt_mv yl0 yl p j → dt_mv yr0 yr p j → dt_mv yb0 yb p j → wY_remove_16 post (r + 1) (nI j) gn gp gd (nI m) ys yl yr yb := by
  have e1 : nI m - 1 = nI (m - 1) := pk_sub (b := 1) (by omega)
  intro r
  induction r with
  | zero =>
    intro j hj hpj ys yl yr yb i1 i2 i3 i4
    have : j = m - 1 := by omega
    subst this
    exact pk_le (m - 1) (m - 1) (fun _ => nm_r (e' := nI (m - 1)) e1 (H ys yl yr yb i1 i2 i3 i4)) (fun z => absurd z (by omega)) e1
  | succ r ih =>
    intro j hj hpj ys yl yr yb i1 i2 i3 i4
    refine pk_le (m - 1) j (fun z => absurd z (by omega)) (fun _ => pk_le 7 j (fun z => absurd z (by omega)) (fun _ => ?_)) e1
    rw [nI_1 j]
    refine dt_ycopy (c1 := j + 1) (c2 := j) (by omega) (by omega) (by omega) (fun yl' yr' yb' c1 c2 c3 => ?_)
    exact nm_e (ih (j + 1) (by omega) (by omega) _ _ _ _ (dt_mzs i1 hpj) (dt_mvs i2 hpj c1) (dt_mvs i3 hpj c2) (dt_mvs i4 hpj c3))
end
theorem i_vc_remove {k : Nat} {u : SX} {v : SY} (I : i_Rel k u v) (hk : k + 4 ≤ 2049) (v1 : Int32) : wpX_remove (fun r u' => wpY_remove (fun r' v' => r' = r ∧ i_Rel (k + 4) u' v') v v1) u v1 := by
  refine dt_el (P := fun u v => wpX_remove (fun r u' => wpY_remove (fun r' v' => r' = r ∧ i_Rel (k + 4) u' v') v v1) u v1) ?_ I
  intro n m d fa fb fz en bg li sz de db dl st ma tu ys yl yr yb h1 h2 h3 h4 h5 h6 h7
  have rel := dt_in (k := k + 4) (fa := fa) (fb := fb) (fz := fz) (st := st) (ma := ma) (tu := tu) h1 h2 h3 h4 h5 h6 h7
  unfold wpX_remove wpY_remove
  dsimp only
  rcases dt_ce v1 (n := m) (by omega) with b1 | ⟨p, hp, rfl⟩
  · refine dt_ic0 b1 (br_t rfl (br_c (fun _ => ⟨rfl, rel⟩) (fun h0 => br_f (dt_lelt (b1.resolve_left h0)) ⟨rfl, rel⟩)))
  · refine dt_ic1 h3 hp (br_f (by decide) (nm_r (e' := nI (p + 1)) (nI_1 p) (Exists.intro (m - 1 - p + 1) (dt_rem14 (m := m) (p := p) h3 hp ?_ (m - 1 - p) p (by omega) (Nat.le_refl _) en bg li sz (dt_mv0 _ _) (dt_mv0 _ _) (dt_mv0 _ _) (dt_mz0 _ _)))))
    intro en' bg' li' sz' x1 x2 x3 x4
    refine br_f (nI_pos (by omega)) (pk_lt p m (fun _ => Exists.intro (m - 1 - p + 1) (dt_yrem16 (m := m) (p := p) h3 hp ?_ (m - 1 - p) p (by omega) (Nat.le_refl _) ys yl yr yb (dt_mz0 _ _) (dt_mv0 _ _) (dt_mv0 _ _) (dt_mv0 _ _))) (fun z => absurd z (by omega)))
    intro ys' yl' yr' yb' y1 y2 y3 y4
    refine ⟨rfl, dt_in h1 h2 (by omega) h4 ?_ (fun c hc => ?_) (fun a ha => ?_)⟩
    · rw [y1 8, dt_sra (by omega), h5]
    · have hs := dt_srl (p := p) hc
      obtain ⟨s, hs3, e1, e2, H⟩ := h6 (dt_sr p (m - 1) c) (by omega)
      refine ⟨s, hs3, by rw [x4 c, e1], by rw [y1 c, e2], fun a ha => ?_⟩
      obtain ⟨i', j', q1, q2, q3, q4, q5, q6, q7, q8, q9⟩ := H a ha
      have w := x3 c a (by omega)
      exact ⟨i', j', q1, q2, by rw [x1 c a (by omega), q3], by rw [x2 c a (by omega), q4], by rw [y2 c a (by omega), q5], by rw [y3 c a (by omega), q6], by rw [w, y4 c a (by omega), q7], by rw [w]; exact q8, by rw [w]; exact q9⟩
    · obtain ⟨i', j', q1, q2, q3, q4, q5, q6, q7, q8, q9⟩ := h7 a ha
      have z2 := y2 8 a (by omega)
      have z3 := y3 8 a (by omega)
      have z4 := y4 8 a (by omega)
      rw [dt_sra (by omega)] at z2 z3 z4
      exact ⟨i', j', q1, q2, q3, q4, z2.trans q5, z3.trans q6, q7.trans z4.symm, q8, q9⟩
theorem dt_neg {x : Int32} (h0 : ¬ x < 0) (h7 : x ≤ 7) : -10 ≤ (-x).toInt ∧ (-x).toInt ≤ 10 ∧ -10 ≤ x.toInt ∧ x.toInt ≤ 10 := by
  rw [Int32.lt_iff_toInt_lt] at h0
  rw [Int32.le_iff_toInt_le] at h7
  have t0 : (0 : Int32).toInt = 0 := by decide
  have t7 : (7 : Int32).toInt = 7 := by decide
  have e : (-x).toInt = -x.toInt := Jvm.Kit.i32_neg (by omega)
  omega
theorem i_vc_apart {k : Nat} {u : SX} {v : SY} (I : i_Rel k u v) (hk : k + 4 ≤ 2049) (v1 : Int32) (v2 : Int32) (v3 : Int32) : wpX_apart (fun r u' => wpY_apart (fun r' v' => r' = r ∧ i_Rel (k + 4) u' v') v v1 v2 v3) u v1 v2 v3 := by
  refine dt_el (P := fun u v => wpX_apart (fun r u' => wpY_apart (fun r' v' => r' = r ∧ i_Rel (k + 4) u' v') v v1 v2 v3) u v1 v2 v3) ?_ I
  intro n m d fa fb fz en bg li sz de db dl st ma tu ys yl yr yb h1 h2 h3 h4 h5 h6 h7
  have rel := dt_in (k := k + 4) (fa := fa) (fb := fb) (fz := fz) (st := st) (ma := ma) (tu := tu) h1 h2 h3 h4 h5 h6 h7
  have hn : n < 5 := by omega
  unfold wpX_apart wpY_apart
  by_cases hneg : v1 < 0
  · exact nm_e (nm_e (br_t hneg (br_f (dt_ltle hneg) ⟨rfl, rel⟩)))
  obtain ⟨q, hq, rfl⟩ := nI_of hneg
  have h0q : (0 : Int32) ≤ nI q := nI_pos' hq
  have ex1 : nI q >>> ((3 : Int32) &&& 31) = nI (q / 8) := pk_shrN hq _ 3 (by decide)
  have ex2 : nI q &&& 7 = nI (q % 8) := pk_andN (by omega) 3 (by decide)
  have ey1 : nI q / 8 = nI (q / 8) := pk_div (d := 8) hq (by decide) (by decide)
  have ey2 : nI q - nI q / 8 * 8 = nI (q % 8) := pk_rem (d := 8) hq (by decide) (by decide)
  have hq8 : q / 8 < 2 ^ 31 := by omega
  refine nm_r (e' := nI (q / 8)) ex1 (nm_r (e' := nI (q % 8)) ex2 (br_f hneg ?_))
  rcases Nat.lt_or_ge (q / 8) n with hi | b1
  rotate_left
  · replace b1 : nI (q / 8) < 0 ∨ nI n ≤ nI (q / 8) := Or.inr (nI_le b1 hq8)
    exact dt_ev0 b1 (br_t rfl (br_t h0q ⟨by decide, nm_r (e' := nI (q / 8)) ey1 ⟨by decide, nm_r (e' := nI (q % 8)) ey2 (dt_be1 b1 (br_f (by decide) ⟨rfl, rel⟩))⟩⟩))
  refine dt_ev1 hn hi (br_f (by decide) ?_)
  rcases Nat.lt_or_ge (q % 8) n with hj | b2
  rotate_left
  · replace b2 : nI (q % 8) < 0 ∨ nI n ≤ nI (q % 8) := Or.inr (nI_le b2 (by omega))
    exact dt_ev0 b2 (br_t rfl (br_t h0q ⟨by decide, nm_r (e' := nI (q / 8)) ey1 ⟨by decide, nm_r (e' := nI (q % 8)) ey2 (dt_be0 hn hi (br_t rfl (dt_be1 b2 (br_f (by decide) ⟨rfl, rel⟩))))⟩⟩))
  refine dt_ev1 hn hj (br_f (by decide) ?_)
  generalize q / 8 = i at *
  generalize q % 8 = j at *
  by_cases hij : nI i = nI j
  · exact br_t hij (br_t h0q ⟨by decide, nm_r (e' := nI i) ey1 ⟨by decide, nm_r (e' := nI j) ey2 (dt_be0 hn hi (br_t rfl (dt_be0 hn hj (br_t rfl (br_t hij ⟨rfl, rel⟩)))))⟩⟩)
  refine br_f hij ?_
  by_cases hg0 : v2 < 0
  · exact br_t hg0 (br_t h0q ⟨by decide, nm_r (e' := nI i) ey1 ⟨by decide, nm_r (e' := nI j) ey2 (dt_be0 hn hi (br_t rfl (dt_be0 hn hj (br_t rfl (br_f hij (br_t hg0 ⟨rfl, rel⟩))))))⟩⟩)
  refine br_f hg0 ?_
  by_cases hg7 : ¬ v2 ≤ 7
  · exact br_f hg7 (br_t h0q ⟨by decide, nm_r (e' := nI i) ey1 ⟨by decide, nm_r (e' := nI j) ey2 (dt_be0 hn hi (br_t rfl (dt_be0 hn hj (br_t rfl (br_f hij (br_f hg0 (br_f hg7 ⟨rfl, rel⟩)))))))⟩⟩)
  replace hg7 : v2 ≤ 7 := Classical.not_not.mp hg7
  refine br_t hg7 ?_
  by_cases hs0 : v3 < 0
  · exact br_t hs0 (br_t h0q ⟨by decide, nm_r (e' := nI i) ey1 ⟨by decide, nm_r (e' := nI j) ey2 (dt_be0 hn hi (br_t rfl (dt_be0 hn hj (br_t rfl (br_f hij (br_f hg0 (br_t hg7 (br_t hs0 ⟨rfl, rel⟩))))))))⟩⟩)
  refine br_f hs0 ?_
  by_cases hs7 : ¬ v3 ≤ 7
  · exact br_f hs7 (br_t h0q ⟨by decide, nm_r (e' := nI i) ey1 ⟨by decide, nm_r (e' := nI j) ey2 (dt_be0 hn hi (br_t rfl (dt_be0 hn hj (br_t rfl (br_f hij (br_f hg0 (br_t hg7 (br_f hs0 (br_f hs7 ⟨rfl, rel⟩)))))))))⟩⟩)
  replace hs7 : v3 ≤ 7 := Classical.not_not.mp hs7
  refine br_t hs7 (pk_le (m + 3) 8 (fun hm3 => ?_) (fun hm3 => ?_) (nI_add m 3))
  rotate_left
  · exact br_t h0q ⟨by decide, nm_r (e' := nI i) ey1 ⟨by decide, nm_r (e' := nI j) ey2 (dt_be0 hn hi (br_t rfl (dt_be0 hn hj (br_t rfl (br_f hij (br_f hg0 (br_t hg7 (br_f hs0 (br_t hs7 (pk_le m 5 (fun z => absurd z (by omega)) (fun _ => ⟨rfl, rel⟩)))))))))))⟩⟩
  have cm : (nI m).toNatClampNeg = m := nI_clamp (by omega)
  have cm1 : (nI (m + 1)).toNatClampNeg = m + 1 := nI_clamp (by omega)
  have cm2 : (nI (m + 2)).toNatClampNeg = m + 2 := nI_clamp (by omega)
  refine ⟨vp_in_nI (by omega) (by decide), nm_r (e' := upd sz m (nI 0)) (by rw [cm]; rfl) ?_⟩
  refine dt_offer (s := 0) (by omega) (by omega) pk_us ?_
  refine dt_offer (s := 1) (by omega) (by omega) pk_us ?_
  refine nm_r (e' := nI (m + 1)) (nI_1 m) ⟨vp_in_nI (by omega) (by decide), nm_r (e' := upd _ (m + 1) (nI 0)) (by rw [cm1]; rfl) ?_⟩
  refine dt_offer (s := 0) (by omega) (by omega) pk_us ?_
  refine nm_r (e' := nI (m + 2)) (nI_1 (m + 1)) ⟨vp_in_nI (by omega) (by decide), nm_r (e' := upd _ (m + 2) (nI 0)) (by rw [cm2]; rfl) ?_⟩
  refine dt_offer (s := 0) (by omega) (by omega) pk_us ?_
  refine nm_r (e' := nI (m + 3)) (nI_1 (m + 2)) ?_
  refine br_t h0q ⟨by decide, nm_r (e' := nI i) ey1 ⟨by decide, nm_r (e' := nI j) ey2 (dt_be0 hn hi (br_t rfl (dt_be0 hn hj (br_t rfl (br_f hij (br_f hg0 (br_t hg7 (br_f hs0 (br_t hs7 (pk_le m 5 (fun _ => ?_) (fun z => absurd z (by omega))))))))))))⟩⟩
  have em3 : nI m + 3 = nI (m + 3) := nI_add m 3
  refine Exists.intro 4 (pk_le (m + 3) m (fun z => absurd z (by omega)) (fun _ => ⟨vp_in_nI (by omega) (by decide), nm_r (e' := upd ys m (nI 0)) (by rw [cm]; rfl) (nm_r (e' := nI (m + 1)) (nI_1 m) ?_)⟩) em3)
  refine pk_le (m + 3) (m + 1) (fun z => absurd z (by omega)) (fun _ => ⟨vp_in_nI (by omega) (by decide), nm_r (e' := upd (upd ys m (nI 0)) (m + 1) (nI 0)) (by rw [cm1]; rfl) (nm_r (e' := nI (m + 2)) (nI_1 (m + 1)) ?_)⟩) em3
  refine pk_le (m + 3) (m + 2) (fun z => absurd z (by omega)) (fun _ => ⟨vp_in_nI (by omega) (by decide), nm_r (e' := upd (upd (upd ys m (nI 0)) (m + 1) (nI 0)) (m + 2) (nI 0)) (by rw [cm2]; rfl) (nm_r (e' := nI (m + 3)) (nI_1 (m + 2)) ?_)⟩) em3
  refine pk_le (m + 3) (m + 3) (fun _ => ?_) (fun z => absurd z (by omega)) em3
  refine dt_cmp (c := m) (s := 0) (by omega) (by omega) (by rw [pk_un (by omega), pk_un (by omega), pk_us]) ?_
  refine dt_cmp (c := m) (s := 1) (by omega) (by omega) pk_us ?_
  have em1 : nI m + 1 = nI (m + 1) := nI_1 m
  have em2 : nI m + 2 = nI (m + 2) := nI_add m 2
  dsimp only
  rw [em1]
  refine dt_cmp (c := m + 1) (s := 0) (by omega) (by omega) (by rw [pk_un (by omega), pk_un (by omega), pk_un (by omega), pk_us]) ?_
  dsimp only
  rw [em2]
  refine dt_cmp (c := m + 2) (s := 0) (by omega) (by omega) (by rw [pk_un (by omega), pk_un (by omega), pk_un (by omega), pk_us]) ?_
  refine nm_r (e' := nI (m + 3)) em3 (And.intro rfl ?_)
  have B := dt_neg hg0 hg7
  have B' := dt_neg hs0 hs7
  refine dt_in h1 h2 (by omega) h4 ?_ (fun c hc => ?_) (fun a ha => ?_)
  · simp (disch := omega) only [pk_un]
    exact h5
  · rcases Nat.lt_or_ge c m with g | g
    · obtain ⟨s, hs3, e1, e2, H⟩ := h6 c g
      refine ⟨s, hs3, ?_, ?_, fun a ha => ?_⟩
      · simp (disch := omega) only [pk_un]
        exact e1
      · simp (disch := omega) only [pk_un]
        exact e2
      · have := H a ha
        unfold dt_pr at this ⊢
        simp (disch := omega) only [pk_un]
        exact this
    · have hc3 : c = m ∨ c = m + 1 ∨ c = m + 2 := by omega
      rcases hc3 with rfl | rfl | rfl
      · refine ⟨2, by omega, ?_, ?_, fun a ha => ?_⟩
        · simp (disch := omega) only [dt_ue, pk_un]
        · simp (disch := omega) only [dt_ue, pk_un]
        · have ha2 : a = 0 ∨ a = 1 := by omega
          rcases ha2 with rfl | rfl
          · refine ⟨i, j, by omega, by omega, ?_, ?_, ?_, ?_, ?_, ?_, ?_⟩
            all_goals simp (disch := omega) only [dt_ue, pk_un]
            · exact B.1
            · exact B.2.1
          · refine ⟨j, i, by omega, by omega, ?_, ?_, ?_, ?_, ?_, ?_, ?_⟩
            all_goals simp (disch := omega) only [dt_ue, pk_un]
            · exact B.1
            · exact B.2.1
      · refine ⟨1, by omega, ?_, ?_, fun a ha => ?_⟩
        · simp (disch := omega) only [dt_ue, pk_un]
        · simp (disch := omega) only [dt_ue, pk_un]
        · have ha2 : a = 0 := by omega
          subst ha2
          refine ⟨i, j, by omega, by omega, ?_, ?_, ?_, ?_, ?_, ?_, ?_⟩
          all_goals simp (disch := omega) only [dt_ue, pk_un]
          · exact B'.2.2.1
          · exact B'.2.2.2
      · refine ⟨1, by omega, ?_, ?_, fun a ha => ?_⟩
        · simp (disch := omega) only [dt_ue, pk_un]
        · simp (disch := omega) only [dt_ue, pk_un]
        · have ha2 : a = 0 := by omega
          subst ha2
          refine ⟨j, i, by omega, by omega, ?_, ?_, ?_, ?_, ?_, ?_, ?_⟩
          all_goals simp (disch := omega) only [dt_ue, pk_un]
          · exact B'.2.2.1
          · exact B'.2.2.2
  · have := h7 a ha
    unfold dt_pr at this ⊢
    simp (disch := omega) only [pk_un]
    exact this
end
section
/-! the queries: solvable, earliest, latest, widest, meets, shortest, entailed, redundant, excess -/
theorem dt_okX {n c : Nat} {e b l z yl yr yb ys : Nat → Int32} (h : dt_cn n e b l z yl yr yb ys c) : dt_ok n e b l z c := by
  obtain ⟨s, hs, e1, e2, H⟩ := h
  refine ⟨s, hs, e1, fun a ha => ?_⟩
  obtain ⟨i, j, q1, q2, q3, q4, q5, q6, q7, q8, q9⟩ := H a ha
  exact ⟨i, j, q1, q2, q3, q4, q8, q9⟩
theorem dt_okY {n c : Nat} {e b l z yl yr yb ys : Nat → Int32} (h : dt_cn n e b l z yl yr yb ys c) : dt_ok n yl yr yb ys c := by
  obtain ⟨s, hs, e1, e2, H⟩ := h
  refine ⟨s, hs, e2, fun a ha => ?_⟩
  obtain ⟨i, j, q1, q2, q3, q4, q5, q6, q7, q8, q9⟩ := H a ha
  exact ⟨i, j, q1, q2, q5, q6, by rw [← q7]; exact q8, by rw [← q7]; exact q9⟩
theorem dt_alXY {n x y : Nat} {e b l yl yr yb : Nat → Int32} (h : dt_pr n e b l yl yr yb x y) (t : Nat → Int) : dt_al e b l x t ↔ dt_al yl yr yb y t := by
  obtain ⟨i, j, q1, q2, q3, q4, q5, q6, q7, q8, q9⟩ := h
  unfold dt_al
  rw [q3, q4, q5, q6, q7]
theorem dt_metXY {n c : Nat} {e b l z yl yr yb ys : Nat → Int32} (h : dt_cn n e b l z yl yr yb ys c) (t : Nat → Int) : dt_met e b l z c t ↔ dt_met yl yr yb ys c t := by
  obtain ⟨s, hs, e1, e2, H⟩ := h
  unfold dt_met
  rw [e1, e2, nI_clamp (by omega)]
  constructor
  · rintro ⟨a, ha, q⟩
    exact ⟨a, ha, (dt_alXY (H a ha) t).mp q⟩
  · rintro ⟨a, ha, q⟩
    exact ⟨a, ha, (dt_alXY (H a ha) t).mpr q⟩
theorem dt_solXY {n m : Nat} {fs : Int32} {e b l z yl yr yb ys : Nat → Int32} (h : ∀ c, c < m → dt_cn n e b l z yl yr yb ys c) (k : Nat) : dt_sol n e b l z m fs k ↔ dt_sol n yl yr yb ys m fs k := by
  constructor
  · intro q c h1 h2 h3
    exact (dt_metXY (h c h2) _).mp (q c h1 h2 h3)
  · intro q c h1 h2 h3
    exact (dt_metXY (h c h2) _).mpr (q c h1 h2 h3)
theorem dt_same {n i j N k : Nat} {S : Nat → Prop} {be r : Int32} (hk : k < N) (hs : S k) (hv : be.toInt = dt_pt n k i - dt_pt n k j) (hm : ∀ b, b < N → S b → dt_pt n b i - dt_pt n b j ≤ be.toInt) (h : dt_gr S n i j N r) : r = be ∧ ¬ r = -200 := by
  rcases h with ⟨_, h⟩ | ⟨⟨b, hb, hsb, hvb⟩, h⟩
  · exact absurd hs (h k hk)
  · have e : r = be := by
      rw [← Int32.toInt_inj]
      have a1 := hm b hb hsb
      have a2 := h k hk hs
      omega
    refine ⟨e, fun z => ?_⟩
    rw [z] at hvb
    have m2 : (-200 : Int32).toInt = -200 := by decide
    have p1 := dt_pn7 n b i
    have p2 := dt_pn7 n b j
    unfold dt_pt at hvb
    omega
theorem dt_none {n i j N : Nat} {S : Nat → Prop} {r : Int32} (hn : ∀ b, b < N → ¬ S b) (h : dt_gr S n i j N r) : r = -200 := by
  rcases h with ⟨h, _⟩ | ⟨⟨b, hb, hsb, hvb⟩, h⟩
  · exact h
  · exact absurd hsb (hn b hb)
theorem i_vc_solvable {k : Nat} {u : SX} {v : SY} (I : i_Rel k u v) (hk : k + 4 ≤ 2049) : wpX_solvable (fun r u' => wpY_solvable (fun r' => r' = r ∧ i_Rel (k + 4) u' v) v) u := by
  refine dt_el (P := fun u v => wpX_solvable (fun r u' => wpY_solvable (fun r' => r' = r ∧ i_Rel (k + 4) u' v) v) u) ?_ I
  intro n m d fa fb fz en bg li sz de db dl st ma tu ys yl yr yb h1 h2 h3 h4 h5 h6 h7
  have hn : n < 5 := by omega
  have okX : ∀ c, c < m → dt_ok n en bg li sz c := fun c hc => dt_okX (h6 c hc)
  have okY : ∀ c, c < m → dt_ok n yl yr yb ys c := fun c hc => dt_okY (h6 c hc)
  unfold wpX_solvable wpY_solvable
  dsimp only
  refine dt_open_s hn (fun st' hst => ?_)
  refine dt_canMeet hn h3 okX hst (fun fa' be' ma' tu' hno => br_t rfl ?_) (fun fa' be' ma' tu' b hb _ hs => br_f (by decide) ?_)
  · exact dt_poss hn h3 okY (fun b hb hs => absurd ((dt_solXY h6 b).mpr hs) (hno b hb trivial)) (fun _ => br_t rfl ⟨rfl, dt_in h1 h2 h3 h4 h5 h6 h7⟩)
  · exact dt_poss hn h3 okY (fun _ _ _ => br_f (by decide) ⟨rfl, dt_in h1 h2 h3 h4 h5 h6 h7⟩) (fun hno => absurd ((dt_solXY h6 b).mp hs) (hno b hb))
theorem i_vc_earliest {k : Nat} {u : SX} {v : SY} (I : i_Rel k u v) (hk : k + 4 ≤ 2049) (v1 : Int32) : wpX_earliest (fun r u' => wpY_earliest (fun r' => r' = r ∧ i_Rel (k + 4) u' v) v v1) u v1 := by
  refine dt_el (P := fun u v => wpX_earliest (fun r u' => wpY_earliest (fun r' => r' = r ∧ i_Rel (k + 4) u' v) v v1) u v1) ?_ I
  intro n m d fa fb fz en bg li sz de db dl st ma tu ys yl yr yb h1 h2 h3 h4 h5 h6 h7
  have hn : n < 5 := by omega
  have okX : ∀ c, c < m → dt_ok n en bg li sz c := fun c hc => dt_okX (h6 c hc)
  have okY : ∀ c, c < m → dt_ok n yl yr yb ys c := fun c hc => dt_okY (h6 c hc)
  unfold wpX_earliest wpY_earliest
  dsimp only
  rcases dt_ce v1 (n := n) (by omega) with b1 | ⟨e, he, rfl⟩
  · exact dt_ev0 b1 (br_t rfl (dt_be1 b1 (br_f (by decide) ⟨rfl, dt_in h1 h2 h3 h4 h5 h6 h7⟩)))
  refine dt_ev1 hn he (br_f (by decide) (dt_open_s hn (fun st' hst => ?_)))
  refine dt_searchA hn h3 (Nat.le_refl _) (by omega) okX hst (fun fa' be' ma' tu' hno => br_t rfl ?_) (fun fa' be' ma' tu' b hb _ hs hv hm => br_f (by decide) ?_)
  · refine dt_be0 hn he (br_t rfl (dt_great hn h3 (Nat.le_refl _) (by omega) okY (fun r hr => ?_)))
    have := dt_none (fun b hb hs => hno b hb trivial ((dt_solXY h6 b).mpr hs)) hr
    exact br_t this ⟨rfl, dt_in h1 h2 h3 h4 h5 h6 h7⟩
  · refine dt_be0 hn he (br_t rfl (dt_great hn h3 (Nat.le_refl _) (by omega) okY (fun r hr => ?_)))
    have := dt_same hb ((dt_solXY h6 b).mp hs) hv (fun b' hb' hs' => hm b' hb' trivial ((dt_solXY h6 b').mpr hs')) hr
    exact br_f this.2 ⟨by rw [this.1], dt_in h1 h2 h3 h4 h5 h6 h7⟩
theorem i_vc_latest {k : Nat} {u : SX} {v : SY} (I : i_Rel k u v) (hk : k + 4 ≤ 2049) (v1 : Int32) : wpX_latest (fun r u' => wpY_latest (fun r' => r' = r ∧ i_Rel (k + 4) u' v) v v1) u v1 := by
  refine dt_el (P := fun u v => wpX_latest (fun r u' => wpY_latest (fun r' => r' = r ∧ i_Rel (k + 4) u' v) v v1) u v1) ?_ I
  intro n m d fa fb fz en bg li sz de db dl st ma tu ys yl yr yb h1 h2 h3 h4 h5 h6 h7
  have hn : n < 5 := by omega
  have okX : ∀ c, c < m → dt_ok n en bg li sz c := fun c hc => dt_okX (h6 c hc)
  have okY : ∀ c, c < m → dt_ok n yl yr yb ys c := fun c hc => dt_okY (h6 c hc)
  unfold wpX_latest wpY_latest
  dsimp only
  rcases dt_ce v1 (n := n) (by omega) with b1 | ⟨e, he, rfl⟩
  · exact dt_ev0 b1 (br_t rfl (dt_be1 b1 (br_f (by decide) ⟨rfl, dt_in h1 h2 h3 h4 h5 h6 h7⟩)))
  refine dt_ev1 hn he (br_f (by decide) (dt_open_s hn (fun st' hst => ?_)))
  refine dt_searchA hn h3 (by omega) (Nat.le_refl _) okX hst (fun fa' be' ma' tu' hno => br_t rfl ?_) (fun fa' be' ma' tu' b hb _ hs hv hm => br_f (by decide) ?_)
  · refine dt_be0 hn he (br_t rfl (dt_great hn h3 (by omega) (Nat.le_refl _) okY (fun r hr => ?_)))
    have := dt_none (fun b hb hs => hno b hb trivial ((dt_solXY h6 b).mpr hs)) hr
    exact br_t this ⟨rfl, dt_in h1 h2 h3 h4 h5 h6 h7⟩
  · refine dt_be0 hn he (br_t rfl (dt_great hn h3 (by omega) (Nat.le_refl _) okY (fun r hr => ?_)))
    have := dt_same hb ((dt_solXY h6 b).mp hs) hv (fun b' hb' hs' => hm b' hb' trivial ((dt_solXY h6 b').mpr hs')) hr
    exact br_f this.2 ⟨this.1, dt_in h1 h2 h3 h4 h5 h6 h7⟩
theorem i_vc_widest {k : Nat} {u : SX} {v : SY} (I : i_Rel k u v) (hk : k + 4 ≤ 2049) (v1 : Int32) (v2 : Int32) : wpX_widest (fun r u' => wpY_widest (fun r' => r' = r ∧ i_Rel (k + 4) u' v) v v1 v2) u v1 v2 := by
  refine dt_el (P := fun u v => wpX_widest (fun r u' => wpY_widest (fun r' => r' = r ∧ i_Rel (k + 4) u' v) v v1 v2) u v1 v2) ?_ I
  intro n m d fa fb fz en bg li sz de db dl st ma tu ys yl yr yb h1 h2 h3 h4 h5 h6 h7
  have hn : n < 5 := by omega
  have okX : ∀ c, c < m → dt_ok n en bg li sz c := fun c hc => dt_okX (h6 c hc)
  have okY : ∀ c, c < m → dt_ok n yl yr yb ys c := fun c hc => dt_okY (h6 c hc)
  unfold wpX_widest wpY_widest
  dsimp only
  rcases dt_cp v1 hn with b1 | ⟨i, hi, rfl⟩
  · exact dt_pt0 b1 (br_t rfl (dt_bp1 b1 (br_f (by decide) ⟨rfl, dt_in h1 h2 h3 h4 h5 h6 h7⟩)))
  refine dt_pt1 hn hi (br_f (by decide) ?_)
  rcases dt_cp v2 hn with b2 | ⟨j, hj, rfl⟩
  · exact dt_pt0 b2 (br_t rfl (dt_bp0 hn hi (br_t rfl (dt_bp1 b2 (br_f (by decide) ⟨rfl, dt_in h1 h2 h3 h4 h5 h6 h7⟩)))))
  refine dt_pt1 hn hj (br_f (by decide) (dt_open_s hn (fun st' hst => ?_)))
  refine dt_searchA hn h3 hi hj okX hst (fun fa' be' ma' tu' hno => br_t rfl ?_) (fun fa' be' ma' tu' b hb _ hs hv hm => br_f (by decide) ?_)
  · refine dt_bp0 hn hi (br_t rfl (dt_bp0 hn hj (br_t rfl (dt_great hn h3 hi hj okY (fun r hr => ?_)))))
    exact ⟨dt_none (fun b hb hs => hno b hb trivial ((dt_solXY h6 b).mpr hs)) hr, dt_in h1 h2 h3 h4 h5 h6 h7⟩
  · refine dt_bp0 hn hi (br_t rfl (dt_bp0 hn hj (br_t rfl (dt_great hn h3 hi hj okY (fun r hr => ?_)))))
    exact ⟨(dt_same hb ((dt_solXY h6 b).mp hs) hv (fun b' hb' hs' => hm b' hb' trivial ((dt_solXY h6 b').mpr hs')) hr).1, dt_in h1 h2 h3 h4 h5 h6 h7⟩
theorem dt_nm1 {c : Nat} (h : c < 2 ^ 31) : ¬ nI c = -1 := fun q => by
  have a := nI_pos' h
  rw [q] at a
  exact absurd a (by decide)
theorem dt_plans {n : Nat} (hn : n < 5) : (1 : Int32) <<< ((3 * nI n) &&& 31) = nI (8 ^ n) := by
  have h8 := dt_p8 hn
  have e : (3 : Int32) * nI n = nI (3 * n) := pk_mul 3 n
  have e8 : 2 ^ (3 * n) = 8 ^ n := Nat.pow_mul 2 3 n
  rw [e]
  show nI 1 <<< (nI (3 * n) &&& 31) = _
  rw [pk_shlN _ (3 * n) (s_l (3 * n) (by omega)) (by rw [e8]; omega), Nat.one_mul, e8]
section
variable {fn fc fd fa fs fb fz : Int32} {en bg li sz de db dl st ma tu : Nat → Int32}
theorem dt_timeIn {post : Int32 → Prop} {n k p : Nat} (hn : n < 5) (hp : p ≤ n) (hk : k < 8 ^ n) (H : post (nI (dt_pn n k p))) : wpX_timeIn post (nI n, fc, fd, fa, fs, fb, fz, en, bg, li, sz, de, db, dl, st, ma, tu) (nI k) (nI p) := by
  have h8 := dt_p8 hn
  refine pk_eq p n (fun h => ?_) (fun h => ?_)
  · unfold dt_pn at H
    rw [if_neg (by omega)] at H
    exact H
  · rw [dt_sh3 (by omega), dt_dig (by omega) (by omega)]
    unfold dt_pn at H
    rw [if_pos (by omega)] at H
    exact H
theorem dt_meets35 {post : Int32 → Prop} {J : Int32 → Prop} {n k c s : Nat} (hn : n < 5) (hk : k < 8 ^ n) (hc : c < 8) (hs : s ≤ 3) (es : sz c = nI s) (ok : ∀ a, a < s → dt_alok n en bg li (3 * c + a))
    (H0 : ¬ dt_met en bg li sz c (dt_pt n k) → post 0) (HJ : dt_met en bg li sz c (dt_pt n k) → J (nI (c + 1))) :
    ∀ r a, a + r = s → ∀ x3 : Int32, (x3 = 0 ∧ ∀ b, b < a → ¬ dt_al en bg li (3 * c + b) (dt_pt n k)) ∨ (x3 = 1 ∧ dt_met en bg li sz c (dt_pt n k)) → wX_meets_35 post J (nI k) (nI c) (nI n) fc fd fa fs fb fz en bg li sz de db dl st ma tu (r + 1) x3 (nI (3 * c + a)) := by
  have hc8 : vp_in (nI c) 8 := vp_in_nI hc (by decide)
  have e1 : (3 * nI c) + sz (nI c).toNatClampNeg = nI (3 * c + s) := by
    rw [nI_clamp (by omega), es]
    show nI 3 * nI c + nI s = _
    rw [pk_mul, nI_add]
  intro r
  induction r with
  | zero =>
    intro a ha x3 hx
    refine And.intro hc8 (pk_le (3 * c + s) (3 * c + a) (fun _ => ?_) (fun z => absurd z (by omega)) e1)
    rcases hx with ⟨rfl, hno⟩ | ⟨rfl, hmet⟩
    · refine br_t rfl (H0 ?_)
      rintro ⟨b, hb, q⟩
      rw [es, nI_clamp (by omega)] at hb
      exact hno b (by omega) q
    · exact br_f (by decide) (nm_r (e' := nI (c + 1)) (nI_1 c) (HJ hmet))
  | succ r ih =>
    intro a ha x3 hx
    refine And.intro hc8 (pk_le (3 * c + s) (3 * c + a) (fun z => absurd z (by omega)) (fun _ => ?_) e1)
    rcases hx with ⟨rfl, hno⟩ | ⟨rfl, hmet⟩
    · obtain ⟨i, j, hi, hj, ei, ej, l1, l2⟩ := ok a (by omega)
      have h24 : vp_in (nI (3 * c + a)) 24 := vp_in_nI (by omega) (by decide)
      have cx : (nI (3 * c + a)).toNatClampNeg = 3 * c + a := nI_clamp (by omega)
      refine br_t rfl ⟨h24, ?_⟩
      rw [cx, ei, ej]
      refine dt_timeIn hn hi hk ⟨h24, dt_timeIn hn hj hk ⟨h24, br_c (fun hlt => ?_) (fun hlt => ?_)⟩⟩
      all_goals
        have p1 := dt_pn7 n k i
        have p2 := dt_pn7 n k j
        have al : dt_al en bg li (3 * c + a) (dt_pt n k) ↔ (dt_pn n k i : Int) - (dt_pn n k j : Int) ≤ (li (3 * c + a)).toInt := by
          unfold dt_al
          rw [ei, ej, nI_clamp (by omega), nI_clamp (by omega)]
          exact Iff.rfl
        rw [Int32.lt_iff_toInt_lt, pk_sub_toInt (by omega) (by omega)] at hlt
      · refine nm_r (e' := nI (3 * c + (a + 1))) (nI_1 _) (ih (a + 1) (by omega) 0 (Or.inl ⟨rfl, fun b hb => ?_⟩))
        rcases Nat.lt_or_ge b a with g | g
        · exact hno b g
        · have : b = a := by omega
          subst this
          rw [al]
          omega
      · refine nm_r (e' := nI (3 * c + (a + 1))) (nI_1 _) (ih (a + 1) (by omega) 1 (Or.inr ⟨rfl, a, ?_, al.mpr (by omega)⟩))
        rw [es, nI_clamp (by omega)]
        omega
    · exact br_f (by decide) (nm_r (e' := nI (3 * c + (a + 1))) (nI_1 _) (ih (a + 1) (by omega) 1 (Or.inr ⟨rfl, hmet⟩)))
theorem dt_meets20 {post : Int32 → Prop} {n k m : Nat} (hn : n < 5) (hk : k < 8 ^ n) (hm : m ≤ 8) (ok : ∀ c, c < m → dt_ok n en bg li sz c)
    (H1 : dt_sol n en bg li sz m (-1) k → post 1) (H0 : ¬ dt_sol n en bg li sz m (-1) k → post 0) :
    ∀ r c, c + r = m → (∀ b, b < c → dt_met en bg li sz b (dt_pt n k)) → wX_meets_20 post (nI k) (nI n) (nI m) fd fa fs fb fz en bg li sz de db dl st ma tu (r + 1) (nI c) := by
  intro r
  induction r with
  | zero =>
    intro c hc ha
    exact pk_le m c (fun _ => H1 (fun b _ hb _ => ha b (by omega))) (fun z => absurd z (by omega))
  | succ r ih =>
    intro c hc ha
    obtain ⟨s, hs, es, H⟩ := ok c (by omega)
    refine pk_le m c (fun z => absurd z (by omega)) (fun _ => nm_r (e' := nI (3 * c + 0)) (pk_mul 3 c) (Exists.intro (s + 1) (dt_meets35 hn hk (by omega) hs es H (fun hno => H0 fun q => hno (q c (Nat.zero_le _) (by omega) (dt_nm1 (by omega)))) (fun hmet => ih (c + 1) (by omega) (fun b hb => ?_)) s 0 (Nat.zero_add _) 0 (Or.inl ⟨rfl, fun b hb => absurd hb (Nat.not_lt_zero b)⟩))))
    rcases Nat.lt_or_ge b c with g | g
    · exact ha b g
    · have : b = c := by omega
      subst this
      exact hmet
end
theorem i_vc_meets {k : Nat} {u : SX} {v : SY} (I : i_Rel k u v) (hk : k + 4 ≤ 2049) (v1 : Int32) : wpX_meets (fun r => wpY_meets (fun r' => r' = r ∧ i_Rel (k + 4) u v) v v1) u v1 := by
  refine dt_el (P := fun u v => wpX_meets (fun r => wpY_meets (fun r' => r' = r ∧ i_Rel (k + 4) u v) v v1) u v1) ?_ I
  intro n m d fa fb fz en bg li sz de db dl st ma tu ys yl yr yb h1 h2 h3 h4 h5 h6 h7
  have rel := dt_in (k := k + 4) (fa := fa) (fb := fb) (fz := fz) (st := st) (ma := ma) (tu := tu) h1 h2 h3 h4 h5 h6 h7
  have hn : n < 5 := by omega
  have h8 := dt_p8 hn
  have okX : ∀ c, c < m → dt_ok n en bg li sz c := fun c hc => dt_okX (h6 c hc)
  have okY : ∀ c, c < m → dt_ok n yl yr yb ys c := fun c hc => dt_okY (h6 c hc)
  unfold wpX_meets wpY_meets
  dsimp only
  rw [dt_plans hn]
  by_cases h0 : v1 < 0
  · exact br_t h0 (br_t h0 ⟨rfl, rel⟩)
  obtain ⟨q, hq, rfl⟩ := nI_of h0
  refine br_f h0 (pk_lt q (8 ^ n) (fun hl => ?_) (fun hg => ?_))
  · refine Exists.intro (m + 1) (dt_meets20 hn hl h3 okX (fun hs => ?_) (fun hs => ?_) m 0 (Nat.zero_add _) (fun b hb => absurd hb (Nat.not_lt_zero b)))
    · exact br_f h0 (pk_lt q (8 ^ n) (fun hl => dt_solu hn hl h3 okY (fun _ => br_f (by decide) ⟨rfl, rel⟩) (fun hno => absurd ((dt_solXY h6 q).mp hs) hno)) (fun z => absurd z (by omega)))
    · exact br_f h0 (pk_lt q (8 ^ n) (fun hl => dt_solu hn hl h3 okY (fun hy => absurd ((dt_solXY h6 q).mpr hy) hs) (fun _ => br_t rfl ⟨rfl, rel⟩)) (fun z => absurd z (by omega)))
  · exact br_f h0 (pk_lt q (8 ^ n) (fun z => absurd z (by omega)) (fun _ => ⟨rfl, rel⟩))
end
section
/-! entailed, redundant, shortest, excess -/
section
variable {fn fc fd fa fs fb fz : Int32} {en bg li sz de db dl st ma tu : Nat → Int32}
/-- a comparison denied -/
theorem dt_tneg {post : SX → Prop} {n x : Nat} {e b l : Nat → Int32} {Q : Nat → Prop} (hn : n < 5) (ok : dt_alok n e b l x) (hS : dt_start n fb st Q)
    (H : ∀ (fb' : Int32) (st' : Nat → Int32), dt_start n fb' st' (fun k => Q k ∧ ¬ dt_al e b l x (dt_pt n k)) → post (fn, fc, fd, fa, fs, fb', fz, en, bg, li, sz, de, db, dl, st', ma, tu)) : wpX_tightenStart post (fn, fc, fd, fa, fs, fb, fz, en, bg, li, sz, de, db, dl, st, ma, tu) (b x) (e x) ((-(l x)) - 1) := by
  obtain ⟨i, j, hi, hj, ei, ej, l1, l2⟩ := ok
  have w : ((-(l x)) - 1).toInt = -(l x).toInt - 1 := by
    have a : (-(l x)).toInt = -(l x).toInt := Jvm.Kit.i32_neg (by omega)
    have o : (1 : Int32).toInt = 1 := by decide
    rw [Jvm.Kit.i32_sub (by omega) (by omega), a, o]
  rw [ei, ej]
  refine dt_tstart hn hj hi (by omega) hS (fun fb' st' h => H fb' st' (dt_start_cg h hn fun k _ => ?_))
  unfold dt_al
  rw [ei, ej, nI_clamp (by omega), nI_clamp (by omega), w]
  constructor
  · rintro ⟨q1, q2⟩
    exact ⟨q1, by omega⟩
  · rintro ⟨q1, q2⟩
    exact ⟨q1, by omega⟩
theorem dt_ent15 {post : Int32 → SX → Prop} {n m d : Nat} (hn : n < 5) (hm : m ≤ 8) (hd : d ≤ 3) (ok : ∀ c, c < m → dt_ok n en bg li sz c) (okd : ∀ a, a < d → dt_alok n de db dl a)
    (H0 : (∀ k, k < 8 ^ n → (∀ b, b < d → ¬ dt_al de db dl b (dt_pt n k)) → ¬ dt_sol n en bg li sz m fs k) → ∀ (fa fb fz : Int32) (st ma tu : Nat → Int32), post 1 (nI n, nI m, nI d, fa, fs, fb, fz, en, bg, li, sz, de, db, dl, st, ma, tu))
    (H1 : ∀ k, k < 8 ^ n → (∀ b, b < d → ¬ dt_al de db dl b (dt_pt n k)) → dt_sol n en bg li sz m fs k → ∀ (fa fb fz : Int32) (st ma tu : Nat → Int32), post 0 (nI n, nI m, nI d, fa, fs, fb, fz, en, bg, li, sz, de, db, dl, st, ma, tu)) :
    ∀ r a, a + r = d → ∀ (fb : Int32) (st : Nat → Int32), dt_start n fb st (fun k => ∀ b, b < a → ¬ dt_al de db dl b (dt_pt n k)) → wX_entailed_15 post (r + 1) (nI a) (nI n) (nI m) (nI d) fa fs fb fz en bg li sz de db dl st ma tu := by
  intro r
  induction r with
  | zero =>
    intro a ha fb st hst
    have : a = d := by omega
    subst this
    refine pk_le a a (fun _ => ?_) (fun z => absurd z (by omega))
    exact dt_canMeet hn hm ok hst (fun fa' be' ma' tu' hno => br_t rfl (H0 hno _ _ _ _ _ _)) (fun fa' be' ma' tu' k hk hq hs => br_f (by decide) (H1 k hk hq hs _ _ _ _ _ _))
  | succ r ih =>
    intro a ha fb st hst
    have hi : vp_in (nI a) 3 := vp_in_nI (by omega) (by decide)
    have ca : (nI a).toNatClampNeg = a := nI_clamp (by omega)
    refine pk_le d a (fun z => absurd z (by omega)) (fun _ => ⟨hi, ⟨hi, ⟨hi, ?_⟩⟩⟩)
    rw [ca]
    refine dt_tneg hn (okd a (by omega)) hst (fun fb' st' h => nm_r (e' := nI (a + 1)) (nI_1 a) (ih (a + 1) (by omega) fb' st' (dt_start_cg h hn fun k _ => ?_)))
    constructor
    · intro q
      exact ⟨fun b hb => q b (by omega), q a (by omega)⟩
    · rintro ⟨q1, q2⟩ b hb
      rcases Nat.lt_or_ge b a with g | g
      · exact q1 b g
      · have : b = a := by omega
        subst this
        exact q2
theorem dt_red18 {post : Int32 → SX → Prop} {n m c s : Nat} (hn : n < 5) (hm : m ≤ 8) (hc : c < m) (ok : ∀ c, c < m → dt_ok n en bg li sz c) (hs : s ≤ 3) (es : sz c = nI s) (okd : ∀ a, a < s → dt_alok n en bg li (3 * c + a))
    (H0 : (∀ k, k < 8 ^ n → ¬ dt_met en bg li sz c (dt_pt n k) → ¬ dt_sol n en bg li sz m (nI c) k) → ∀ (fa fb fz : Int32) (st ma tu : Nat → Int32), post 1 (nI n, nI m, fd, fa, -1, fb, fz, en, bg, li, sz, de, db, dl, st, ma, tu))
    (H1 : ∀ k, k < 8 ^ n → ¬ dt_met en bg li sz c (dt_pt n k) → dt_sol n en bg li sz m (nI c) k → ∀ (fa fb fz : Int32) (st ma tu : Nat → Int32), post 0 (nI n, nI m, fd, fa, -1, fb, fz, en, bg, li, sz, de, db, dl, st, ma, tu)) :
    ∀ r a, a + r = s → ∀ (fb : Int32) (st : Nat → Int32), dt_start n fb st (fun k => ∀ b, b < a → ¬ dt_al en bg li (3 * c + b) (dt_pt n k)) → wX_redundant_18 post (nI c) (r + 1) (nI (3 * c + a)) (nI n) (nI m) fd fa fs fb fz en bg li sz de db dl st ma tu := by
  have hc8 : vp_in (nI c) 8 := vp_in_nI (by omega) (by decide)
  have e1 : (3 * nI c) + sz (nI c).toNatClampNeg = nI (3 * c + s) := by
    rw [nI_clamp (by omega), es]
    show nI 3 * nI c + nI s = _
    rw [pk_mul, nI_add]
  have mt : ∀ k, ¬ dt_met en bg li sz c (dt_pt n k) ↔ ∀ b, b < s → ¬ dt_al en bg li (3 * c + b) (dt_pt n k) := fun k => by
    unfold dt_met
    rw [es, nI_clamp (by omega)]
    constructor
    · intro q b hb z
      exact q ⟨b, hb, z⟩
    · rintro q ⟨b, hb, z⟩
      exact q b hb z
  intro r
  induction r with
  | zero =>
    intro a ha fb st hst
    have : a = s := by omega
    subst this
    refine And.intro hc8 (pk_le (3 * c + a) (3 * c + a) (fun _ => ?_) (fun z => absurd z (by omega)) e1)
    exact dt_canMeet hn hm ok hst (fun fa' be' ma' tu' hno => br_t rfl (H0 (fun k hk q => hno k hk ((mt k).mp q)) _ _ _ _ _ _)) (fun fa' be' ma' tu' k hk hq hs => br_f (by decide) (H1 k hk ((mt k).mpr hq) hs _ _ _ _ _ _))
  | succ r ih =>
    intro a ha fb st hst
    have hi : vp_in (nI (3 * c + a)) 24 := vp_in_nI (by omega) (by decide)
    have ca : (nI (3 * c + a)).toNatClampNeg = 3 * c + a := nI_clamp (by omega)
    refine And.intro hc8 (pk_le (3 * c + s) (3 * c + a) (fun z => absurd z (by omega)) (fun _ => ⟨hi, ⟨hi, ⟨hi, ?_⟩⟩⟩) e1)
    rw [ca]
    refine dt_tneg hn (okd a (by omega)) hst (fun fb' st' h => nm_r (e' := nI (3 * c + (a + 1))) (nI_1 _) (ih (a + 1) (by omega) fb' st' (dt_start_cg h hn fun k _ => ?_)))
    constructor
    · intro q
      exact ⟨fun b hb => q b (by omega), q a (by omega)⟩
    · rintro ⟨q1, q2⟩ b hb
      rcases Nat.lt_or_ge b a with g | g
      · exact q1 b g
      · have : b = a := by omega
        subst this
        exact q2
theorem dt_sh14 {post : Int32 → SX → Prop} {J : Int32 → Int32 → Int32 → Int32 → Int32 → Int32 → Int32 → Int32 → (Nat → Int32) → (Nat → Int32) → (Nat → Int32) → (Nat → Int32) → (Nat → Int32) → (Nat → Int32) → (Nat → Int32) → (Nat → Int32) → (Nat → Int32) → (Nat → Int32) → Prop} {n m l : Nat} (hn : n < 5) (hm : m ≤ 8) (hl : l ≤ 7) (ok : ∀ c, c < m → dt_ok n en bg li sz c)
    (HJ : (∀ k, k < 8 ^ n → dt_fit n k l → ¬ dt_sol n en bg li sz m fs k) → ∀ (fa fb fz : Int32) (st ma tu : Nat → Int32), J (nI (l + 1)) (nI n) (nI m) fd fa fs fb fz en bg li sz de db dl st ma tu)
    (H1 : ∀ k, k < 8 ^ n → dt_fit n k l → dt_sol n en bg li sz m fs k → ∀ (fa fb fz : Int32) (st ma tu : Nat → Int32), post (nI l) (nI n, nI m, fd, fa, fs, fb, fz, en, bg, li, sz, de, db, dl, st, ma, tu)) :
    ∀ r e, e + r = n → ∀ (fb : Int32) (st : Nat → Int32), dt_start n fb st (fun k => ∀ a, a < e → dt_pn n k a ≤ l) → wX_shortest_14 post J (nI l) (r + 1) (nI e) (nI n) (nI m) fd fa fs fb fz en bg li sz de db dl st ma tu := by
  have el : (nI l).toInt = (l : Int) := nI_toInt (by omega)
  intro r
  induction r with
  | zero =>
    intro e he fb st hst
    have : e = n := by omega
    subst this
    refine pk_le e e (fun _ => ?_) (fun z => absurd z (by omega))
    exact dt_canMeet hn hm ok hst (fun fa' be' ma' tu' hno => br_t rfl (nm_r (e' := nI (l + 1)) (nI_1 l) (HJ hno _ _ _ _ _ _))) (fun fa' be' ma' tu' k hk hq hs => br_f (by decide) (H1 k hk hq hs _ _ _ _ _ _))
  | succ r ih =>
    intro e he fb st hst
    refine pk_le n e (fun z => absurd z (by omega)) (fun _ => ?_)
    refine dt_tstart hn (by omega) (Nat.le_refl _) (by omega) hst (fun fb' st' h => nm_r (e' := nI (e + 1)) (nI_1 e) (ih (e + 1) (by omega) fb' st' (dt_start_cg h hn fun k _ => ?_)))
    rw [dt_ptn, el]
    unfold dt_pt
    constructor
    · intro q
      have := q e (by omega)
      exact ⟨fun b hb => q b (by omega), by omega⟩
    · rintro ⟨q1, q2⟩ b hb
      rcases Nat.lt_or_ge b e with g | g
      · exact q1 b g
      · have : b = e := by omega
        subst this
        omega
theorem dt_sh2 {post : Int32 → SX → Prop} {n m : Nat} (hn : n < 5) (hm : m ≤ 8) (ok : ∀ c, c < m → dt_ok n en bg li sz c)
    (H : ∀ x, dt_sh (dt_sol n en bg li sz m fs) n (8 ^ n) x → ∀ (fa fb fz : Int32) (st ma tu : Nat → Int32), post x (nI n, nI m, fd, fa, fs, fb, fz, en, bg, li, sz, de, db, dl, st, ma, tu)) :
    ∀ r l, l + r = 8 → (∀ l', l' < l → ∀ k, k < 8 ^ n → dt_fit n k l' → ¬ dt_sol n en bg li sz m fs k) → ∀ (fa fb fz : Int32) (st ma tu : Nat → Int32), wX_shortest_2 post (r + 1) (nI l) (nI n) (nI m) fd fa fs fb fz en bg li sz de db dl st ma tu := by
  intro r
  induction r with
  | zero =>
    intro l hl ha fa fb fz st ma tu
    refine pk_lt 7 l (fun _ => H (-1) (Or.inl ⟨rfl, fun k hk => ?_⟩) _ _ _ _ _ _) (fun z => absurd z (by omega))
    exact ha 7 (by omega) k hk (fun e _ => dt_pn7 n k e)
  | succ r ih =>
    intro l hl ha fa fb fz st ma tu
    refine pk_lt 7 l (fun z => absurd z (by omega)) (fun _ => dt_open_s hn (fun st' hst => Exists.intro (n + 1) (dt_sh14 (l := l) hn hm (by omega) ok (fun hno => ih (l + 1) (by omega) (fun l' hl' => ?_)) (fun k hk hf hs => H (nI l) (Or.inr ⟨l, by omega, rfl, ⟨k, hk, hs, hf⟩, fun b hb hsb l' hl' hfb => ha l' hl' b hb hfb hsb⟩)) n 0 (Nat.zero_add _) 0 st' (dt_start_cg hst hn fun k _ => ?_))))
    · rcases Nat.lt_or_ge l' l with g | g
      · exact ha l' g
      · have : l' = l := by omega
        subst this
        exact hno
    · exact ⟨fun _ => trivial, fun _ a ha => absurd ha (Nat.not_lt_zero a)⟩
theorem dt_exc9 {post : Int32 → SX → Prop} {n m : Nat} (hn : n < 5) (hm : m ≤ 8) (ok : ∀ c, c < m → dt_ok n en bg li sz c) (efs : fs = -1)
    (H : ∀ o, o ≤ m → dt_can n en bg li sz (m - o) → (∀ p, p < o → ¬ dt_can n en bg li sz (m - p)) → ∀ (fa fb fz : Int32) (st ma tu : Nat → Int32), post (nI o) (nI n, nI m, fd, fa, fs, fb, fz, en, bg, li, sz, de, db, dl, st, ma, tu)) :
    ∀ r o, o + r = m → (∀ p, p < o → ¬ dt_can n en bg li sz (m - p)) → ∀ (fa fb fz : Int32) (st ma tu : Nat → Int32), wX_excess_9 post (nI m) (r + 1) (nI o) (nI o) (nI n) (nI (m - o)) fd fa fs fb fz en bg li sz de db dl st ma tu := by
  subst efs
  intro r
  induction r with
  | zero =>
    intro o ho ha fa fb fz st ma tu
    refine pk_lt 8 o (fun z => absurd z (by omega)) (fun _ => dt_open_s hn (fun st' hst => dt_canMeet hn (by omega) (fun c hc => ok c (by omega)) hst (fun fa' be' ma' tu' hno => ?_) (fun fa' be' ma' tu' k hk _ hs => br_f (by decide) (H o (by omega) ⟨k, hk, hs⟩ ha _ _ _ _ _ _))))
    exact absurd (fun c _ hc => by omega) (hno 0 (Nat.pow_pos (by decide)) trivial)
  | succ r ih =>
    intro o ho ha fa fb fz st ma tu
    refine pk_lt 8 o (fun z => absurd z (by omega)) (fun _ => dt_open_s hn (fun st' hst => dt_canMeet hn (by omega) (fun c hc => ok c (by omega)) hst (fun fa' be' ma' tu' hno => br_t rfl ?_) (fun fa' be' ma' tu' k hk _ hs => br_f (by decide) (H o (by omega) ⟨k, hk, hs⟩ ha _ _ _ _ _ _))))
    have em : nI (m - o) - 1 = nI (m - (o + 1)) := pk_sub (b := 1) (by omega)
    refine nm_r (e' := nI (m - (o + 1))) em (nm_r (e' := nI (o + 1)) (nI_1 o) (nm_r (e' := nI (o + 1)) (nI_1 o) (ih (o + 1) (by omega) (fun p hp => ?_) _ _ _ _ _ _)))
    rcases Nat.lt_or_ge p o with g | g
    · exact ha p g
    · have : p = o := by omega
      subst this
      rintro ⟨k, hk, hs⟩
      exact hno k hk trivial hs
end
theorem dt_met8 {n d : Nat} {de db dl yl yr yb ys : Nat → Int32} (hd : d ≤ 3) (h5 : ys 8 = nI d) (h7 : ∀ a, a < d → dt_pr n de db dl yl yr yb a (24 + a)) (t : Nat → Int) : ¬ dt_met yl yr yb ys 8 t ↔ ∀ b, b < d → ¬ dt_al de db dl b t := by
  unfold dt_met
  rw [h5, nI_clamp (by omega)]
  constructor
  · intro q b hb z
    exact q ⟨b, hb, (dt_alXY (h7 b hb) t).mp z⟩
  · rintro q ⟨b, hb, z⟩
    exact q b hb ((dt_alXY (h7 b hb) t).mpr z)
theorem i_vc_entailed {k : Nat} {u : SX} {v : SY} (I : i_Rel k u v) (hk : k + 4 ≤ 2049) : wpX_entailed (fun r u' => wpY_entailed (fun r' => r' = r ∧ i_Rel (k + 4) u' v) v) u := by
  refine dt_el (P := fun u v => wpX_entailed (fun r u' => wpY_entailed (fun r' => r' = r ∧ i_Rel (k + 4) u' v) v) u) ?_ I
  intro n m d fa fb fz en bg li sz de db dl st ma tu ys yl yr yb h1 h2 h3 h4 h5 h6 h7
  have hn : n < 5 := by omega
  have okX : ∀ c, c < m → dt_ok n en bg li sz c := fun c hc => dt_okX (h6 c hc)
  have okY : ∀ c, c < m → dt_ok n yl yr yb ys c := fun c hc => dt_okY (h6 c hc)
  have okd : ∀ a, a < d → dt_alok n de db dl a := fun a ha => by
    obtain ⟨i, j, q1, q2, q3, q4, q5, q6, q7, q8, q9⟩ := h7 a ha
    exact ⟨i, j, q1, q2, q3, q4, q8, q9⟩
  have ok8 : dt_ok n yl yr yb ys 8 := ⟨d, h4, h5, fun a ha => by
    obtain ⟨i, j, q1, q2, q3, q4, q5, q6, q7, q8, q9⟩ := h7 a ha
    exact ⟨i, j, q1, q2, q5, q6, by rw [q7] at q8; exact q8, by rw [q7] at q9; exact q9⟩⟩
  have m8 := fun t => dt_met8 h4 h5 h7 t
  unfold wpX_entailed
  refine pk_eq d 0 (fun hd => ?_) (fun hd => ?_)
  · exact br_t (by rw [hd]; rfl) ⟨rfl, dt_in h1 h2 h3 h4 h5 h6 h7⟩
  · have hd0 : ¬ nI d = 0 := nI_ne0 (by omega) (by omega)
    refine dt_open_s hn (fun st' hst => Exists.intro (d + 1) (dt_ent15 hn h3 h4 okX okd (fun hno fa fb fz st ma tu => ?_) (fun b hb hq hs fa fb fz st ma tu => ?_) d 0 (Nat.zero_add _) 0 st' (dt_start_cg hst hn fun k _ => ⟨fun _ => trivial, fun _ a ha => absurd ha (Nat.not_lt_zero a)⟩)))
    · exact dt_yent hn h3 okY ok8 hd0 (fun b hb hnb hs => absurd ((dt_solXY h6 b).mpr hs) (hno b hb ((m8 _).mp hnb))) (fun _ => ⟨rfl, dt_in h1 h2 h3 h4 h5 h6 h7⟩)
    · exact dt_yent hn h3 okY ok8 hd0 (fun _ _ _ _ => ⟨rfl, dt_in h1 h2 h3 h4 h5 h6 h7⟩) (fun hno => absurd ((dt_solXY h6 b).mp hs) (hno b hb ((m8 _).mpr hq)))
theorem i_vc_redundant {k : Nat} {u : SX} {v : SY} (I : i_Rel k u v) (hk : k + 4 ≤ 2049) (v1 : Int32) : wpX_redundant (fun r u' => wpY_redundant (fun r' => r' = r ∧ i_Rel (k + 4) u' v) v v1) u v1 := by
  refine dt_el (P := fun u v => wpX_redundant (fun r u' => wpY_redundant (fun r' => r' = r ∧ i_Rel (k + 4) u' v) v v1) u v1) ?_ I
  intro n m d fa fb fz en bg li sz de db dl st ma tu ys yl yr yb h1 h2 h3 h4 h5 h6 h7
  have hn : n < 5 := by omega
  have okX : ∀ c, c < m → dt_ok n en bg li sz c := fun c hc => dt_okX (h6 c hc)
  have okY : ∀ c, c < m → dt_ok n yl yr yb ys c := fun c hc => dt_okY (h6 c hc)
  unfold wpX_redundant
  rcases dt_ce v1 (n := m) (by omega) with b1 | ⟨c, hc, rfl⟩
  · refine dt_ic0 b1 (br_t rfl ?_)
    exact br_c (fun _ => ⟨rfl, dt_in h1 h2 h3 h4 h5 h6 h7⟩) (fun h0 => br_f (dt_lelt (b1.resolve_left h0)) ⟨rfl, dt_in h1 h2 h3 h4 h5 h6 h7⟩)
  · obtain ⟨s, hs, es, H⟩ := okX c hc
    refine dt_ic1 h3 hc (br_f (by decide) (dt_open_s hn (fun st' hst => nm_r (e' := nI (3 * c + 0)) (pk_mul 3 c) (Exists.intro (s + 1) (dt_red18 hn h3 hc okX hs es H (fun hno fa fb fz st ma tu => ?_) (fun b hb hq hs fa fb fz st ma tu => ?_) s 0 (Nat.zero_add _) 0 st' (dt_start_cg hst hn fun k _ => ⟨fun _ => trivial, fun _ a ha => absurd ha (Nat.not_lt_zero a)⟩))))))
    · exact dt_yred hn h3 okY hc (fun b hb hnb hs => absurd ((dt_solXY h6 b).mpr hs) (hno b hb (fun z => hnb ((dt_metXY (h6 c hc) _).mp z)))) (fun _ => ⟨rfl, dt_in h1 h2 h3 h4 h5 h6 h7⟩)
    · exact dt_yred hn h3 okY hc (fun _ _ _ _ => ⟨rfl, dt_in h1 h2 h3 h4 h5 h6 h7⟩) (fun hno => absurd ((dt_solXY h6 b).mp hs) (hno b hb (fun z => hq ((dt_metXY (h6 c hc) _).mpr z))))
theorem dt_sh_eq {S S' : Nat → Prop} {n N : Nat} {x y : Int32} (hS : ∀ k, S k ↔ S' k) (h : dt_sh S n N x) (h' : dt_sh S' n N y) : y = x := by
  rcases h with ⟨e, h⟩ | ⟨l, hl, e, ⟨b, hb, hs, hf⟩, h⟩
  · rcases h' with ⟨e', h'⟩ | ⟨l', hl', e', ⟨b', hb', hs', hf'⟩, h'⟩
    · rw [e, e']
    · exact absurd ((hS b').mpr hs') (h b' hb')
  · rcases h' with ⟨e', h'⟩ | ⟨l', hl', e', ⟨b', hb', hs', hf'⟩, h'⟩
    · exact absurd ((hS b).mp hs) (h' b hb)
    · rw [e, e']
      rcases Nat.lt_trichotomy l l' with g | g | g
      · exact absurd hf (h' b hb ((hS b).mp hs) l g)
      · rw [g]
      · exact absurd hf' (h b' hb' ((hS b').mpr hs') l' g)
theorem i_vc_shortest {k : Nat} {u : SX} {v : SY} (I : i_Rel k u v) (hk : k + 4 ≤ 2049) : wpX_shortest (fun r u' => wpY_shortest (fun r' => r' = r ∧ i_Rel (k + 4) u' v) v) u := by
  refine dt_el (P := fun u v => wpX_shortest (fun r u' => wpY_shortest (fun r' => r' = r ∧ i_Rel (k + 4) u' v) v) u) ?_ I
  intro n m d fa fb fz en bg li sz de db dl st ma tu ys yl yr yb h1 h2 h3 h4 h5 h6 h7
  have hn : n < 5 := by omega
  have okX : ∀ c, c < m → dt_ok n en bg li sz c := fun c hc => dt_okX (h6 c hc)
  have okY : ∀ c, c < m → dt_ok n yl yr yb ys c := fun c hc => dt_okY (h6 c hc)
  refine Exists.intro 9 (dt_sh2 hn h3 okX (fun x hx fa fb fz st ma tu => ?_) 8 0 rfl (fun l' hl' => absurd hl' (Nat.not_lt_zero l')) fa fb fz st ma tu)
  exact dt_yshort hn h3 okY (fun r hr => ⟨dt_sh_eq (fun b => dt_solXY h6 b) hx hr, dt_in h1 h2 h3 h4 h5 h6 h7⟩)
theorem i_vc_excess {k : Nat} {u : SX} {v : SY} (I : i_Rel k u v) (hk : k + 4 ≤ 2049) : wpX_excess (fun r u' => wpY_excess (fun r' => r' = r ∧ i_Rel (k + 4) u' v) v) u := by
  refine dt_el (P := fun u v => wpX_excess (fun r u' => wpY_excess (fun r' => r' = r ∧ i_Rel (k + 4) u' v) v) u) ?_ I
  intro n m d fa fb fz en bg li sz de db dl st ma tu ys yl yr yb h1 h2 h3 h4 h5 h6 h7
  have hn : n < 5 := by omega
  have okX : ∀ c, c < m → dt_ok n en bg li sz c := fun c hc => dt_okX (h6 c hc)
  have okY : ∀ c, c < m → dt_ok n yl yr yb ys c := fun c hc => dt_okY (h6 c hc)
  have can : ∀ q, q ≤ m → (dt_can n en bg li sz q ↔ dt_can n yl yr yb ys q) := fun q hq => by
    constructor
    · rintro ⟨b, hb, hs⟩
      exact ⟨b, hb, (dt_solXY (fun c hc => h6 c (by omega)) b).mp hs⟩
    · rintro ⟨b, hb, hs⟩
      exact ⟨b, hb, (dt_solXY (fun c hc => h6 c (by omega)) b).mpr hs⟩
  refine Exists.intro (m + 1) (dt_exc9 hn h3 okX rfl (fun o ho hc hno fa fb fz st ma tu => ?_) m 0 (Nat.zero_add _) (fun p hp => absurd hp (Nat.not_lt_zero p)) fa fb fz st ma tu)
  refine dt_yexc hn h3 okY (fun o' ho' hc' hno' => ⟨congrArg nI ?_, dt_in h1 h2 h3 h4 h5 h6 h7⟩)
  rcases Nat.lt_trichotomy o o' with g | g | g
  · exact absurd ((can _ (by omega)).mp hc) (hno' o g)
  · exact g.symm
  · exact absurd ((can _ (by omega)).mpr (hc' (by omega))) (hno o' g)
end
section
/-! next -/
theorem dt_nm_cg {t t' : Nat → Int} : ∀ e, (∀ q, q < e → t q = t' q) → dt_nm t e = dt_nm t' e
  | 0, _ => rfl
  | e + 1, h => by
    show 8 * dt_nm t e + (t e).toNat = 8 * dt_nm t' e + (t' e).toNat
    rw [dt_nm_cg e (fun q hq => h q (by omega)), h e (by omega)]
theorem dt_pn_div {n k e q : Nat} (hq : q < e) (he : e ≤ n) : dt_pn n k q = dt_pn e (k / 8 ^ (n - e)) q := by
  unfold dt_pn
  rw [if_pos (by omega), if_pos hq, Nat.div_div_eq_div_mul, ← Nat.pow_add, show n - e + (e - 1 - q) = n - 1 - q by omega]
theorem dt_div_lt {n k e : Nat} (he : e ≤ n) (hk : k < 8 ^ n) : k / 8 ^ (n - e) < 8 ^ e := by
  apply Nat.div_lt_of_lt_mul
  rw [← Nat.pow_add, show n - e + e = n by omega]
  exact hk
/-- the first e digits of k are those of P -/
theorem dt_pref {n k e P : Nat} (he : e ≤ n) (hk : k < 8 ^ n) (hP : P < 8 ^ e) : (∀ q, q < e → dt_pn n k q = dt_pn e P q) ↔ k / 8 ^ (n - e) = P := by
  constructor
  · intro h
    rw [← dt_fwd hP, ← dt_fwd (dt_div_lt he hk)]
    refine dt_nm_cg e (fun q hq => ?_)
    unfold dt_pt
    rw [← dt_pn_div hq he, h q hq]
  · intro h q hq
    rw [dt_pn_div hq he, h]
section
variable {fn fc fd fa fs fb fz : Int32} {en bg li sz de db dl st ma tu : Nat → Int32}
theorem dt_ff76 {post : Int32 → SX → Prop} {n m e : Nat} {T : Nat → Prop} (hn : n < 5) (hm : m ≤ 8) (he : e < n) (ok : ∀ c, c < m → dt_ok n en bg li sz c)
    (H0 : (∀ k, k < 8 ^ n → T k → ¬ dt_sol n en bg li sz m fs k) → ∀ (fa fb fz : Int32) (st ma tu : Nat → Int32), post (-1) (nI n, nI m, fd, fa, fs, fb, fz, en, bg, li, sz, de, db, dl, st, ma, tu))
    (H1 : ∀ k, k < 8 ^ n → T k → dt_sol n en bg li sz m fs k → (∀ b, b < 8 ^ n → T b → dt_sol n en bg li sz m fs b → k ≤ b) → ∀ (fa fb fz : Int32) (st ma tu : Nat → Int32), post (nI k) (nI n, nI m, fd, fa, fs, fb, fz, en, bg, li, sz, de, db, dl, st, ma, tu)) :
    ∀ r p, p + r = n → e ≤ p → ∀ (x : Nat) (Q : Nat → Prop) (fa fb fz : Int32) (st ma tu : Nat → Int32), dt_start n fb st Q →
    (∀ k, k < 8 ^ n → T k → dt_sol n en bg li sz m fs k → x ≤ k / 8 ^ (n - p)) → (∀ k, k < 8 ^ n → dt_sol n en bg li sz m fs k → (Q k ↔ T k ∧ k / 8 ^ (n - p) = x)) → (p = e → ∀ k, k < 8 ^ n → T k → k / 8 ^ (n - p) = x) → (e < p → ∃ k, k < 8 ^ n ∧ Q k ∧ dt_sol n en bg li sz m fs k) →
    wX_firstFrom_76 post (r + 1) (nI x) (nI p) (nI n) (nI m) fd fa fs fb fz en bg li sz de db dl st ma tu := by
  intro r
  induction r with
  | zero =>
    intro p hp hep x Q fa fb fz st ma tu hst hA hB hE hX
    have : p = n := by omega
    subst this
    obtain ⟨k, hk, hq, hs⟩ := hX he
    rw [Nat.sub_self] at hA hB
    have hT := (hB k hk hs).mp hq
    rw [Nat.pow_zero, Nat.div_one] at hT
    refine pk_le p p (fun _ => ?_) (fun z => absurd z (by omega))
    rw [← hT.2]
    refine H1 k hk hT.1 hs (fun b hb hTb hsb => ?_) _ _ _ _ _ _
    have := hA b hb hTb hsb
    rw [Nat.pow_zero, Nat.div_one] at this
    omega
  | succ r ih =>
    intro p hp hep x Q fa fb fz st ma tu hst hA hB hE hX
    refine pk_le n p (fun z => absurd z (by omega)) (fun _ => dt_searchA hn hm (Nat.le_refl _) (by omega) ok hst (fun fa' be' ma' tu' hno => br_t rfl (H0 (fun k hk hT hs => ?_) _ _ _ _ _ _)) (fun fa' be' ma' tu' k hk hq hs hv hmax => br_f (by decide) ?_))
    · rcases Nat.lt_or_ge e p with g | g
      · obtain ⟨b, hb, hqb, hsb⟩ := hX g
        exact hno b hb hqb hsb
      · exact hno k hk ((hB k hk hs).mpr ⟨hT, hE (by omega) k hk hT⟩) hs
    · have p7 := dt_pn7 n k p
      rw [dt_ptn] at hv
      have eb : -be' = nI (dt_pn n k p) := by
        rw [← Int32.toInt_inj, nI_toInt (by omega)]
        have hv' : be'.toInt = 0 - (dt_pn n k p : Int) := hv
        rw [Jvm.Kit.i32_neg (by omega)]
        omega
      have min : ∀ b, b < 8 ^ n → Q b → dt_sol n en bg li sz m fs b → dt_pn n k p ≤ dt_pn n b p := fun b hb hqb hsb => by
        have a := hmax b hb hqb hsb
        rw [hv, dt_ptn] at a
        unfold dt_pt at a
        omega
      have hT := (hB k hk hs).mp hq
      have ex : 8 * nI x + nI (dt_pn n k p) = nI (8 * x + dt_pn n k p) := by
        show nI 8 * nI x + nI (dt_pn n k p) = _
        rw [pk_mul, nI_add]
      refine nm_r (e' := nI (dt_pn n k p)) eb (dt_tstart hn (by omega) (Nat.le_refl _) (by rw [nI_toInt (by omega)]; omega) hst (fun fb' st' h => nm_r (e' := nI (8 * x + dt_pn n k p)) ex (nm_r (e' := nI (p + 1)) (nI_1 p) (ih (p + 1) (by omega) (by omega) _ _ _ _ _ _ _ _ h (fun b hb hTb hsb => ?_) (fun b hb hsb => ?_) (fun z => absurd z (by omega)) (fun _ => ⟨k, hk, ⟨hq, ?_⟩, hs⟩)))))
      · have a := hA b hb hTb hsb
        rw [dt_step (by omega)]
        rcases Nat.lt_or_ge x (b / 8 ^ (n - p)) with g | g
        · omega
        · have c := min b hb ((hB b hb hsb).mpr ⟨hTb, by omega⟩) hsb
          omega
      · rw [dt_ptn, nI_toInt (by omega), dt_step (by omega)]
        unfold dt_pt
        constructor
        · rintro ⟨q1, q2⟩
          have c := min b hb q1 hsb
          have a := (hB b hb hsb).mp q1
          exact ⟨a.1, by omega⟩
        · rintro ⟨q1, q2⟩
          have b7 := dt_pn7 n b p
          have q3 : b / 8 ^ (n - p) = x := by omega
          exact ⟨(hB b hb hsb).mpr ⟨q1, q3⟩, by omega⟩
      · rw [dt_ptn, nI_toInt (by omega)]
        unfold dt_pt
        omega
theorem dt_ff7 {post : Int32 → SX → Prop} {n m e P g : Nat} (hn : n < 5) (hm : m ≤ 8) (he : e < n) (hP : P < 8 ^ e) (hg : g ≤ 7) (ok : ∀ c, c < m → dt_ok n en bg li sz c)
    (H0 : (∀ k, k < 8 ^ n → (k / 8 ^ (n - e) = P ∧ g ≤ dt_pn n k e) → ¬ dt_sol n en bg li sz m fs k) → ∀ (fa fb fz : Int32) (st ma tu : Nat → Int32), post (-1) (nI n, nI m, fd, fa, fs, fb, fz, en, bg, li, sz, de, db, dl, st, ma, tu))
    (H1 : ∀ k, k < 8 ^ n → (k / 8 ^ (n - e) = P ∧ g ≤ dt_pn n k e) → dt_sol n en bg li sz m fs k → (∀ b, b < 8 ^ n → (b / 8 ^ (n - e) = P ∧ g ≤ dt_pn n b e) → dt_sol n en bg li sz m fs b → k ≤ b) → ∀ (fa fb fz : Int32) (st ma tu : Nat → Int32), post (nI k) (nI n, nI m, fd, fa, fs, fb, fz, en, bg, li, sz, de, db, dl, st, ma, tu)) :
    ∀ r p, p + r = e → ∀ (fb : Int32) (st : Nat → Int32), dt_start n fb st (fun k => ∀ q, q < p → dt_pn n k q = dt_pn e P q) → wX_firstFrom_7 post (nI P) (nI e) (nI g) (r + 1) (nI p) (nI n) (nI m) fd fa fs fb fz en bg li sz de db dl st ma tu := by
  have h8 := dt_p8 hn
  have hPl : P < 2 ^ 31 := by
    have := Nat.pow_le_pow_right (n := 8) (by decide) (show e ≤ n by omega)
    omega
  have neg : ∀ y, y ≤ 7 → (-nI y).toInt = -(y : Int) := fun y hy => by
    rw [Jvm.Kit.i32_neg (by rw [nI_toInt (by omega)]; omega), nI_toInt (by omega)]
  intro r
  induction r with
  | zero =>
    intro p hp fb st hst
    have : p = e := by omega
    subst this
    have ng := neg g hg
    refine pk_le p p (fun _ => dt_tstart hn (Nat.le_refl _) (by omega) (by omega) hst (fun fb' st' h => ?_)) (fun z => absurd z (by omega))
    refine Exists.intro (n - p + 1) (dt_ff76 (e := p) (T := fun k => k / 8 ^ (n - p) = P ∧ g ≤ dt_pn n k p) hn hm he ok H0 H1 (n - p) p (by omega) (Nat.le_refl _) P _ _ _ _ _ _ _ h (fun k hk hT hs => ?_) (fun k hk hs => ?_) (fun _ k hk hT => hT.1) (fun z => absurd z (by omega)))
    · exact Nat.le_of_eq hT.1.symm
    · rw [dt_pref (by omega) hk hP, dt_ptn, ng]
      unfold dt_pt
      constructor
      · rintro ⟨q1, q2⟩
        exact ⟨⟨q1, by omega⟩, q1⟩
      · rintro ⟨⟨q1, q2⟩, _⟩
        exact ⟨q1, by omega⟩
  | succ r ih =>
    intro p hp fb st hst
    have d7 := dt_pn7 e P p
    have ed : (nI P >>> ((3 * ((nI e - 1) - nI p)) &&& 31)) &&& 7 = nI (dt_pn e P p) := by
      rw [dt_sh3 (by omega), dt_dig hPl (by omega)]
      unfold dt_pn
      rw [if_pos (by omega)]
    have nd := neg (dt_pn e P p) d7
    refine pk_le e p (fun z => absurd z (by omega)) (fun _ => nm_r (e' := nI (dt_pn e P p)) ed (dt_tstart hn (by omega) (Nat.le_refl _) (by rw [nI_toInt (by omega)]; omega) hst (fun fb' st' h => dt_tstart hn (Nat.le_refl _) (by omega) (by omega) h (fun fb'' st'' h' => nm_r (e' := nI (p + 1)) (nI_1 p) (ih (p + 1) (by omega) fb'' st'' (dt_start_cg h' hn fun k _ => ?_))))))
    rw [dt_ptn, nd, nI_toInt (by omega)]
    unfold dt_pt
    constructor
    · intro q
      have := q p (by omega)
      exact ⟨⟨fun b hb => q b (by omega), by omega⟩, by omega⟩
    · rintro ⟨⟨q1, q2⟩, q3⟩ b hb
      rcases Nat.lt_or_ge b p with g | g
      · exact q1 b g
      · have : b = p := by omega
        subst this
        omega
theorem dt_ff {post : Int32 → SX → Prop} {n m e P g : Nat} (hn : n < 5) (hm : m ≤ 8) (he : e < n) (hP : P < 8 ^ e) (hg : g ≤ 7) (ok : ∀ c, c < m → dt_ok n en bg li sz c)
    (H0 : (∀ k, k < 8 ^ n → (k / 8 ^ (n - e) = P ∧ g ≤ dt_pn n k e) → ¬ dt_sol n en bg li sz m fs k) → ∀ (fa fb fz : Int32) (st ma tu : Nat → Int32), post (-1) (nI n, nI m, fd, fa, fs, fb, fz, en, bg, li, sz, de, db, dl, st, ma, tu))
    (H1 : ∀ k, k < 8 ^ n → (k / 8 ^ (n - e) = P ∧ g ≤ dt_pn n k e) → dt_sol n en bg li sz m fs k → (∀ b, b < 8 ^ n → (b / 8 ^ (n - e) = P ∧ g ≤ dt_pn n b e) → dt_sol n en bg li sz m fs b → k ≤ b) → ∀ (fa fb fz : Int32) (st ma tu : Nat → Int32), post (nI k) (nI n, nI m, fd, fa, fs, fb, fz, en, bg, li, sz, de, db, dl, st, ma, tu)) :
    wpX_firstFrom post (nI n, nI m, fd, fa, fs, fb, fz, en, bg, li, sz, de, db, dl, st, ma, tu) (nI P) (nI e) (nI g) := by
  unfold wpX_firstFrom
  exact dt_open_s hn (fun st' hst => Exists.intro (e + 1) (dt_ff7 hn hm he hP hg ok H0 H1 e 0 (Nat.zero_add _) 0 st' (dt_start_cg hst hn fun k _ => ⟨fun _ => trivial, fun _ a ha => absurd ha (Nat.not_lt_zero a)⟩)))
theorem dt_next37 {post : Int32 → SX → Prop} {n m A : Nat} (hn : n < 5) (hm : m ≤ 8) (hA : A < 8 ^ n) (ok : ∀ c, c < m → dt_ok n en bg li sz c)
    (H0 : (∀ k, k < 8 ^ n → A < k → ¬ dt_sol n en bg li sz m fs k) → ∀ (fa fb fz : Int32) (st ma tu : Nat → Int32), post (-1) (nI n, nI m, fd, fa, fs, fb, fz, en, bg, li, sz, de, db, dl, st, ma, tu))
    (H1 : ∀ k, k < 8 ^ n → A < k → dt_sol n en bg li sz m fs k → (∀ b, b < 8 ^ n → A < b → dt_sol n en bg li sz m fs b → k ≤ b) → ∀ (fa fb fz : Int32) (st ma tu : Nat → Int32), post (nI k) (nI n, nI m, fd, fa, fs, fb, fz, en, bg, li, sz, de, db, dl, st, ma, tu)) :
    ∀ j, j ≤ n → (∀ k, k < 8 ^ n → dt_sol n en bg li sz m fs k → A < k → ¬ k / 8 ^ (n - j) = A / 8 ^ (n - j)) → ∀ (fa fb fz : Int32) (st ma tu : Nat → Int32), wX_next_37 post (nI A) (j + 1) (nI j + (-1)) (nI n) (nI m) fd fa fs fb fz en bg li sz de db dl st ma tu := by
  have h8 := dt_p8 hn
  intro j
  induction j with
  | zero =>
    intro hj hI fa fb fz st ma tu
    refine br_t (by decide) (H0 (fun k hk hAk hs => hI k hk hs hAk ?_) _ _ _ _ _ _)
    rw [Nat.sub_zero, Nat.div_eq_of_lt hk, Nat.div_eq_of_lt hA]
  | succ j ih =>
    intro hj hI fa fb fz st ma tu
    rw [pk_m1]
    have d7 := dt_pn7 n A j
    have sA := dt_step (n := n) (k := A) (p := j) (by omega)
    have mono : ∀ {b c : Nat}, b / 8 ^ (n - (j + 1)) < c / 8 ^ (n - (j + 1)) → b < c := fun {b c} h => by
      rcases Nat.lt_or_ge b c with q | q
      · exact q
      · have := Nat.div_le_div_right (c := 8 ^ (n - (j + 1))) q
        omega
    have e4 : (3 : Int32) * ((nI n - 1) - nI j) = nI (3 * (n - 1 - j)) := dt_sh3 (by omega)
    have e5 : (nI A >>> (nI (3 * (n - 1 - j)) &&& 31)) &&& 7 = nI (dt_pn n A j) := by
      rw [dt_dig (by omega) (by omega)]
      unfold dt_pn
      rw [if_pos (by omega)]
    have e6 : nI A >>> ((nI (3 * (n - 1 - j)) + 3) &&& 31) = nI (A / 8 ^ (n - j)) := by
      have a : nI (3 * (n - 1 - j)) + 3 = nI (3 * (n - j)) := by
        show nI (3 * (n - 1 - j)) + nI 3 = _
        rw [nI_add]
        exact congrArg nI (by omega)
      rw [a, pk_shrN (by omega) _ (3 * (n - j)) (s_l _ (by omega)), Nat.pow_mul]
    -- what a round without a find gives
    have down : (∀ k, k < 8 ^ n → (k / 8 ^ (n - j) = A / 8 ^ (n - j) ∧ dt_pn n A j + 1 ≤ dt_pn n k j) → ¬ dt_sol n en bg li sz m fs k) → ∀ k, k < 8 ^ n → dt_sol n en bg li sz m fs k → A < k → ¬ k / 8 ^ (n - j) = A / 8 ^ (n - j) := fun hno k hk hs hAk q => by
      have sk := dt_step (n := n) (k := k) (p := j) (by omega)
      have i1 := hI k hk hs hAk
      rcases Nat.lt_trichotomy (dt_pn n k j) (dt_pn n A j) with c | c | c
      · have := mono (b := k) (c := A) (by omega)
        omega
      · exact i1 (by omega)
      · exact hno k hk ⟨q, c⟩ hs
    refine br_f (nI_pos (by omega)) (nm_r (e' := nI (3 * (n - 1 - j))) e4 (nm_r (e' := nI (dt_pn n A j)) e5 (pk_le 7 (dt_pn n A j) (fun h => ?_) (fun h => nm_r (e' := nI (A / 8 ^ (n - j))) e6 ?_))))
    · refine nm_e (ih (by omega) (down fun k hk hT => ?_) _ _ _ _ _ _)
      have := dt_pn7 n k j
      omega
    · rw [nI_1 (dt_pn n A j)]
      refine dt_ff hn hm (by omega) (dt_div_lt (by omega) hA) (by omega) ok (fun hno fa fb fz st ma tu => br_t (by decide) (nm_e (ih (by omega) (down hno) _ _ _ _ _ _))) (fun k hk hT hs hmin fa fb fz st ma tu => br_f (nI_pos (by omega)) (H1 k hk ?_ hs (fun b hb hAb hsb => ?_) _ _ _ _ _ _))
      · have sk := dt_step (n := n) (k := k) (p := j) (by omega)
        exact mono (b := A) (c := k) (by omega)
      · rcases Nat.lt_or_ge b k with q | q
        · have c1 := Nat.div_le_div_right (c := 8 ^ (n - j)) (Nat.le_of_lt q)
          have c2 := Nat.div_le_div_right (c := 8 ^ (n - j)) (Nat.le_of_lt hAb)
          have eb : b / 8 ^ (n - j) = A / 8 ^ (n - j) := by omega
          have sb := dt_step (n := n) (k := b) (p := j) (by omega)
          rcases Nat.lt_trichotomy (dt_pn n b j) (dt_pn n A j) with c | c | c
          · have := mono (b := b) (c := A) (by omega)
            omega
          · exact absurd (by omega) (hI b hb hsb hAb)
          · exact hmin b hb ⟨eb, c⟩ hsb
        · exact q
theorem dt_xnext {post : Int32 → SX → Prop} {n m : Nat} {after : Int32} (hn : n < 5) (hn1 : 1 ≤ n) (hm : m ≤ 8) (ok : ∀ c, c < m → dt_ok n en bg li sz c)
    (H0 : (∀ k : Nat, k < 8 ^ n → after.toInt < k → ¬ dt_sol n en bg li sz m fs k) → ∀ (fa fb fz : Int32) (st ma tu : Nat → Int32), post (-1) (nI n, nI m, fd, fa, fs, fb, fz, en, bg, li, sz, de, db, dl, st, ma, tu))
    (H1 : ∀ k : Nat, k < 8 ^ n → after.toInt < k → dt_sol n en bg li sz m fs k → (∀ b : Nat, b < 8 ^ n → after.toInt < b → dt_sol n en bg li sz m fs b → k ≤ b) → ∀ (fa fb fz : Int32) (st ma tu : Nat → Int32), post (nI k) (nI n, nI m, fd, fa, fs, fb, fz, en, bg, li, sz, de, db, dl, st, ma, tu)) :
    wpX_next post (nI n, nI m, fd, fa, fs, fb, fz, en, bg, li, sz, de, db, dl, st, ma, tu) after := by
  have h8 := dt_p8 hn
  have hp : 0 < 8 ^ n := Nat.pow_pos (by decide)
  have e2 : ((1 : Int32) <<< ((3 * nI n) &&& 31)) - 1 = nI (8 ^ n - 1) := by
    rw [dt_plans hn]
    exact pk_sub (b := 1) hp
  unfold wpX_next
  refine nm_r (e' := nI (8 ^ n - 1)) e2 (br_c (fun hlt => ?_) (fun hlt => ?_))
  · rw [Int32.lt_iff_toInt_lt, nI_toInt (by omega)] at hlt
    refine br_c (fun h0 => ?_) (fun h0 => ?_)
    · obtain ⟨A, hA, rfl⟩ := nI_of (dt_lelt h0)
      have tA : (nI A).toInt = (A : Int) := nI_toInt hA
      rw [tA] at hlt H0 H1
      refine nm_r (e' := nI n + (-1)) (by rw [Int32.sub_eq_add_neg]) (Exists.intro (n + 1) (dt_next37 hn hm (by omega) ok (fun hno => H0 fun k hk hAk => hno k hk (by omega)) (fun k hk hAk hs hmin => H1 k hk (by omega) hs (fun b hb hAb hsb => hmin b hb (by omega) hsb)) n (Nat.le_refl _) (fun k hk hs hAk q => ?_) fa fb fz st ma tu))
      rw [Nat.sub_self, Nat.pow_zero, Nat.div_one, Nat.div_one] at q
      omega
    · have hneg : after.toInt < 0 := by
        rw [Int32.le_iff_toInt_le] at h0
        have t0 : (0 : Int32).toInt = 0 := by decide
        omega
      have all : ∀ k, k < 8 ^ n → (k / 8 ^ (n - 0) = 0 ∧ 0 ≤ dt_pn n k 0) := fun k hk => ⟨by rw [Nat.sub_zero, Nat.div_eq_of_lt hk], Nat.zero_le _⟩
      refine dt_ff (e := 0) (P := 0) (g := 0) hn hm (by omega) (by decide) (by omega) ok (fun hno fa fb fz st ma tu => H0 (fun k hk _ => hno k hk (all k hk)) _ _ _ _ _ _) (fun k hk hT hs hmin fa fb fz st ma tu => H1 k hk (by omega) hs (fun b hb _ hsb => hmin b hb (all b hb) hsb) _ _ _ _ _ _)
  · rw [Int32.lt_iff_toInt_lt, nI_toInt (by omega)] at hlt
    exact H0 (fun k hk hAk => by omega) _ _ _ _ _ _
end
theorem i_vc_next {k : Nat} {u : SX} {v : SY} (I : i_Rel k u v) (hk : k + 4 ≤ 2049) (v1 : Int32) : wpX_next (fun r u' => wpY_next (fun r' => r' = r ∧ i_Rel (k + 4) u' v) v v1) u v1 := by
  refine dt_el (P := fun u v => wpX_next (fun r u' => wpY_next (fun r' => r' = r ∧ i_Rel (k + 4) u' v) v v1) u v1) ?_ I
  intro n m d fa fb fz en bg li sz de db dl st ma tu ys yl yr yb h1 h2 h3 h4 h5 h6 h7
  have hn : n < 5 := by omega
  have okX : ∀ c, c < m → dt_ok n en bg li sz c := fun c hc => dt_okX (h6 c hc)
  have okY : ∀ c, c < m → dt_ok n yl yr yb ys c := fun c hc => dt_okY (h6 c hc)
  refine dt_xnext hn (by omega) h3 okX (fun hno fa fb fz st ma tu => ?_) (fun b hb hAb hs hmin fa fb fz st ma tu => ?_)
  · exact dt_ynext hn h3 okY (fun c hc hAc hs _ => absurd ((dt_solXY h6 c).mpr hs) (hno c hc hAc)) (fun _ => ⟨rfl, dt_in h1 h2 h3 h4 h5 h6 h7⟩)
  · refine dt_ynext hn h3 okY (fun c hc hAc hsc hl => ⟨congrArg nI ?_, dt_in h1 h2 h3 h4 h5 h6 h7⟩) (fun hno => absurd ((dt_solXY h6 b).mp hs) (hno b hb hAb))
    have a := hmin c hc hAc ((dt_solXY h6 c).mpr hsc)
    rcases Nat.lt_or_ge b c with q | q
    · exact absurd ((dt_solXY h6 b).mp hs) (hl b q hAb)
    · omega
end
