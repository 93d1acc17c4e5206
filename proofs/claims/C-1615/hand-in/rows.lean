section
/-! rows of the kit to paste (PURE-ROWS) -/
theorem pk_us {f : Nat → Int32} {k : Nat} {x : Int32} : upd f k x k = x := if_pos rfl
theorem pk_un {f : Nat → Int32} {k j : Nat} {x : Int32} (h : j ≠ k) : upd f k x j = f j := if_neg h
theorem pk_sub {a b : Nat} (h : b ≤ a) : nI a - nI b = nI (a - b) := by
  obtain ⟨c, rfl⟩ : ∃ c, a = c + b := ⟨a - b, by omega⟩
  rw [← nI_add, Int32.add_sub_cancel, Nat.add_sub_cancel]
theorem pk_m1 (n : Nat) : nI (n + 1) + (-1) = nI n := by
  rw [← nI_1, Int32.add_assoc, show (1 : Int32) + (-1) = 0 from rfl, Int32.add_zero]
theorem pk_mul (a b : Nat) : nI a * nI b = nI (a * b) := (Int32.ofNat_mul a b).symm
theorem pk_div {a d : Nat} (ha : a < 2 ^ 31) (h0 : 0 < d) (hd : d < 2 ^ 31) : nI a / nI d = nI (a / d) := by
  apply Int32.toInt_inj.mp
  rw [lg_idiv_nonneg (by rw [nI_toInt ha]; omega) (by rw [nI_toInt hd]; omega), nI_toInt ha, nI_toInt hd, nI_toInt (Nat.lt_of_le_of_lt (Nat.div_le_self a d) ha)]
  first | rfl | exact (Int.natCast_ediv _ _).symm
theorem pk_rem {a d : Nat} (ha : a < 2 ^ 31) (h0 : 0 < d) (hd : d < 2 ^ 31) : nI a - nI a / nI d * nI d = nI (a % d) := by
  rw [pk_div ha h0 hd, pk_mul, pk_sub (Nat.div_mul_le_self a d)]
  exact congrArg nI (by have := Nat.div_add_mod' a d; omega)
theorem pk_sub_toInt {a b : Nat} (ha : a < 2 ^ 30) (hb : b < 2 ^ 30) : (nI a - nI b).toInt = (a : Int) - b := by
  rw [Int32.toInt_sub, nI_toInt (by omega), nI_toInt (by omega)]
  exact Int.bmod_eq_of_le (by omega) (by omega)
theorem pk_ix (x : Int32) {n : Nat} (hn : n < 2 ^ 31) : x < 0 ∨ nI n ≤ x ∨ ∃ j : Nat, j < n ∧ x = nI j := by
  by_cases h : x < 0
  · exact Or.inl h
  · obtain ⟨j, hj, rfl⟩ := nI_of h
    by_cases h2 : j < n
    · exact Or.inr (Or.inr ⟨j, h2, rfl⟩)
    · exact Or.inr (Or.inl (nI_le (by omega) hj))
theorem pk_le {x y : Int32} {A B : Prop} (a b : Nat) (f : a ≤ b → A) (g : b < a → B) (hx : x = nI a := by rfl) (hy : y = nI b := by rfl) (ha : a < 2 ^ 31 := by omega) (hb : b < 2 ^ 31 := by omega) : (x ≤ y → A) ∧ (¬ x ≤ y → B) := by
  subst hx hy
  rw [nI_leI ha hb]
  exact ⟨f, fun z => g (by omega)⟩
theorem pk_lt {x y : Int32} {A B : Prop} (a b : Nat) (f : a < b → A) (g : b ≤ a → B) (hx : x = nI a := by rfl) (hy : y = nI b := by rfl) (ha : a < 2 ^ 31 := by omega) (hb : b < 2 ^ 31 := by omega) : (x < y → A) ∧ (¬ x < y → B) := by
  subst hx hy
  rw [nI_ltI ha hb]
  exact ⟨f, fun z => g (by omega)⟩
theorem pk_eq {x y : Int32} {A B : Prop} (a b : Nat) (f : a = b → A) (g : a ≠ b → B) (hx : x = nI a := by rfl) (hy : y = nI b := by rfl) (ha : a < 2 ^ 31 := by omega) (hb : b < 2 ^ 31 := by omega) : (x = y → A) ∧ (¬ x = y → B) := by
  subst hx hy
  rw [nI_eq ha hb]
  exact ⟨f, g⟩
theorem pk_in {x : Int32} (n N : Nat) (h : n < N) (hx : x = nI n := by rfl) (hN : N < 2 ^ 31 := by omega) : vp_in x N := by
  subst hx
  exact vp_in_nI h hN
theorem pk_cl {x : Int32} (n : Nat) (hx : x = nI n := by rfl) (h : n < 2 ^ 31 := by omega) : x.toNatClampNeg = n := by
  subst hx
  exact nI_clamp h
theorem pk_tn {n : Nat} (h : n < 2 ^ 32) : (nI n).toBitVec.toNat = n := Nat.mod_eq_of_lt h
theorem pk_and (x : Int32) {m : Int32} (k : Nat) (hm : m.toBitVec.toNat = 2 ^ k - 1) : x &&& m = nI (x.toBitVec.toNat % 2 ^ k) := by
  apply Int32.toBitVec_inj.mp
  apply BitVec.eq_of_toNat_eq
  rw [Int32.toBitVec_and, BitVec.toNat_and, hm, Nat.and_two_pow_sub_one_eq_mod]
  show _ = (BitVec.ofNat 32 _).toNat
  rw [BitVec.toNat_ofNat]
  exact (Nat.mod_eq_of_lt (Nat.lt_of_le_of_lt (Nat.mod_le _ _) x.toBitVec.isLt)).symm
theorem pk_andN {n : Nat} (h : n < 2 ^ 32) {m : Int32} (k : Nat) (hm : m.toBitVec.toNat = 2 ^ k - 1) : nI n &&& m = nI (n % 2 ^ k) := by
  rw [pk_and _ k hm, pk_tn h]
theorem pk_shr (a s : Int32) (k : Nat) (hs : (s.toBitVec.smod 32).toNat = k) : (a >>> s).toInt = a.toInt >>> k := by
  show (a.toBitVec.sshiftRight (s.toBitVec.smod 32).toNat).toInt = _
  rw [hs, BitVec.toInt_sshiftRight]
  rfl
theorem pk_shrN {n : Nat} (h : n < 2 ^ 31) (s : Int32) (k : Nat) (hs : (s.toBitVec.smod 32).toNat = k) : nI n >>> s = nI (n / 2 ^ k) := by
  apply Int32.toInt_inj.mp
  have h2 : n / 2 ^ k ≤ n := Nat.div_le_self _ _
  rw [pk_shr _ _ k hs, nI_toInt h, nI_toInt (by omega), Int.shiftRight_eq_div_pow]
  rfl
/-! numbers -/
theorem qn_0 : (0 : Int32).toInt = 0 := by decide
theorem qn_1 : (1 : Int32).toInt = 1 := by decide
theorem qn_add {x y : Int32} (h1 : -2147483648 ≤ x.toInt + y.toInt) (h2 : x.toInt + y.toInt ≤ 2147483647) : (x + y).toInt = x.toInt + y.toInt := by
  rw [Int32.toInt_add]; exact Int.bmod_eq_of_le (by omega) (by omega)
theorem qn_sub {x y : Int32} (h1 : -2147483648 ≤ x.toInt - y.toInt) (h2 : x.toInt - y.toInt ≤ 2147483647) : (x - y).toInt = x.toInt - y.toInt := by
  rw [Int32.toInt_sub]; exact Int.bmod_eq_of_le (by omega) (by omega)
theorem qn_mul {x y : Int32} (h1 : -2147483648 ≤ x.toInt * y.toInt) (h2 : x.toInt * y.toInt ≤ 2147483647) : (x * y).toInt = x.toInt * y.toInt := by
  rw [Int32.toInt_mul]; exact Int.bmod_eq_of_le (by omega) (by omega)
theorem qn_neg {x : Int32} (h1 : -2147483648 ≤ -x.toInt) (h2 : -x.toInt ≤ 2147483647) : (-x).toInt = -x.toInt := by
  rw [Int32.toInt_neg]; exact Int.bmod_eq_of_le (by omega) (by omega)
theorem qn_3 (b a : Nat) : 3 * nI b + nI a = nI (3 * b + a) := by
  rw [show (3 : Int32) * nI b = nI (3 * b) from pk_mul 3 b, nI_add]
theorem qn_2 (a : Nat) : nI a + 2 = nI (a + 2) := nI_add a 2
theorem qn_m {n : Nat} (h : 0 < n) : nI n + (-1) = nI (n - 1) := by
  obtain ⟨m, rfl⟩ : ∃ m, n = m + 1 := ⟨n - 1, by omega⟩
  exact pk_m1 m
theorem qn_s {n : Nat} (h : 0 < n) : nI n - 1 = nI (n - 1) := by
  obtain ⟨m, rfl⟩ : ∃ m, n = m + 1 := ⟨n - 1, by omega⟩
  exact nI_pred m
theorem qn_n1 {a : Nat} (h : a < 2 ^ 31) : ¬ nI a = -1 := by
  intro e
  have := nI_pos (n := a) h
  rw [e] at this
  exact this (by decide)
theorem qn_inj {a b : Nat} (h : nI a = nI b) (ha : a < 2 ^ 31) (hb : b < 2 ^ 31) : a = b := (nI_eq ha hb).mp h
theorem qn_of {x : Int32} {N : Nat} (h0 : 0 ≤ x.toInt) (h1 : x.toInt < N) (hN : N < 2 ^ 31) : x = nI x.toInt.toNat := by
  apply Int32.toInt_inj.mp
  rw [nI_toInt (by omega)]; omega
theorem qn_i3 {b a N : Nat} (ha : a < 3) (hb : b < N) (hN : N < 1000) : vp_in (3 * nI b + nI a) (3 * N) := by
  rw [qn_3]; exact vp_in_nI (by omega) (by omega)
theorem qn_c3 {b a : Nat} (ha : a < 3) (hb : b < 1000) : (3 * nI b + nI a).toNatClampNeg = 3 * b + a := by
  rw [qn_3]; exact nI_clamp (by omega)
end
section
/-! counting -/
noncomputable def tN (p : Prop) : Nat := @ite Nat p (Classical.propDecidable p) 1 0
theorem tN_t {p : Prop} (h : p) : tN p = 1 := @if_pos p (Classical.propDecidable p) h Nat 1 0
theorem tN_f {p : Prop} (h : ¬ p) : tN p = 0 := @if_neg p (Classical.propDecidable p) h Nat 1 0
theorem tN_c {p q : Prop} (h : p ↔ q) : tN p = tN q := by rw [propext h]
theorem tN_1 (p : Prop) : tN p ≤ 1 := by
  by_cases h : p
  · rw [tN_t h]; exact Nat.le_refl 1
  · rw [tN_f h]; exact Nat.zero_le 1
noncomputable def cq (p : Nat → Prop) (b : Nat) : Nat → Nat
  | 0 => 0
  | l + 1 => cq p b l + tN (p (b + l))
theorem cq_s {p : Nat → Prop} {b l : Nat} : cq p b (l + 1) = cq p b l + tN (p (b + l)) := rfl
theorem cq_add {p : Nat → Prop} (b l m : Nat) : cq p b (l + m) = cq p b l + cq p (b + l) m := by
  induction m with
  | zero => rfl
  | succ m ih =>
    have e : b + (l + m) = b + l + m := by omega
    show cq p b (l + m) + tN (p (b + (l + m))) = cq p b l + (cq p (b + l) m + tN (p (b + l + m)))
    rw [ih, e]; omega
theorem cq_cons {p : Nat → Prop} (b l : Nat) : cq p b (l + 1) = tN (p b) + cq p (b + 1) l := by
  have h := cq_add (p := p) b 1 l
  rw [Nat.add_comm 1 l] at h
  rw [h]
  show 0 + tN (p (b + 0)) + _ = _
  rw [Nat.zero_add, Nat.add_zero]
theorem cq_congr {p q : Nat → Prop} (b l : Nat) (h : ∀ j, b ≤ j → j < b + l → (p j ↔ q j)) : cq p b l = cq q b l := by
  induction l with
  | zero => rfl
  | succ l ih =>
    rw [cq_s, cq_s, ih (fun j h1 h2 => h j h1 (by omega)), tN_c (h (b + l) (by omega) (by omega))]
theorem cq_0 {p : Nat → Prop} (b l : Nat) (h : ∀ j, b ≤ j → j < b + l → ¬ p j) : cq p b l = 0 := by
  induction l with
  | zero => rfl
  | succ l ih =>
    rw [cq_s, ih (fun j h1 h2 => h j h1 (by omega)), tN_f (h (b + l) (by omega) (by omega))]
theorem cq_z {p : Nat → Prop} {b l : Nat} (h : cq p b l = 0) : ∀ j, b ≤ j → j < b + l → ¬ p j := by
  induction l with
  | zero => intro j h1 h2; omega
  | succ l ih =>
    rw [cq_s] at h
    intro j h1 h2 hp
    by_cases e : j = b + l
    · subst e
      rw [tN_t hp] at h; omega
    · exact ih (by omega) j h1 (by omega) hp
theorem cq_ex {p : Nat → Prop} {b l : Nat} (h : 0 < cq p b l) : ∃ j, b ≤ j ∧ j < b + l ∧ p j := by
  refine Classical.byContradiction fun hn => ?_
  have := cq_0 (p := p) b l (fun j h1 h2 hp => hn ⟨j, h1, h2, hp⟩)
  omega
theorem cq_pos {p : Nat → Prop} {b l j : Nat} (h1 : b ≤ j) (h2 : j < b + l) (hp : p j) : 0 < cq p b l := by
  refine Nat.pos_of_ne_zero fun h => ?_
  exact cq_z h j h1 h2 hp
theorem cq_le {p : Nat → Prop} (b l : Nat) : cq p b l ≤ l := by
  induction l with
  | zero => exact Nat.le_refl 0
  | succ l ih =>
    rw [cq_s]
    have := tN_1 (p (b + l))
    omega
theorem cq_all {p : Nat → Prop} (b l : Nat) (h : ∀ j, b ≤ j → j < b + l → p j) : cq p b l = l := by
  induction l with
  | zero => rfl
  | succ l ih =>
    rw [cq_s, ih (fun j h1 h2 => h j h1 (by omega)), tN_t (h (b + l) (by omega) (by omega))]
theorem cq_le1 {p : Nat → Prop} (b l : Nat) (h : ∀ i j, p i → p j → i = j) : cq p b l ≤ 1 := by
  induction l with
  | zero => exact Nat.zero_le 1
  | succ l ih =>
    rw [cq_s]
    by_cases hp : p (b + l)
    · rw [cq_0 b l (fun j h1 h2 hj => by have := h j (b + l) hj hp; omega), tN_t hp]
      exact Nat.le_refl 1
    · rw [tN_f hp]; exact ih
/-- the first i of l satisfy p and no other does -/
theorem cq_cut {p : Nat → Prop} {l i : Nat} (hi : i ≤ l) (h1 : ∀ j, j < i → p j) (h2 : ∀ j, i ≤ j → j < l → ¬ p j) : cq p 0 l = i := by
  obtain ⟨m, rfl⟩ : ∃ m, l = i + m := ⟨l - i, by omega⟩
  rw [cq_add, cq_all 0 i (fun j _ hj => h1 j (by omega)), cq_0 (0 + i) m (fun j a b => h2 j (by omega) (by omega))]
  rfl
/-! permutations by counts -/
def pm (od : Nat → Nat) (n : Nat) : Prop := ∀ P : Nat → Prop, cq (fun k => P (od k)) 0 n = cq P 0 n
theorem pm_lt {od : Nat → Nat} {n k : Nat} (h : pm od n) (hk : k < n) : od k < n := by
  refine Classical.byContradiction fun hn => ?_
  have h1 := h (fun x => ¬ x < n)
  rw [cq_0 (p := fun x => ¬ x < n) 0 n (fun j _ hj hp => hp (by omega))] at h1
  exact cq_z h1 k (Nat.zero_le k) (by omega) hn
theorem pm_on {od : Nat → Nat} {n x : Nat} (h : pm od n) (hx : x < n) : ∃ k, k < n ∧ od k = x := by
  have h1 := h (fun y => y = x)
  have h2 := cq_pos (p := fun y => y = x) (b := 0) (l := n) (j := x) (Nat.zero_le x) (by omega) rfl
  rw [← h1] at h2
  obtain ⟨k, _, hk, e⟩ := cq_ex h2
  exact ⟨k, by omega, e⟩
/-- which boxes lie in a stretch of the order -/
def me (od : Nat → Nat) (b e x : Nat) : Prop := ∃ k, b ≤ k ∧ k < e ∧ od k = x
theorem me_split {od : Nat → Nat} {b c e x : Nat} (h1 : b ≤ c) (h2 : c ≤ e) : me od b e x ↔ me od b c x ∨ me od c e x := by
  constructor
  · rintro ⟨k, a1, a2, a3⟩
    by_cases hk : k < c
    · exact Or.inl ⟨k, a1, hk, a3⟩
    · exact Or.inr ⟨k, by omega, a2, a3⟩
  · rintro (⟨k, a1, a2, a3⟩ | ⟨k, a1, a2, a3⟩)
    · exact ⟨k, a1, by omega, a3⟩
    · exact ⟨k, by omega, a2, a3⟩
theorem me_one {od : Nat → Nat} {b e x : Nat} (h : b + 1 = e) (hx : me od b e x) : x = od b := by
  obtain ⟨k, a1, a2, a3⟩ := hx
  have : k = b := by omega
  rw [← a3, this]
/-- a stretch [b', e') rearranged within -/
def rr (od od' : Nat → Nat) (b e : Nat) : Prop := (∀ k, k < b ∨ e ≤ k → od' k = od k) ∧ ∀ P : Nat → Prop, cq (fun k => P (od' k)) b (e - b) = cq (fun k => P (od k)) b (e - b)
theorem rr_me {od od' : Nat → Nat} {b e : Nat} (h : rr od od' b e) (x : Nat) : me od' b e x ↔ me od b e x := by
  have h1 := h.2 (fun y => y = x)
  constructor
  · rintro ⟨k, a1, a2, a3⟩
    have h2 := cq_pos (p := fun k => od' k = x) (b := b) (l := e - b) (j := k) a1 (by omega) a3
    rw [h1] at h2
    obtain ⟨j, c1, c2, c3⟩ := cq_ex h2
    exact ⟨j, c1, by omega, c3⟩
  · rintro ⟨k, a1, a2, a3⟩
    have h2 := cq_pos (p := fun k => od k = x) (b := b) (l := e - b) (j := k) a1 (by omega) a3
    rw [← h1] at h2
    obtain ⟨j, c1, c2, c3⟩ := cq_ex h2
    exact ⟨j, c1, by omega, c3⟩
theorem rr_dis {od od' : Nat → Nat} {b e b2 e2 : Nat} (h : rr od od' b e) (hd : e2 ≤ b ∨ e ≤ b2) (x : Nat) : me od' b2 e2 x ↔ me od b2 e2 x := by
  constructor
  · rintro ⟨k, a1, a2, a3⟩
    exact ⟨k, a1, a2, by rw [← h.1 k (by omega)]; exact a3⟩
  · rintro ⟨k, a1, a2, a3⟩
    exact ⟨k, a1, a2, by rw [h.1 k (by omega)]; exact a3⟩
theorem rr_sup {od od' : Nat → Nat} {b e b2 e2 : Nat} (h : rr od od' b e) (h0 : b ≤ e) (h1 : b2 ≤ b) (h2 : e ≤ e2) (x : Nat) : me od' b2 e2 x ↔ me od b2 e2 x := by
  rw [me_split (c := b) h1 (by omega), me_split (od := od) (c := b) h1 (by omega), me_split (b := b) (c := e) h0 h2, me_split (od := od) (b := b) (c := e) h0 h2,
    rr_dis h (Or.inl (Nat.le_refl b)), rr_me h, rr_dis h (b2 := e) (Or.inr (Nat.le_refl e))]
theorem rr_pm {od od' : Nat → Nat} {b e n : Nat} (h : rr od od' b e) (h0 : b ≤ e) (h1 : e ≤ n) (hp : pm od n) : pm od' n := by
  intro P
  rw [← hp P]
  obtain ⟨m, rfl⟩ : ∃ m, n = b + (e - b) + m := ⟨n - e, by omega⟩
  rw [cq_add, cq_add, cq_add (p := fun k => P (od k)), cq_add (p := fun k => P (od k))]
  have e1 : cq (fun k => P (od' k)) 0 b = cq (fun k => P (od k)) 0 b := cq_congr 0 b (fun j _ hj => by rw [h.1 j (by omega)])
  have e2 := h.2 P
  have e3 : cq (fun k => P (od' k)) (0 + (b + (e - b))) m = cq (fun k => P (od k)) (0 + (b + (e - b))) m := cq_congr _ m (fun j hj _ => by rw [h.1 j (by omega)])
  rw [e1, e3, Nat.zero_add, e2]
end
section
/-! fractions -/
theorem gf_tr {a b c x y z : Int} (hx : 0 < x) (hy : 0 < y) (hz : 0 < z) (h1 : a * y ≤ b * x) (h2 : b * z ≤ c * y) : a * z ≤ c * x := by
  have e1 := Int.mul_le_mul_of_nonneg_right h1 (Int.le_of_lt hz)
  have e2 := Int.mul_le_mul_of_nonneg_right h2 (Int.le_of_lt hx)
  refine Int.le_of_mul_le_mul_right ?_ hy
  calc a * z * y = a * y * z := by ac_rfl
    _ ≤ b * x * z := e1
    _ = b * z * x := by ac_rfl
    _ ≤ c * y * x := e2
    _ = c * x * y := by ac_rfl
theorem gb_m {x y : Int} (h1 : -200 ≤ x) (h2 : x ≤ 200) (h3 : 0 ≤ y) (h4 : y ≤ 20) : -4000 ≤ x * y ∧ x * y ≤ 4000 := by
  have e1 := Int.mul_le_mul_of_nonneg_right h1 h3
  have e2 := Int.mul_le_mul_of_nonneg_right h2 h3
  constructor <;> omega
/-! a ray through one box: the axes in turn -/
def ge_fi (l h f d : Nat → Int) (a : Nat) : Int := if 0 < d a then l a - f a else f a - h a
def ge_la (l h f d : Nat → Int) (a : Nat) : Int := if 0 < d a then h a - f a else f a - l a
def ge_sz (d : Nat → Int) (a : Nat) : Int := if 0 < d a then d a else - d a
def ge_E (l h f d : Nat → Int) : Nat → Int × Int
  | 0 => (0, 1)
  | k + 1 => if d k = 0 then ge_E l h f d k else if (ge_E l h f d k).1 * ge_sz d k < ge_fi l h f d k * (ge_E l h f d k).2 then (ge_fi l h f d k, ge_sz d k) else ge_E l h f d k
def ge_V (l h f d : Nat → Int) : Nat → Int × Int
  | 0 => (0, 0)
  | k + 1 => if d k = 0 then ge_V l h f d k else if (ge_V l h f d k).2 = 0 ∨ ge_la l h f d k * (ge_V l h f d k).2 < (ge_V l h f d k).1 * ge_sz d k then (ge_la l h f d k, ge_sz d k) else ge_V l h f d k
def ge_F (l h f d : Nat → Int) (k : Nat) : Prop := ∀ a, a < k → d a = 0 → l a ≤ f a ∧ f a ≤ h a
def ge_P (l h f d : Nat → Int) : Prop := ge_F l h f d 3 ∧ (ge_E l h f d 3).1 * (ge_V l h f d 3).2 ≤ (ge_V l h f d 3).1 * (ge_E l h f d 3).2
theorem ge_Es {l h f d : Nat → Int} {k : Nat} : ge_E l h f d (k + 1) = if d k = 0 then ge_E l h f d k else if (ge_E l h f d k).1 * ge_sz d k < ge_fi l h f d k * (ge_E l h f d k).2 then (ge_fi l h f d k, ge_sz d k) else ge_E l h f d k := rfl
theorem ge_Vs {l h f d : Nat → Int} {k : Nat} : ge_V l h f d (k + 1) = if d k = 0 then ge_V l h f d k else if (ge_V l h f d k).2 = 0 ∨ ge_la l h f d k * (ge_V l h f d k).2 < (ge_V l h f d k).1 * ge_sz d k then (ge_la l h f d k, ge_sz d k) else ge_V l h f d k := rfl
theorem ge_sp {d : Nat → Int} {a : Nat} (h : d a ≠ 0) : 0 < ge_sz d a := by
  unfold ge_sz
  split <;> omega
section GE
variable {l h f d : Nat → Int}
theorem ge_Ep : ∀ k, 0 ≤ (ge_E l h f d k).1 ∧ 0 < (ge_E l h f d k).2 := by
  intro k
  induction k with
  | zero => exact ⟨Int.le_refl 0, Int.zero_lt_one⟩
  | succ k ih =>
    rw [ge_Es]
    by_cases hd : d k = 0
    · rw [if_pos hd]; exact ih
    · rw [if_neg hd]
      by_cases hc : (ge_E l h f d k).1 * ge_sz d k < ge_fi l h f d k * (ge_E l h f d k).2
      · rw [if_pos hc]
        refine ⟨?_, ge_sp hd⟩
        show 0 ≤ ge_fi l h f d k
        refine Classical.byContradiction fun hn => ?_
        have e1 := Int.mul_nonneg ih.1 (Int.le_of_lt (ge_sp hd))
        have e2 := Int.mul_le_mul_of_nonneg_right (a := ge_fi l h f d k) (b := 0) (by omega) (Int.le_of_lt ih.2)
        rw [Int.zero_mul] at e2
        omega
      · rw [if_neg hc]; exact ih
theorem ge_Eu {p q : Int} (hq : 0 < q) : ∀ k, (ge_E l h f d k).1 * q ≤ p * (ge_E l h f d k).2 ↔ 0 ≤ p ∧ ∀ a, a < k → d a ≠ 0 → ge_fi l h f d a * q ≤ p * ge_sz d a := by
  intro k
  induction k with
  | zero =>
    show 0 * q ≤ p * 1 ↔ _
    rw [Int.zero_mul, Int.mul_one]
    exact ⟨fun h => ⟨h, fun a ha => absurd ha (Nat.not_lt_zero a)⟩, fun h => h.1⟩
  | succ k ih =>
    have ep := ge_Ep (l := l) (h := h) (f := f) (d := d) k
    rw [ge_Es]
    by_cases hd : d k = 0
    · rw [if_pos hd, ih]
      exact ⟨fun x => ⟨x.1, lt_s x.2 (fun z => absurd hd z)⟩, fun x => ⟨x.1, fun a ha => x.2 a (by omega)⟩⟩
    · rw [if_neg hd]
      by_cases hc : (ge_E l h f d k).1 * ge_sz d k < ge_fi l h f d k * (ge_E l h f d k).2
      · rw [if_pos hc]
        constructor
        · intro x
          have x' : ge_fi l h f d k * q ≤ p * ge_sz d k := x
          have y := ih.mp (gf_tr ep.2 (ge_sp hd) hq (Int.le_of_lt hc) x')
          exact ⟨y.1, lt_s y.2 (fun _ => x')⟩
        · intro x
          exact x.2 k (by omega) hd
      · rw [if_neg hc]
        constructor
        · intro x
          have y := ih.mp x
          exact ⟨y.1, lt_s y.2 (fun _ => gf_tr (ge_sp hd) ep.2 hq (Int.not_lt.mp hc) x)⟩
        · intro x
          exact ih.mpr ⟨x.1, fun a ha => x.2 a (by omega)⟩
theorem ge_Vn : ∀ k, 0 ≤ (ge_V l h f d k).2 := by
  intro k
  induction k with
  | zero => exact Int.le_refl 0
  | succ k ih =>
    rw [ge_Vs]
    by_cases hd : d k = 0
    · rw [if_pos hd]; exact ih
    · rw [if_neg hd]
      split
      · exact Int.le_of_lt (ge_sp hd)
      · exact ih
theorem ge_Vz : ∀ k, (∀ a, a < k → d a = 0) ∨ 0 < (ge_V l h f d k).2 := by
  intro k
  induction k with
  | zero => exact Or.inl (fun a ha => absurd ha (Nat.not_lt_zero a))
  | succ k ih =>
    rw [ge_Vs]
    by_cases hd : d k = 0
    · rw [if_pos hd]
      exact ih.imp (fun z => lt_s z hd) id
    · rw [if_neg hd]
      by_cases hc : (ge_V l h f d k).2 = 0 ∨ ge_la l h f d k * (ge_V l h f d k).2 < (ge_V l h f d k).1 * ge_sz d k
      · rw [if_pos hc]; exact Or.inr (ge_sp hd)
      · rw [if_neg hc]
        have := ge_Vn (l := l) (h := h) (f := f) (d := d) k
        exact Or.inr (by omega)
theorem ge_Vl {p q : Int} (hq : 0 < q) : ∀ k, 0 < (ge_V l h f d k).2 → (p * (ge_V l h f d k).2 ≤ (ge_V l h f d k).1 * q ↔ ∀ a, a < k → d a ≠ 0 → p * ge_sz d a ≤ ge_la l h f d a * q) := by
  intro k
  induction k with
  | zero => intro z; exact absurd z (Int.lt_irrefl 0)
  | succ k ih =>
    rw [ge_Vs]
    by_cases hd : d k = 0
    · rw [if_pos hd]
      intro z
      rw [ih z]
      exact ⟨fun x => lt_s x (fun y => absurd hd y), fun x a ha => x a (by omega)⟩
    · rw [if_neg hd]
      by_cases hc : (ge_V l h f d k).2 = 0 ∨ ge_la l h f d k * (ge_V l h f d k).2 < (ge_V l h f d k).1 * ge_sz d k
      · rw [if_pos hc]
        intro _
        constructor
        · intro x
          have x' : p * ge_sz d k ≤ ge_la l h f d k * q := x
          refine lt_s ?_ (fun _ => x')
          rcases ge_Vz (l := l) (h := h) (f := f) (d := d) k with z | z
          · exact fun a ha hda => absurd (z a ha) hda
          · have hc' := hc.resolve_left (by omega)
            exact (ih z).mp (gf_tr hq (ge_sp hd) z x' (Int.le_of_lt hc'))
        · intro x
          exact x k (by omega) hd
      · rw [if_neg hc]
        intro z
        have hc' : (ge_V l h f d k).1 * ge_sz d k ≤ ge_la l h f d k * (ge_V l h f d k).2 := Int.not_lt.mp (fun y => hc (Or.inr y))
        constructor
        · intro x
          exact lt_s ((ih z).mp x) (fun _ => gf_tr hq z (ge_sp hd) x hc')
        · intro x
          exact (ih z).mpr (fun a ha => x a (by omega))
theorem ge_Pi (hz : ∃ a, a < 3 ∧ d a ≠ 0) : ge_P l h f d ↔ ge_F l h f d 3 ∧ (∀ a, a < 3 → d a ≠ 0 → 0 ≤ ge_la l h f d a) ∧ ∀ a, a < 3 → d a ≠ 0 → ∀ a', a' < 3 → d a' ≠ 0 → ge_fi l h f d a * ge_sz d a' ≤ ge_la l h f d a' * ge_sz d a := by
  have hv : 0 < (ge_V l h f d 3).2 := by
    rcases ge_Vz (l := l) (h := h) (f := f) (d := d) 3 with z | z
    · obtain ⟨a, ha, hn⟩ := hz
      exact absurd (z a ha) hn
    · exact z
  unfold ge_P
  rw [ge_Eu hv 3]
  have e1 : 0 ≤ (ge_V l h f d 3).1 ↔ ∀ a, a < 3 → d a ≠ 0 → 0 ≤ ge_la l h f d a := by
    have := ge_Vl (l := l) (h := h) (f := f) (d := d) (p := 0) (q := 1) Int.zero_lt_one 3 hv
    simp only [Int.zero_mul, Int.mul_one] at this
    exact this
  rw [e1]
  constructor
  · rintro ⟨x, y, z⟩
    exact ⟨x, y, fun a ha hd => (ge_Vl (ge_sp hd) 3 hv).mp (z a ha hd)⟩
  · rintro ⟨x, y, z⟩
    exact ⟨x, y, fun a ha hd => (ge_Vl (ge_sp hd) 3 hv).mpr (z a ha hd)⟩
theorem ge_Pv (hz : ∃ a, a < 3 ∧ d a ≠ 0) : 0 < (ge_V l h f d 3).2 := by
  rcases ge_Vz (l := l) (h := h) (f := f) (d := d) 3 with z | z
  · obtain ⟨a, ha, hn⟩ := hz
    exact absurd (z a ha) hn
  · exact z
theorem ge_Pl (hz : ∃ a, a < 3 ∧ d a ≠ 0) (hp : ge_P l h f d) : 0 ≤ (ge_V l h f d 3).1 :=
  ((ge_Eu (l := l) (h := h) (f := f) (d := d) (ge_Pv hz) 3).mp hp.2).1
variable {l' h' : Nat → Int}
theorem ge_fm (hl : ∀ a, a < 3 → l' a ≤ l a) (hh : ∀ a, a < 3 → h a ≤ h' a) {a : Nat} (ha : a < 3) : ge_fi l' h' f d a ≤ ge_fi l h f d a := by
  have := hl a ha
  have := hh a ha
  unfold ge_fi
  split <;> omega
theorem ge_lm (hl : ∀ a, a < 3 → l' a ≤ l a) (hh : ∀ a, a < 3 → h a ≤ h' a) {a : Nat} (ha : a < 3) : ge_la l h f d a ≤ ge_la l' h' f d a := by
  have := hl a ha
  have := hh a ha
  unfold ge_la
  split <;> omega
theorem ge_Pm (hz : ∃ a, a < 3 ∧ d a ≠ 0) (hl : ∀ a, a < 3 → l' a ≤ l a) (hh : ∀ a, a < 3 → h a ≤ h' a) (hp : ge_P l h f d) : ge_P l' h' f d := by
  rw [ge_Pi hz] at hp ⊢
  obtain ⟨x, y, z⟩ := hp
  refine ⟨fun a ha hd => ?_, fun a ha hd => Int.le_trans (y a ha hd) (ge_lm hl hh ha), fun a ha hd a' ha' hd' => ?_⟩
  · have := x a ha hd
    have := hl a ha
    have := hh a ha
    constructor <;> omega
  · exact Int.le_trans (Int.mul_le_mul_of_nonneg_right (ge_fm hl hh ha) (Int.le_of_lt (ge_sp hd'))) (Int.le_trans (z a ha hd a' ha' hd') (Int.mul_le_mul_of_nonneg_right (ge_lm hl hh ha') (Int.le_of_lt (ge_sp hd))))
theorem ge_Em (hl : ∀ a, a < 3 → l' a ≤ l a) (hh : ∀ a, a < 3 → h a ≤ h' a) : (ge_E l' h' f d 3).1 * (ge_E l h f d 3).2 ≤ (ge_E l h f d 3).1 * (ge_E l' h' f d 3).2 := by
  have ep := ge_Ep (l := l) (h := h) (f := f) (d := d) 3
  have eu := (ge_Eu (l := l) (h := h) (f := f) (d := d) ep.2 3).mp (Int.le_refl _)
  refine (ge_Eu (l := l') (h := h') (f := f) (d := d) ep.2 3).mpr ⟨ep.1, fun a ha hd => ?_⟩
  exact Int.le_trans (Int.mul_le_mul_of_nonneg_right (ge_fm hl hh ha) (Int.le_of_lt ep.2)) (eu.2 a ha hd)
/-! bounds -/
def ge_b (l h f d : Nat → Int) : Prop := ∀ a, a < 3 → (0 ≤ l a ∧ l a ≤ 31) ∧ (0 ≤ h a ∧ h a ≤ 62) ∧ (-100 ≤ f a ∧ f a ≤ 100) ∧ (-20 ≤ d a ∧ d a ≤ 20)
theorem ge_bf (hb : ge_b l h f d) {a : Nat} (ha : a < 3) : (-162 ≤ ge_fi l h f d a ∧ ge_fi l h f d a ≤ 162) ∧ (-162 ≤ ge_la l h f d a ∧ ge_la l h f d a ≤ 162) ∧ ge_sz d a ≤ 20 := by
  obtain ⟨b1, b2, b3, b4⟩ := hb a ha
  unfold ge_fi ge_la ge_sz
  split <;> refine ⟨⟨?_, ?_⟩, ⟨?_, ?_⟩, ?_⟩ <;> omega
theorem ge_Eb (hb : ge_b l h f d) : ∀ k, k ≤ 3 → (ge_E l h f d k).1 ≤ 162 ∧ (ge_E l h f d k).2 ≤ 20 := by
  intro k
  induction k with
  | zero =>
    intro _
    show (0 : Int) ≤ 162 ∧ (1 : Int) ≤ 20
    omega
  | succ k ih =>
    intro hk
    rw [ge_Es]
    have b := ge_bf hb (a := k) (by omega)
    split
    · exact ih (by omega)
    · split
      · exact ⟨b.1.2, b.2.2⟩
      · exact ih (by omega)
theorem ge_Vb (hb : ge_b l h f d) : ∀ k, k ≤ 3 → (-162 ≤ (ge_V l h f d k).1 ∧ (ge_V l h f d k).1 ≤ 162) ∧ (ge_V l h f d k).2 ≤ 20 := by
  intro k
  induction k with
  | zero =>
    intro _
    show (-162 ≤ (0 : Int) ∧ (0 : Int) ≤ 162) ∧ (0 : Int) ≤ 20
    omega
  | succ k ih =>
    intro hk
    rw [ge_Vs]
    have b := ge_bf hb (a := k) (by omega)
    split
    · exact ih (by omega)
    · split
      · exact ⟨b.2.1, b.2.2⟩
      · exact ih (by omega)
end GE
/-! the order of boxes: by entry, then by number -/
def kb (t q : Nat → Int) (x y : Nat) : Prop := t x * q y < t y * q x ∨ (t x * q y = t y * q x ∧ x < y)
theorem kb_tot {t q : Nat → Int} {x y : Nat} (h : x ≠ y) : kb t q x y ∨ kb t q y x := by
  unfold kb; omega
theorem kb_asy {t q : Nat → Int} {x y : Nat} (h : kb t q x y) : ¬ kb t q y x := by
  unfold kb at *; omega
theorem kb_le {t q : Nat → Int} {x y : Nat} (h : kb t q x y) : t x * q y ≤ t y * q x := by
  unfold kb at *; omega
theorem kb_tr {t q : Nat → Int} {x y z : Nat} (hx : 0 < q x) (hy : 0 < q y) (hz : 0 < q z) (h1 : kb t q x y) (h2 : kb t q y z) : kb t q x z := by
  have a1 := gf_tr hx hy hz (kb_le h1) (kb_le h2)
  by_cases e : t x * q z < t z * q x
  · exact Or.inl e
  · have b1 : t z * q x ≤ t x * q z := Int.not_lt.mp e
    have c1 : t y * q x ≤ t x * q y := gf_tr hy hz hx (kb_le h2) b1
    have c2 : t z * q y ≤ t y * q z := gf_tr hz hx hy b1 (kb_le h1)
    unfold kb at *
    omega
end
section
/-! congruence of the ray's reckoning -/
section GC
variable {l h f d l' h' : Nat → Int}
theorem ge_fc (hl : ∀ a, a < 3 → l' a = l a) (hh : ∀ a, a < 3 → h' a = h a) {a : Nat} (ha : a < 3) : ge_fi l' h' f d a = ge_fi l h f d a ∧ ge_la l' h' f d a = ge_la l h f d a := by
  unfold ge_fi ge_la
  rw [hl a ha, hh a ha]
  exact ⟨rfl, rfl⟩
theorem ge_Ec (hl : ∀ a, a < 3 → l' a = l a) (hh : ∀ a, a < 3 → h' a = h a) : ∀ k, k ≤ 3 → ge_E l' h' f d k = ge_E l h f d k := by
  intro k
  induction k with
  | zero => intro _; rfl
  | succ k ih =>
    intro hk
    rw [ge_Es, ge_Es, ih (by omega), (ge_fc (f := f) (d := d) hl hh (a := k) (by omega)).1]
theorem ge_Vc (hl : ∀ a, a < 3 → l' a = l a) (hh : ∀ a, a < 3 → h' a = h a) : ∀ k, k ≤ 3 → ge_V l' h' f d k = ge_V l h f d k := by
  intro k
  induction k with
  | zero => intro _; rfl
  | succ k ih =>
    intro hk
    rw [ge_Vs, ge_Vs, ih (by omega), (ge_fc (f := f) (d := d) hl hh (a := k) (by omega)).2]
theorem ge_Pc (hl : ∀ a, a < 3 → l' a = l a) (hh : ∀ a, a < 3 → h' a = h a) : ge_P l' h' f d ↔ ge_P l h f d := by
  unfold ge_P
  rw [ge_Ec hl hh 3 (Nat.le_refl 3), ge_Vc hl hh 3 (Nat.le_refl 3)]
  have e : ge_F l' h' f d 3 ↔ ge_F l h f d 3 := by
    unfold ge_F
    constructor
    · intro x a ha hd
      rw [← hl a ha, ← hh a ha]; exact x a ha hd
    · intro x a ha hd
      rw [hl a ha, hh a ha]; exact x a ha hd
  rw [e]
end GC
/-! the scene: boxes in rows of three, a ray -/
def sl (lo : Nat → Int32) (x : Nat) : Nat → Int := fun a => (lo (3 * x + a)).toInt
def wI (f : Nat → Int32) : Nat → Int := fun a => (f a).toInt
def sP (lo hi fr wy : Nat → Int32) (x : Nat) : Prop := ge_P (sl lo x) (sl hi x) (wI fr) (wI wy)
def sT (lo hi fr wy : Nat → Int32) (x : Nat) : Int := (ge_E (sl lo x) (sl hi x) (wI fr) (wI wy) 3).1
def sQ (lo hi fr wy : Nat → Int32) (x : Nat) : Int := (ge_E (sl lo x) (sl hi x) (wI fr) (wI wy) 3).2
def sVT (lo hi fr wy : Nat → Int32) (x : Nat) : Int := (ge_V (sl lo x) (sl hi x) (wI fr) (wI wy) 3).1
def sVQ (lo hi fr wy : Nat → Int32) (x : Nat) : Int := (ge_V (sl lo x) (sl hi x) (wI fr) (wI wy) 3).2
def ry (fr wy : Nat → Int32) : Prop := (∀ a, a < 3 → (-100 ≤ (fr a).toInt ∧ (fr a).toInt ≤ 100) ∧ (-20 ≤ (wy a).toInt ∧ (wy a).toInt ≤ 20)) ∧ ∃ a, a < 3 ∧ (wy a).toInt ≠ 0
def bB (n : Nat) (lo hi : Nat → Int32) : Prop := ∀ x, x < n → ∀ a, a < 3 → (0 ≤ (lo (3 * x + a)).toInt ∧ (lo (3 * x + a)).toInt ≤ 31) ∧ (lo (3 * x + a)).toInt ≤ (hi (3 * x + a)).toInt ∧ (hi (3 * x + a)).toInt ≤ 62
/-! the tree -/
def tr_fit (od : Nat → Nat) (lo hi nl nh : Nat → Int32) (b e i : Nat) : Prop := ∀ a, a < 3 → (∀ x, me od b e x → nl (3 * i + a) ≤ lo (3 * x + a) ∧ hi (3 * x + a) ≤ nh (3 * i + a)) ∧ (∃ x, me od b e x ∧ nl (3 * i + a) = lo (3 * x + a)) ∧ ∃ x, me od b e x ∧ nh (3 * i + a) = hi (3 * x + a)
def tr_nd (n N : Nat) (bg en lf : Nat → Nat) (i : Nat) : Prop := bg i < en i ∧ en i ≤ n ∧ (bg i + 1 = en i ∨ (lf i + 1 < N ∧ bg (lf i) = bg i ∧ en (lf i) = bg (lf i + 1) ∧ en (lf i + 1) = en i))
def tr_ar (bg en lf : Nat → Nat) (ab ae al : Nat → Int32) (i : Nat) : Prop := ab i = nI (bg i) ∧ ae i = nI (en i) ∧ (bg i + 1 = en i ∨ al i = nI (lf i))
def tr_T (n N : Nat) (bg en lf od : Nat → Nat) (lo hi nl nh ab ae al ao : Nat → Int32) : Prop := N ≤ 27 ∧ n ≤ 14 ∧ (∀ k, k < n → ao k = nI (od k)) ∧ pm od n ∧ ∀ i, i < N → tr_nd n N bg en lf i ∧ tr_ar bg en lf ab ae al i ∧ tr_fit od lo hi nl nh (bg i) (en i) i
def tr_OK (n : Nat) (fn : Int32) (lo hi nl nh ab ae al ao : Nat → Int32) : Prop := ∃ (N : Nat) (bg en lf od : Nat → Nat), fn = nI N ∧ (n = 0 → N = 0) ∧ (0 < n → 0 < N ∧ bg 0 = 0 ∧ en 0 = n) ∧ tr_T n N bg en lf od lo hi nl nh ab ae al ao
theorem tr_me {n b e x : Nat} {od : Nat → Nat} (hp : pm od n) (he : e ≤ n) (h : me od b e x) : x < n := by
  obtain ⟨k, _, h2, h3⟩ := h
  rw [← h3]; exact pm_lt hp (by omega)
theorem tr_bd {n b e i : Nat} {od : Nat → Nat} {lo hi nl nh : Nat → Int32} (hB : bB n lo hi) (hp : pm od n) (he : e ≤ n) (h : tr_fit od lo hi nl nh b e i) : ∀ a, a < 3 → (0 ≤ (nl (3 * i + a)).toInt ∧ (nl (3 * i + a)).toInt ≤ 31) ∧ (0 ≤ (nh (3 * i + a)).toInt ∧ (nh (3 * i + a)).toInt ≤ 62) := by
  intro a ha
  obtain ⟨_, ⟨x, hx, ex⟩, ⟨y, hy, ey⟩⟩ := h a ha
  have b1 := hB x (tr_me hp he hx) a ha
  have b2 := hB y (tr_me hp he hy) a ha
  rw [ex, ey]
  refine ⟨b1.1, ?_, ?_⟩ <;> omega
theorem tr_gb {n b e i : Nat} {od : Nat → Nat} {lo hi nl nh fr wy : Nat → Int32} (hr : ry fr wy) (hB : bB n lo hi) (hp : pm od n) (he : e ≤ n) (h : tr_fit od lo hi nl nh b e i) : ge_b (sl nl i) (sl nh i) (wI fr) (wI wy) := by
  intro a ha
  have b1 := tr_bd hB hp he h a ha
  have b2 := hr.1 a ha
  exact ⟨b1.1, b1.2, b2.1, b2.2⟩
theorem bx_gb {n x : Nat} {lo hi fr wy : Nat → Int32} (hr : ry fr wy) (hB : bB n lo hi) (hx : x < n) : ge_b (sl lo x) (sl hi x) (wI fr) (wI wy) := by
  intro a ha
  have b1 := hB x hx a ha
  have b2 := hr.1 a ha
  exact ⟨b1.1, ⟨by show 0 ≤ (hi (3 * x + a)).toInt; omega, b1.2.2⟩, b2.1, b2.2⟩
theorem tr_con {b e i x : Nat} {od : Nat → Nat} {lo hi nl nh : Nat → Int32} (h : tr_fit od lo hi nl nh b e i) (hx : me od b e x) : (∀ a, a < 3 → sl nl i a ≤ sl lo x a) ∧ ∀ a, a < 3 → sl hi x a ≤ sl nh i a :=
  ⟨fun a ha => Int32.le_iff_toInt_le.mp ((h a ha).1 x hx).1, fun a ha => Int32.le_iff_toInt_le.mp ((h a ha).1 x hx).2⟩
theorem tr_P {b e i x : Nat} {od : Nat → Nat} {lo hi nl nh fr wy : Nat → Int32} (hr : ry fr wy) (h : tr_fit od lo hi nl nh b e i) (hx : me od b e x) (hp : sP lo hi fr wy x) : sP nl nh fr wy i :=
  ge_Pm hr.2 (tr_con h hx).1 (tr_con h hx).2 hp
theorem tr_E {b e i x : Nat} {od : Nat → Nat} {lo hi nl nh : Nat → Int32} (fr wy : Nat → Int32) (h : tr_fit od lo hi nl nh b e i) (hx : me od b e x) : sT nl nh fr wy i * sQ lo hi fr wy x ≤ sT lo hi fr wy x * sQ nl nh fr wy i :=
  ge_Em (tr_con h hx).1 (tr_con h hx).2
theorem tr_lf {b e i : Nat} {od : Nat → Nat} {lo hi nl nh : Nat → Int32} (h : tr_fit od lo hi nl nh b e i) (hl : b + 1 = e) : ∀ a, a < 3 → nl (3 * i + a) = lo (3 * od b + a) ∧ nh (3 * i + a) = hi (3 * od b + a) := by
  intro a ha
  obtain ⟨_, ⟨x, hx, ex⟩, ⟨y, hy, ey⟩⟩ := h a ha
  rw [ex, ey, me_one hl hx, me_one hl hy]
  exact ⟨rfl, rfl⟩
theorem tr_lP {b e i : Nat} {od : Nat → Nat} {lo hi nl nh : Nat → Int32} (fr wy : Nat → Int32) (h : tr_fit od lo hi nl nh b e i) (hl : b + 1 = e) : (sP nl nh fr wy i ↔ sP lo hi fr wy (od b)) ∧ sT nl nh fr wy i = sT lo hi fr wy (od b) ∧ sQ nl nh fr wy i = sQ lo hi fr wy (od b) := by
  have e1 : ∀ a, a < 3 → sl nl i a = sl lo (od b) a := fun a ha => congrArg Int32.toInt (tr_lf h hl a ha).1
  have e2 : ∀ a, a < 3 → sl nh i a = sl hi (od b) a := fun a ha => congrArg Int32.toInt (tr_lf h hl a ha).2
  exact ⟨ge_Pc e1 e2, congrArg Prod.fst (ge_Ec e1 e2 3 (Nat.le_refl 3)), congrArg Prod.snd (ge_Ec e1 e2 3 (Nat.le_refl 3))⟩
theorem tr_lm {b e : Nat} {od : Nat → Nat} (hl : b + 1 = e) : me od b e (od b) := ⟨b, Nat.le_refl b, by omega, rfl⟩
theorem tr_e1 {bg en lf : Nat → Nat} {ab ae al : Nat → Int32} {i n : Nat} (ha : tr_ar bg en lf ab ae al i) (h1 : bg i < en i) (h2 : en i ≤ n) (hn : n ≤ 14) : ae i - ab i = nI (en i - bg i) := by
  rw [ha.1, ha.2.1, pk_sub (by omega)]
/-! nodes that wait -/
def tv_St (a : Nat → Int32) : List Nat → Prop
  | [] => True
  | x :: t => a t.length = nI x ∧ tv_St a t
def tv_sz (bg en : Nat → Nat) : List Nat → Nat
  | [] => 0
  | x :: t => (2 * (en x - bg x) - 1) + tv_sz bg en t
noncomputable def tv_pd (bg en : Nat → Nat) (p : Nat → Prop) : List Nat → Nat
  | [] => 0
  | x :: t => cq p (bg x) (en x - bg x) + tv_pd bg en p t
def tv_in (bg en od : Nat → Nat) (x : Nat) (st : List Nat) : Prop := ∃ i, i ∈ st ∧ me od (bg i) (en i) x
theorem tv_up {a : Nat → Int32} {t : List Nat} {k : Nat} {v : Int32} (h : tv_St a t) (hk : t.length ≤ k) : tv_St (upd a k v) t := by
  induction t with
  | nil => trivial
  | cons x t ih =>
    have hk' : t.length + 1 ≤ k := hk
    refine ⟨?_, ih h.2 (by omega)⟩
    rw [pk_un (by omega)]
    exact h.1
def tv_I (n N : Nat) (bg en : Nat → Nat) (a : Nat → Int32) (st : List Nat) (sp : Nat) : Prop := tv_St a st ∧ (∀ i, i ∈ st → i < N) ∧ sp + tv_sz bg en st ≤ 27
theorem tv_len {N : Nat} {bg en : Nat → Nat} {st : List Nat} (hb : ∀ i, i < N → bg i < en i) (h : ∀ i, i ∈ st → i < N) : st.length ≤ tv_sz bg en st := by
  induction st with
  | nil => exact Nat.le_refl 0
  | cons x t ih =>
    have h1 := ih (fun i hi => h i (List.mem_cons_of_mem x hi))
    have h2 := hb x (h x List.mem_cons_self)
    show t.length + 1 ≤ (2 * (en x - bg x) - 1) + tv_sz bg en t
    omega
theorem tv_pop {n N : Nat} {bg en : Nat → Nat} {a : Nat → Int32} {i sp : Nat} {t : List Nat} (hb : ∀ i, i < N → bg i < en i) (h : tv_I n N bg en a (i :: t) sp) : i < N ∧ a t.length = nI i ∧ t.length < 27 ∧ sp < 27 ∧ tv_I n N bg en a t (sp + 1) := by
  obtain ⟨h1, h2, h3⟩ := h
  have hi := h2 i List.mem_cons_self
  have hb' := hb i hi
  have hl := tv_len hb (fun j hj => h2 j (List.mem_cons_of_mem i hj))
  have h3' : sp + ((2 * (en i - bg i) - 1) + tv_sz bg en t) ≤ 27 := h3
  refine ⟨hi, h1.1, by omega, by omega, h1.2, fun j hj => h2 j (List.mem_cons_of_mem i hj), ?_⟩
  omega
theorem tv_end {n N : Nat} {bg en : Nat → Nat} {a : Nat → Int32} {sp : Nat} {st : List Nat} (hb : ∀ i, i < N → bg i < en i) (h : tv_I n N bg en a st sp) (hs : 27 ≤ sp) : st = [] := by
  cases st with
  | nil => rfl
  | cons x t =>
    have := (tv_pop hb h).2.2.2.1
    omega
/-- the two children of i pushed, x below y -/
theorem tv_push {n N : Nat} {bg en lf : Nat → Nat} {a : Nat → Int32} {i sp x y : Nat} {t : List Nat} (hN : ∀ i, i < N → bg i < en i) (h : tv_I n N bg en a (i :: t) sp) (hc : lf i + 1 < N ∧ bg (lf i) = bg i ∧ en (lf i) = bg (lf i + 1) ∧ en (lf i + 1) = en i) (hxy : (x = lf i ∧ y = lf i + 1) ∨ (x = lf i + 1 ∧ y = lf i)) : tv_I n N bg en (upd (upd a t.length (nI x)) (t.length + 1) (nI y)) (y :: x :: t) (sp + 1) := by
  have hb := hN i (h.2.1 i List.mem_cons_self)
  have hl1 := hN (lf i) (by omega)
  have hl2 := hN (lf i + 1) (by omega)
  obtain ⟨h1, h2, h3⟩ := h
  have h3' : sp + ((2 * (en i - bg i) - 1) + tv_sz bg en t) ≤ 27 := h3
  refine ⟨⟨?_, ?_, ?_⟩, ?_, ?_⟩
  · show upd (upd a t.length (nI x)) (t.length + 1) (nI y) (t.length + 1) = nI y
    exact pk_us
  · show upd (upd a t.length (nI x)) (t.length + 1) (nI y) t.length = nI x
    rw [pk_un (by omega), pk_us]
  · exact tv_up (tv_up h1.2 (Nat.le_refl _)) (by omega)
  · intro j hj
    rcases List.mem_cons.mp hj with rfl | hj
    · omega
    · rcases List.mem_cons.mp hj with rfl | hj
      · omega
      · exact h2 j (List.mem_cons_of_mem i hj)
  · show sp + 1 + ((2 * (en y - bg y) - 1) + ((2 * (en x - bg x) - 1) + tv_sz bg en t)) ≤ 27
    rcases hxy with ⟨rfl, rfl⟩ | ⟨rfl, rfl⟩ <;> omega
theorem tv_pdc {bg en lf : Nat → Nat} {p : Nat → Prop} {i x y : Nat} {t : List Nat} (hb : bg (lf i) < en (lf i)) (hb2 : bg (lf i + 1) < en (lf i + 1)) (hc : bg (lf i) = bg i ∧ en (lf i) = bg (lf i + 1) ∧ en (lf i + 1) = en i) (hxy : (x = lf i ∧ y = lf i + 1) ∨ (x = lf i + 1 ∧ y = lf i)) : tv_pd bg en p (y :: x :: t) = tv_pd bg en p (i :: t) := by
  have e1 : cq p (bg i) (en i - bg i) = cq p (bg (lf i)) (en (lf i) - bg (lf i)) + cq p (bg (lf i + 1)) (en (lf i + 1) - bg (lf i + 1)) := by
    have e2 : en i - bg i = (en (lf i) - bg (lf i)) + (en (lf i + 1) - bg (lf i + 1)) := by omega
    rw [e2, cq_add, hc.1]
    have e3 : bg i + (en (lf i) - bg i) = bg (lf i + 1) := by omega
    rw [e3]
  show cq p (bg y) (en y - bg y) + (cq p (bg x) (en x - bg x) + tv_pd bg en p t) = cq p (bg i) (en i - bg i) + tv_pd bg en p t
  rw [e1]
  rcases hxy with ⟨rfl, rfl⟩ | ⟨rfl, rfl⟩ <;> omega
theorem tv_inp {bg en od : Nat → Nat} {x i : Nat} {t : List Nat} (h : tv_in bg en od x (i :: t)) : me od (bg i) (en i) x ∨ tv_in bg en od x t := by
  obtain ⟨j, hj, hm⟩ := h
  rcases List.mem_cons.mp hj with rfl | hj
  · exact Or.inl hm
  · exact Or.inr ⟨j, hj, hm⟩
theorem tv_inc {bg en lf od : Nat → Nat} {i x y z : Nat} {t : List Nat} (hb : bg (lf i) < en (lf i)) (hb2 : bg (lf i + 1) < en (lf i + 1)) (hc : bg (lf i) = bg i ∧ en (lf i) = bg (lf i + 1) ∧ en (lf i + 1) = en i) (hxy : (x = lf i ∧ y = lf i + 1) ∨ (x = lf i + 1 ∧ y = lf i)) (h : tv_in bg en od z (i :: t)) : tv_in bg en od z (y :: x :: t) := by
  have k1 : x ∈ y :: x :: t := List.mem_cons_of_mem y List.mem_cons_self
  have k2 : y ∈ y :: x :: t := List.mem_cons_self
  rcases tv_inp h with hm | ⟨j, hj, hm⟩
  · rw [me_split (c := en (lf i)) (by omega) (by omega)] at hm
    rcases hm with hm | hm
    · have hm' : me od (bg (lf i)) (en (lf i)) z := by rw [hc.1]; exact hm
      rcases hxy with ⟨rfl, rfl⟩ | ⟨rfl, rfl⟩
      · exact ⟨_, k1, hm'⟩
      · exact ⟨_, k2, hm'⟩
    · have hm' : me od (bg (lf i + 1)) (en (lf i + 1)) z := by rw [hc.2.2, ← hc.2.1]; exact hm
      rcases hxy with ⟨rfl, rfl⟩ | ⟨rfl, rfl⟩
      · exact ⟨_, k2, hm'⟩
      · exact ⟨_, k1, hm'⟩
  · exact ⟨j, List.mem_cons_of_mem y (List.mem_cons_of_mem x hj), hm⟩
theorem tv_0 {n N : Nat} {bg en : Nat → Nat} {a : Nat → Int32} (h0 : 0 < N) (hb : bg 0 = 0) (he : en 0 = n) (hn : n ≤ 14) : tv_I n N bg en (upd a 0 0) [0] 0 := by
  refine ⟨⟨?_, trivial⟩, ?_, ?_⟩
  · show upd a 0 0 0 = nI 0
    rw [pk_us, nI_0]
  · intro i hi
    rcases List.mem_cons.mp hi with rfl | hi
    · exact h0
    · exact absurd hi List.not_mem_nil
  · show 0 + ((2 * (en 0 - bg 0) - 1) + 0) ≤ 27
    rw [hb, he]; omega
end
section
/-! coordinates of a code -/
def pt (c a : Nat) : Nat := if a = 0 then c / 1024 else if a = 1 then c / 32 % 32 else c % 32
theorem pt_lt {c : Nat} (hc : c < 32768) (a : Nat) : pt c a < 32 := by
  unfold pt
  split
  · omega
  · split <;> omega
theorem pt_x {c a : Nat} (hc : c < 32768) (ha : a < 3) : ((nI c >>> ((10 - (5 * nI a)) &&& 31)) &&& 31) = nI (pt c a) := by
  obtain rfl | rfl | rfl : a = 0 ∨ a = 1 ∨ a = 2 := by omega
  · rw [pk_shrN (by omega) _ 10 (by decide +kernel), pk_andN (by omega) 5 (by decide)]
    exact congrArg nI (by show c / 2 ^ 10 % 2 ^ 5 = c / 1024; omega)
  · rw [pk_shrN (by omega) _ 5 (by decide +kernel), pk_andN (by omega) 5 (by decide)]
    exact congrArg nI (by show c / 2 ^ 5 % 2 ^ 5 = c / 32 % 32; omega)
  · rw [pk_shrN (by omega) _ 0 (by decide +kernel), pk_andN (by omega) 5 (by decide)]
    exact congrArg nI (by show c / 2 ^ 0 % 2 ^ 5 = c % 32; omega)
theorem xp {c a : Nat} (hc : c < 32768) (ha : a < 3) {post : Int32 → Prop} (h : post (nI (pt c a))) : wpX_part post (nI c) (nI a) := by
  unfold wpX_part
  rw [pt_x hc ha]
  exact h
/-! the relation -/
def bS (n : Nat) (lo hi co ex : Nat → Int32) : Prop := ∀ b, b < n → ∃ c e : Nat, c < 32768 ∧ e < 32768 ∧ co b = nI c ∧ ex b = nI e ∧ ∀ a, a < 3 → lo (3 * b + a) = nI (pt c a) ∧ hi (3 * b + a) = nI (pt c a + pt e a)
theorem bS_B {n : Nat} {lo hi co ex : Nat → Int32} (h : bS n lo hi co ex) : bB n lo hi := by
  intro x hx a ha
  obtain ⟨c, e, hc, he, _, _, hl⟩ := h x hx
  have h1 := pt_lt hc a
  have h2 := pt_lt he a
  rw [(hl a ha).1, (hl a ha).2, nI_toInt (by omega), nI_toInt (by omega)]
  omega
def sX (n : Nat) (lo hi fr wy : Nat → Int32) (u : SX) : Prop := match u with
  | (f_count, f_nodes, f_built, f_enterTop, f_enterBottom, f_leaveTop, f_leaveBottom, f_hitCount, a_low, a_high, a_nodeLow, a_nodeHigh, a_begins, a_ends, a_lefts, a_order, a_sorted, a_bestOrder, a_suffix, a_boundLow, a_boundHigh, a_from, a_way, a_stack, a_listed, a_listTop, a_listBottom) => f_count = nI n ∧ a_low = lo ∧ a_high = hi ∧ a_from = fr ∧ a_way = wy ∧ (f_built = 0 ∨ (f_built = 1 ∧ tr_OK n f_nodes lo hi a_nodeLow a_nodeHigh a_begins a_ends a_lefts a_order))
def sY (n : Nat) (co ex fr wy : Nat → Int32) (v : SY) : Prop := match v with
  | (g_count, g_inTop, g_inBottom, g_outTop, g_outBottom, b_corners, b_extents, b_from, b_along, b_tops, b_bottoms) => g_count = nI n ∧ b_corners = co ∧ b_extents = ex ∧ b_from = fr ∧ b_along = wy
/-- the relation at the head of a turn -/
def i_Rel (k : Nat) (u : SX) (v : SY) : Prop := ∃ (n : Nat) (lo hi co ex fr wy : Nat → Int32), n ≤ 14 ∧ bS n lo hi co ex ∧ ry fr wy ∧ sX n lo hi fr wy u ∧ sY n co ex fr wy v
theorem i_up {k : Nat} {u : SX} {v : SY} (h : i_Rel k u v) : i_Rel (k + 4) u v := h
theorem i_vc0 : wpX_init (fun u => wpY_init (fun v => i_Rel 0 u v)) := by
  intro w hw w' hw'
  subst hw hw'
  refine ⟨0, fun _ => 0, fun _ => 0, fun _ => 0, fun _ => 0, fun _ => 0, upd (fun _ => 0) 0 1, by omega, fun b hb => absurd hb (Nat.not_lt_zero b), ⟨fun a ha => ?_, 0, by omega, by decide⟩, ?_, ?_⟩
  · obtain rfl | rfl | rfl : a = 0 ∨ a = 1 ∨ a = 2 := by omega
    all_goals decide
  · exact ⟨rfl, rfl, rfl, rfl, rfl, Or.inl rfl⟩
  · exact ⟨rfl, rfl, rfl, rfl, rfl⟩
/-! small tests -/
section SM
variable {f_count f_nodes f_built f_enterTop f_enterBottom f_leaveTop f_leaveBottom f_hitCount : Int32} {a_low a_high a_nodeLow a_nodeHigh a_begins a_ends a_lefts a_order a_sorted a_bestOrder a_suffix a_boundLow a_boundHigh a_from a_way a_stack a_listed a_listTop a_listBottom : Nat → Int32}
variable {g_count g_inTop g_inBottom g_outTop g_outBottom : Int32} {b_corners b_extents b_from b_along b_tops b_bottoms : Nat → Int32}
theorem n10 : ¬ (1 : Int32) = 0 := by decide
def isT (c : Int32) : Prop := ∃ j : Nat, j < 32768 ∧ c = nI j
theorem isT_i {c : Int32} (h0 : ¬ c < 0) (h1 : c ≤ 32767) : isT c := by
  obtain ⟨j, hj, e⟩ := nI_of2 (M := 32767) (n := 32767) (by decide) h0 h1
  exact ⟨j, by omega, e⟩
theorem xT_t {j : Nat} (hj : j < 32768) {post : Int32 → Prop} (h : post 1) : wpX_isTriple post (nI j) :=
  br_f (nI_pos (by omega)) (br_f (Int32.not_lt.mpr (nI_le (b := 32767) (by omega) (by decide))) h)
theorem xT_f {c : Int32} (hc : ¬ isT c) {post : Int32 → Prop} (h : post 0) : wpX_isTriple post c :=
  br_c (fun _ => h) fun c0 => br_c (fun _ => h) fun c1 => absurd (isT_i c0 (Int32.not_lt.mp c1)) hc
theorem yT_t {j : Nat} (hj : j < 32768) {post : Int32 → Prop} (h : post 0) : wpY_badTriple post (g_count, g_inTop, g_inBottom, g_outTop, g_outBottom, b_corners, b_extents, b_from, b_along, b_tops, b_bottoms) (nI j) :=
  br_f (nI_pos (by omega)) (br_t (nI_le (b := 32767) (by omega) (by decide)) h)
theorem yT_f {c : Int32} (hc : ¬ isT c) {post : Int32 → Prop} (h : post 1) : wpY_badTriple post (g_count, g_inTop, g_inBottom, g_outTop, g_outBottom, b_corners, b_extents, b_from, b_along, b_tops, b_bottoms) c :=
  br_c (fun _ => h) fun c0 => br_c (fun c1 => absurd (isT_i c0 c1) hc) fun _ => h
def isB (n : Nat) (p : Int32) : Prop := ∃ b : Nat, b < n ∧ p = nI b
theorem isB_i {n : Nat} {p : Int32} (hn : n ≤ 14) (h0 : ¬ p < 0) (h1 : ¬ nI n ≤ p) : isB n p := by
  rcases pk_ix p (n := n) (by omega) with h | h | ⟨j, hj, e⟩
  · exact absurd h h0
  · exact absurd h h1
  · exact ⟨j, hj, e⟩
theorem xB_t {n b : Nat} (hb : b < n) (hn : n ≤ 14) {post : Int32 → Prop} (h : post 1) : wpX_isBox post (nI n, f_nodes, f_built, f_enterTop, f_enterBottom, f_leaveTop, f_leaveBottom, f_hitCount, a_low, a_high, a_nodeLow, a_nodeHigh, a_begins, a_ends, a_lefts, a_order, a_sorted, a_bestOrder, a_suffix, a_boundLow, a_boundHigh, a_from, a_way, a_stack, a_listed, a_listTop, a_listBottom) (nI b) :=
  br_f (nI_pos (by omega)) (br_f (nI_ge hb (by omega)) h)
theorem xB_f {n : Nat} {p : Int32} (hp : ¬ isB n p) (hn : n ≤ 14) {post : Int32 → Prop} (h : post 0) : wpX_isBox post (nI n, f_nodes, f_built, f_enterTop, f_enterBottom, f_leaveTop, f_leaveBottom, f_hitCount, a_low, a_high, a_nodeLow, a_nodeHigh, a_begins, a_ends, a_lefts, a_order, a_sorted, a_bestOrder, a_suffix, a_boundLow, a_boundHigh, a_from, a_way, a_stack, a_listed, a_listTop, a_listBottom) p :=
  br_c (fun _ => h) fun c0 => br_c (fun _ => h) fun c1 => absurd (isB_i hn c0 c1) hp
theorem yB_t {n b : Nat} (hb : b < n) (hn : n ≤ 14) {post : Int32 → Prop} (h : post 0) : wpY_bad post (nI n, g_inTop, g_inBottom, g_outTop, g_outBottom, b_corners, b_extents, b_from, b_along, b_tops, b_bottoms) (nI b) :=
  br_f (nI_pos (by omega)) (br_f (nI_ge hb (by omega)) (br_t (nI_le (b := 13) (by omega) (by decide)) h))
theorem yB_f {n : Nat} {p : Int32} (hp : ¬ isB n p) (hn : n ≤ 14) {post : Int32 → Prop} (h : post 1) : wpY_bad post (nI n, g_inTop, g_inBottom, g_outTop, g_outBottom, b_corners, b_extents, b_from, b_along, b_tops, b_bottoms) p :=
  br_c (fun _ => h) fun c0 => br_c (fun _ => h) fun c1 => absurd (isB_i hn c0 c1) hp
def nr (m p : Int32) : Prop := ¬ p < -m ∧ p ≤ m
theorem xN_t {p : Int32} (hp : nr 100 p) {post : Int32 → Prop} (h : post 1) : wpX_isNear post p :=
  br_f hp.1 (br_f (Int32.not_lt.mpr hp.2) h)
theorem xN_f {p : Int32} (hp : ¬ nr 100 p) {post : Int32 → Prop} (h : post 0) : wpX_isNear post p :=
  br_c (fun _ => h) fun c0 => br_c (fun _ => h) fun c1 => absurd ⟨c0, Int32.not_lt.mp c1⟩ hp
theorem yN_t {m p : Int32} (hp : nr m p) {post : Int32 → Prop} (h : post 0) : wpY_far post (g_count, g_inTop, g_inBottom, g_outTop, g_outBottom, b_corners, b_extents, b_from, b_along, b_tops, b_bottoms) p m :=
  br_f hp.1 (br_t hp.2 h)
theorem yN_f {m p : Int32} (hp : ¬ nr m p) {post : Int32 → Prop} (h : post 1) : wpY_far post (g_count, g_inTop, g_inBottom, g_outTop, g_outBottom, b_corners, b_extents, b_from, b_along, b_tops, b_bottoms) p m :=
  br_c (fun _ => h) fun c0 => br_c (fun c1 => absurd ⟨c0, c1⟩ hp) fun _ => h
theorem nr_100 {p : Int32} (h : nr 100 p) : -100 ≤ p.toInt ∧ p.toInt ≤ 100 := by
  have h1 := Int32.le_iff_toInt_le.mp (Int32.not_lt.mp h.1)
  have h2 := Int32.le_iff_toInt_le.mp h.2
  rw [show (-100 : Int32).toInt = -100 from by decide] at h1
  rw [show (100 : Int32).toInt = 100 from by decide] at h2
  exact ⟨h1, h2⟩
theorem nr_20 {p : Int32} (h : nr 20 p) : -20 ≤ p.toInt ∧ p.toInt ≤ 20 := by
  have h1 := Int32.le_iff_toInt_le.mp (Int32.not_lt.mp h.1)
  have h2 := Int32.le_iff_toInt_le.mp h.2
  rw [show (-20 : Int32).toInt = -20 from by decide] at h1
  rw [show (20 : Int32).toInt = 20 from by decide] at h2
  exact ⟨h1, h2⟩
/-! the reference reads coordinates -/
theorem yp {c a : Nat} (hc : c < 32768) (ha : a < 3) {post : Int32 → Prop} (h : post (nI (pt c a))) : wpY_part post (g_count, g_inTop, g_inBottom, g_outTop, g_outBottom, b_corners, b_extents, b_from, b_along, b_tops, b_bottoms) (nI c) (nI a) := by
  obtain rfl | rfl | rfl : a = 0 ∨ a = 1 ∨ a = 2 := by omega
  · have e : nI c / 1024 = nI (c / 1024) := pk_div (d := 1024) (by omega) (by omega) (by omega)
    refine br_t nI_0 ⟨by decide, ?_⟩
    rw [e]; exact h
  · have e : nI c / 32 = nI (c / 32) := pk_div (d := 32) (by omega) (by omega) (by omega)
    have e2 : nI (c / 32) - nI (c / 32) / 32 * 32 = nI (c / 32 % 32) := pk_rem (d := 32) (by omega) (by omega) (by omega)
    refine br_f (by decide) (br_t (by decide) ⟨by decide, by decide, ?_⟩)
    rw [e, e2]; exact h
  · have e2 : nI c - nI c / 32 * 32 = nI (c % 32) := pk_rem (d := 32) (by omega) (by omega) (by omega)
    refine br_f (by decide) (br_f (by decide) ⟨by decide, ?_⟩)
    rw [e2]; exact h
theorem yl {n b a : Nat} {lo hi co ex : Nat → Int32} (hS : bS n lo hi co ex) (hn : n ≤ 14) (hb : b < n) (ha : a < 3) {post : Int32 → Prop} (h : post (lo (3 * b + a))) : wpY_low post (g_count, g_inTop, g_inBottom, g_outTop, g_outBottom, co, ex, b_from, b_along, b_tops, b_bottoms) (nI b) (nI a) := by
  obtain ⟨c, e, hc, he, e1, e2, hl⟩ := hS b hb
  refine And.intro (vp_in_nI (by omega) (by omega)) ?_
  rw [nI_clamp (by omega), e1]
  refine yp hc ha ?_
  rw [(hl a ha).1] at h
  exact h
theorem yh {n b a : Nat} {lo hi co ex : Nat → Int32} (hS : bS n lo hi co ex) (hn : n ≤ 14) (hb : b < n) (ha : a < 3) {post : Int32 → Prop} (h : post (hi (3 * b + a))) : wpY_high post (g_count, g_inTop, g_inBottom, g_outTop, g_outBottom, co, ex, b_from, b_along, b_tops, b_bottoms) (nI b) (nI a) := by
  obtain ⟨c, e, hc, he, e1, e2, hl⟩ := hS b hb
  refine And.intro (vp_in_nI (by omega) (by omega)) ?_
  rw [nI_clamp (by omega), e1]
  refine yp hc ha (And.intro (vp_in_nI (by omega) (by omega)) ?_)
  rw [e2]
  refine yp he ha ?_
  rw [(hl a ha).2, ← nI_add] at h
  exact h
/-! three cells written -/
def wr3 (f : Nat → Int32) (o : Nat) (x y z : Int32) : Nat → Int32 := upd (upd (upd f o x) (o + 1) y) (o + 2) z
theorem wr3_0 {f : Nat → Int32} {o : Nat} {x y z : Int32} : wr3 f o x y z (o + 0) = x := by
  unfold wr3
  rw [pk_un (by omega), pk_un (by omega)]
  exact pk_us
theorem wr3_1 {f : Nat → Int32} {o : Nat} {x y z : Int32} : wr3 f o x y z (o + 1) = y := by
  unfold wr3
  rw [pk_un (by omega), pk_us]
theorem wr3_2 {f : Nat → Int32} {o : Nat} {x y z : Int32} : wr3 f o x y z (o + 2) = z := pk_us
theorem wr3_n {f : Nat → Int32} {o j : Nat} {x y z : Int32} (h : j < o ∨ o + 3 ≤ j) : wr3 f o x y z j = f j := by
  unfold wr3
  rw [pk_un (by omega), pk_un (by omega), pk_un (by omega)]
theorem wr3_a {f g : Nat → Int32} {o : Nat} : ∀ a, a < 3 → wr3 f o (g 0) (g 1) (g 2) (o + a) = g a := by
  intro a ha
  obtain rfl | rfl | rfl : a = 0 ∨ a = 1 ∨ a = 2 := by omega
  · exact wr3_0
  · exact wr3_1
  · exact wr3_2
end SM
end
section
section MU
variable {f_count f_nodes f_built f_enterTop f_enterBottom f_leaveTop f_leaveBottom f_hitCount : Int32} {a_low a_high a_nodeLow a_nodeHigh a_begins a_ends a_lefts a_order a_sorted a_bestOrder a_suffix a_boundLow a_boundHigh a_from a_way a_stack a_listed a_listTop a_listBottom : Nat → Int32}
variable {g_count g_inTop g_inBottom g_outTop g_outBottom : Int32} {b_corners b_extents b_from b_along b_tops b_bottoms : Nat → Int32}
variable {lo hi co ex fr wy : Nat → Int32}
theorem i_vc_boxes {k : Nat} {u : SX} {v : SY} (I : i_Rel k u v) (hk : k + 4 ≤ 2048) : wpX_boxes (fun r => wpY_boxes (fun r' => r' = r ∧ i_Rel (k + 4) u v) v) u := by
  have I' := i_up I
  obtain ⟨n, lo, hi, co, ex, fr, wy, hn, hS, hr, hX, hY⟩ := I
  obtain ⟨f_count, ru⟩ := u
  obtain ⟨g_count, rv⟩ := v
  exact ⟨hY.1.trans hX.1.symm, I'⟩
theorem xO_t {p0 p1 p2 : Int32} {post : Int32 → SX → Prop} (h0 : nr 100 p0) (h1 : nr 100 p1) (h2 : nr 100 p2) (h : post 0 (f_count, f_nodes, f_built, f_enterTop, f_enterBottom, f_leaveTop, f_leaveBottom, f_hitCount, a_low, a_high, a_nodeLow, a_nodeHigh, a_begins, a_ends, a_lefts, a_order, a_sorted, a_bestOrder, a_suffix, a_boundLow, a_boundHigh, upd (upd (upd a_from 0 p0) 1 p1) 2 p2, a_way, a_stack, a_listed, a_listTop, a_listBottom)) : wpX_origin post (f_count, f_nodes, f_built, f_enterTop, f_enterBottom, f_leaveTop, f_leaveBottom, f_hitCount, a_low, a_high, a_nodeLow, a_nodeHigh, a_begins, a_ends, a_lefts, a_order, a_sorted, a_bestOrder, a_suffix, a_boundLow, a_boundHigh, a_from, a_way, a_stack, a_listed, a_listTop, a_listBottom) p0 p1 p2 := by
  unfold wpX_origin
  exact xN_t h0 (br_f n10 (xN_t h1 (br_f n10 (xN_t h2 (br_f n10 (nm_e (nm_e (nm_e h))))))))
theorem xO_f {p0 p1 p2 : Int32} {post : Int32 → SX → Prop} (hn : ¬ (nr 100 p0 ∧ nr 100 p1 ∧ nr 100 p2)) (h : post (-1) (f_count, f_nodes, f_built, f_enterTop, f_enterBottom, f_leaveTop, f_leaveBottom, f_hitCount, a_low, a_high, a_nodeLow, a_nodeHigh, a_begins, a_ends, a_lefts, a_order, a_sorted, a_bestOrder, a_suffix, a_boundLow, a_boundHigh, a_from, a_way, a_stack, a_listed, a_listTop, a_listBottom)) : wpX_origin post (f_count, f_nodes, f_built, f_enterTop, f_enterBottom, f_leaveTop, f_leaveBottom, f_hitCount, a_low, a_high, a_nodeLow, a_nodeHigh, a_begins, a_ends, a_lefts, a_order, a_sorted, a_bestOrder, a_suffix, a_boundLow, a_boundHigh, a_from, a_way, a_stack, a_listed, a_listTop, a_listBottom) p0 p1 p2 := by
  unfold wpX_origin
  by_cases h1 : nr 100 p0
  · by_cases h2 : nr 100 p1
    · by_cases h3 : nr 100 p2
      · exact absurd ⟨h1, h2, h3⟩ hn
      · exact xN_t h1 (br_f n10 (xN_t h2 (br_f n10 (xN_f h3 (br_t rfl h)))))
    · exact xN_t h1 (br_f n10 (xN_f h2 (br_t rfl h)))
  · exact xN_f h1 (br_t rfl h)
theorem yO_t {p0 p1 p2 : Int32} {post : Int32 → SY → Prop} (h0 : nr 100 p0) (h1 : nr 100 p1) (h2 : nr 100 p2) (h : post 0 (g_count, g_inTop, g_inBottom, g_outTop, g_outBottom, b_corners, b_extents, upd (upd (upd b_from 0 p0) 1 p1) 2 p2, b_along, b_tops, b_bottoms)) : wpY_origin post (g_count, g_inTop, g_inBottom, g_outTop, g_outBottom, b_corners, b_extents, b_from, b_along, b_tops, b_bottoms) p0 p1 p2 := by
  unfold wpY_origin
  exact yN_t h0 (br_t rfl (yN_t h1 (br_t rfl (yN_t h2 (br_t rfl (nm_e (nm_e (nm_e h))))))))
theorem yO_f {p0 p1 p2 : Int32} {post : Int32 → SY → Prop} (hn : ¬ (nr 100 p0 ∧ nr 100 p1 ∧ nr 100 p2)) (h : post (-1) (g_count, g_inTop, g_inBottom, g_outTop, g_outBottom, b_corners, b_extents, b_from, b_along, b_tops, b_bottoms)) : wpY_origin post (g_count, g_inTop, g_inBottom, g_outTop, g_outBottom, b_corners, b_extents, b_from, b_along, b_tops, b_bottoms) p0 p1 p2 := by
  unfold wpY_origin
  by_cases h1 : nr 100 p0
  · by_cases h2 : nr 100 p1
    · by_cases h3 : nr 100 p2
      · exact absurd ⟨h1, h2, h3⟩ hn
      · exact yN_t h1 (br_t rfl (yN_t h2 (br_t rfl (yN_f h3 (br_f n10 h)))))
    · exact yN_t h1 (br_t rfl (yN_f h2 (br_f n10 h)))
  · exact yN_f h1 (br_f n10 h)
theorem i_vc_origin {k : Nat} {u : SX} {v : SY} (I : i_Rel k u v) (hk : k + 4 ≤ 2048) (v1 : Int32) (v2 : Int32) (v3 : Int32) : wpX_origin (fun r u' => wpY_origin (fun r' v' => r' = r ∧ i_Rel (k + 4) u' v') v v1 v2 v3) u v1 v2 v3 := by
  have I' := i_up I
  obtain ⟨n, lo, hi, co, ex, fr, wy, hn, hS, hr, hX, hY⟩ := I
  obtain ⟨f_count, f_nodes, f_built, f_enterTop, f_enterBottom, f_leaveTop, f_leaveBottom, f_hitCount, a_low, a_high, a_nodeLow, a_nodeHigh, a_begins, a_ends, a_lefts, a_order, a_sorted, a_bestOrder, a_suffix, a_boundLow, a_boundHigh, a_from, a_way, a_stack, a_listed, a_listTop, a_listBottom⟩ := u
  obtain ⟨g_count, g_inTop, g_inBottom, g_outTop, g_outBottom, b_corners, b_extents, b_from, b_along, b_tops, b_bottoms⟩ := v
  by_cases hh : nr 100 v1 ∧ nr 100 v2 ∧ nr 100 v3
  · refine xO_t hh.1 hh.2.1 hh.2.2 (yO_t hh.1 hh.2.1 hh.2.2 ?_)
    obtain ⟨x1, x2, x3, x4, x5, x6⟩ := hX
    obtain ⟨y1, y2, y3, y4, y5⟩ := hY
    refine ⟨rfl, n, lo, hi, co, ex, upd (upd (upd fr 0 v1) 1 v2) 2 v3, wy, hn, hS, ⟨fun a ha => ⟨?_, (hr.1 a ha).2⟩, hr.2⟩, ⟨x1, x2, x3, by rw [x4], x5, x6⟩, ⟨y1, y2, y3, by rw [y4], y5⟩⟩
    obtain rfl | rfl | rfl : a = 0 ∨ a = 1 ∨ a = 2 := by omega
    · exact nr_100 hh.1
    · exact nr_100 hh.2.1
    · exact nr_100 hh.2.2
  · exact xO_f hh (yO_f hh ⟨rfl, I'⟩)
theorem xD_f {p0 p1 p2 : Int32} {post : Int32 → SX → Prop} (hn : ¬ (nr 20 p0 ∧ nr 20 p1 ∧ nr 20 p2)) (h : post (-1) (f_count, f_nodes, f_built, f_enterTop, f_enterBottom, f_leaveTop, f_leaveBottom, f_hitCount, a_low, a_high, a_nodeLow, a_nodeHigh, a_begins, a_ends, a_lefts, a_order, a_sorted, a_bestOrder, a_suffix, a_boundLow, a_boundHigh, a_from, a_way, a_stack, a_listed, a_listTop, a_listBottom)) : wpX_direction post (f_count, f_nodes, f_built, f_enterTop, f_enterBottom, f_leaveTop, f_leaveBottom, f_hitCount, a_low, a_high, a_nodeLow, a_nodeHigh, a_begins, a_ends, a_lefts, a_order, a_sorted, a_bestOrder, a_suffix, a_boundLow, a_boundHigh, a_from, a_way, a_stack, a_listed, a_listTop, a_listBottom) p0 p1 p2 :=
  br_c (fun _ => h) fun c0 => br_c (fun _ => h) fun c1 => br_c (fun _ => h) fun c2 => br_c (fun _ => h) fun c3 => br_c (fun _ => h) fun c4 => br_c (fun c5 => absurd ⟨⟨c0, Int32.not_lt.mp c1⟩, ⟨c2, Int32.not_lt.mp c3⟩, ⟨c4, c5⟩⟩ hn) fun _ => h
theorem xD_z {post : Int32 → SX → Prop} (h : post (-2) (f_count, f_nodes, f_built, f_enterTop, f_enterBottom, f_leaveTop, f_leaveBottom, f_hitCount, a_low, a_high, a_nodeLow, a_nodeHigh, a_begins, a_ends, a_lefts, a_order, a_sorted, a_bestOrder, a_suffix, a_boundLow, a_boundHigh, a_from, a_way, a_stack, a_listed, a_listTop, a_listBottom)) : wpX_direction post (f_count, f_nodes, f_built, f_enterTop, f_enterBottom, f_leaveTop, f_leaveBottom, f_hitCount, a_low, a_high, a_nodeLow, a_nodeHigh, a_begins, a_ends, a_lefts, a_order, a_sorted, a_bestOrder, a_suffix, a_boundLow, a_boundHigh, a_from, a_way, a_stack, a_listed, a_listTop, a_listBottom) 0 0 0 :=
  br_f (by decide) (br_f (by decide) (br_f (by decide) (br_f (by decide) (br_f (by decide) (br_t (by decide) (br_t rfl (br_t rfl (br_t rfl h))))))))
theorem xD_t {p0 p1 p2 : Int32} {post : Int32 → SX → Prop} (h0 : nr 20 p0) (h1 : nr 20 p1) (h2 : nr 20 p2) (hz : ¬ (p0 = 0 ∧ p1 = 0 ∧ p2 = 0)) (h : post 0 (f_count, f_nodes, f_built, f_enterTop, f_enterBottom, f_leaveTop, f_leaveBottom, f_hitCount, a_low, a_high, a_nodeLow, a_nodeHigh, a_begins, a_ends, a_lefts, a_order, a_sorted, a_bestOrder, a_suffix, a_boundLow, a_boundHigh, a_from, upd (upd (upd a_way 0 p0) 1 p1) 2 p2, a_stack, a_listed, a_listTop, a_listBottom)) : wpX_direction post (f_count, f_nodes, f_built, f_enterTop, f_enterBottom, f_leaveTop, f_leaveBottom, f_hitCount, a_low, a_high, a_nodeLow, a_nodeHigh, a_begins, a_ends, a_lefts, a_order, a_sorted, a_bestOrder, a_suffix, a_boundLow, a_boundHigh, a_from, a_way, a_stack, a_listed, a_listTop, a_listBottom) p0 p1 p2 := by
  have D : wX_direction_53 post p0 p1 p2 f_count f_nodes f_built f_enterTop f_enterBottom f_leaveTop f_leaveBottom f_hitCount a_low a_high a_nodeLow a_nodeHigh a_begins a_ends a_lefts a_order a_sorted a_bestOrder a_suffix a_boundLow a_boundHigh a_from a_way a_stack a_listed a_listTop a_listBottom := nm_e (nm_e (nm_e h))
  exact br_f h0.1 (br_f (Int32.not_lt.mpr h0.2) (br_f h1.1 (br_f (Int32.not_lt.mpr h1.2) (br_f h2.1 (br_t h2.2 (br_c (fun e0 => br_c (fun e1 => br_c (fun e2 => absurd ⟨e0, e1, e2⟩ hz) fun _ => D) fun _ => D) fun _ => D))))))
theorem yD_f {p0 p1 p2 : Int32} {post : Int32 → SY → Prop} (hn : ¬ (nr 20 p0 ∧ nr 20 p1 ∧ nr 20 p2)) (h : post (-1) (g_count, g_inTop, g_inBottom, g_outTop, g_outBottom, b_corners, b_extents, b_from, b_along, b_tops, b_bottoms)) : wpY_direction post (g_count, g_inTop, g_inBottom, g_outTop, g_outBottom, b_corners, b_extents, b_from, b_along, b_tops, b_bottoms) p0 p1 p2 := by
  unfold wpY_direction
  by_cases h1 : nr 20 p0
  · by_cases h2 : nr 20 p1
    · by_cases h3 : nr 20 p2
      · exact absurd ⟨h1, h2, h3⟩ hn
      · exact yN_t h1 (br_t rfl (yN_t h2 (br_t rfl (yN_f h3 (br_f n10 h)))))
    · exact yN_t h1 (br_t rfl (yN_f h2 (br_f n10 h)))
  · exact yN_f h1 (br_f n10 h)
theorem nr_0 : nr 20 0 := ⟨by decide, by decide⟩
theorem yD_z {post : Int32 → SY → Prop} (h : post (-2) (g_count, g_inTop, g_inBottom, g_outTop, g_outBottom, b_corners, b_extents, b_from, b_along, b_tops, b_bottoms)) : wpY_direction post (g_count, g_inTop, g_inBottom, g_outTop, g_outBottom, b_corners, b_extents, b_from, b_along, b_tops, b_bottoms) 0 0 0 := by
  unfold wpY_direction
  exact yN_t nr_0 (br_t rfl (yN_t nr_0 (br_t rfl (yN_t nr_0 (br_t rfl (br_t rfl (br_t rfl (br_t rfl h))))))))
theorem yD_t {p0 p1 p2 : Int32} {post : Int32 → SY → Prop} (h0 : nr 20 p0) (h1 : nr 20 p1) (h2 : nr 20 p2) (hz : ¬ (p0 = 0 ∧ p1 = 0 ∧ p2 = 0)) (h : post 0 (g_count, g_inTop, g_inBottom, g_outTop, g_outBottom, b_corners, b_extents, b_from, upd (upd (upd b_along 0 p0) 1 p1) 2 p2, b_tops, b_bottoms)) : wpY_direction post (g_count, g_inTop, g_inBottom, g_outTop, g_outBottom, b_corners, b_extents, b_from, b_along, b_tops, b_bottoms) p0 p1 p2 := by
  have D : wY_direction_47 post p0 p1 p2 g_count g_inTop g_inBottom g_outTop g_outBottom b_corners b_extents b_from b_along b_tops b_bottoms := nm_e (nm_e (nm_e h))
  unfold wpY_direction
  exact yN_t h0 (br_t rfl (yN_t h1 (br_t rfl (yN_t h2 (br_t rfl (br_c (fun e0 => br_c (fun e1 => br_c (fun e2 => absurd ⟨e0, e1, e2⟩ hz) fun _ => D) fun _ => D) fun _ => D))))))
theorem i_vc_direction {k : Nat} {u : SX} {v : SY} (I : i_Rel k u v) (hk : k + 4 ≤ 2048) (v1 : Int32) (v2 : Int32) (v3 : Int32) : wpX_direction (fun r u' => wpY_direction (fun r' v' => r' = r ∧ i_Rel (k + 4) u' v') v v1 v2 v3) u v1 v2 v3 := by
  have I' := i_up I
  obtain ⟨n, lo, hi, co, ex, fr, wy, hn, hS, hr, hX, hY⟩ := I
  obtain ⟨f_count, f_nodes, f_built, f_enterTop, f_enterBottom, f_leaveTop, f_leaveBottom, f_hitCount, a_low, a_high, a_nodeLow, a_nodeHigh, a_begins, a_ends, a_lefts, a_order, a_sorted, a_bestOrder, a_suffix, a_boundLow, a_boundHigh, a_from, a_way, a_stack, a_listed, a_listTop, a_listBottom⟩ := u
  obtain ⟨g_count, g_inTop, g_inBottom, g_outTop, g_outBottom, b_corners, b_extents, b_from, b_along, b_tops, b_bottoms⟩ := v
  by_cases hd : nr 20 v1 ∧ nr 20 v2 ∧ nr 20 v3
  · by_cases hz : v1 = 0 ∧ v2 = 0 ∧ v3 = 0
    · obtain ⟨rfl, rfl, rfl⟩ := hz
      exact xD_z (yD_z ⟨rfl, I'⟩)
    · refine xD_t hd.1 hd.2.1 hd.2.2 hz (yD_t hd.1 hd.2.1 hd.2.2 hz ?_)
      obtain ⟨x1, x2, x3, x4, x5, x6⟩ := hX
      obtain ⟨y1, y2, y3, y4, y5⟩ := hY
      refine ⟨rfl, n, lo, hi, co, ex, fr, upd (upd (upd wy 0 v1) 1 v2) 2 v3, hn, hS, ⟨fun a ha => ⟨(hr.1 a ha).1, ?_⟩, ?_⟩, ⟨x1, x2, x3, x4, by rw [x5], x6⟩, ⟨y1, y2, y3, y4, by rw [y5]⟩⟩
      · obtain rfl | rfl | rfl : a = 0 ∨ a = 1 ∨ a = 2 := by omega
        · exact nr_20 hd.1
        · exact nr_20 hd.2.1
        · exact nr_20 hd.2.2
      · have nz : ∀ x : Int32, ¬ x = 0 → x.toInt ≠ 0 := fun x hx e => hx (Int32.toInt_inj.mp (e.trans qn_0.symm))
        by_cases e0 : v1 = 0
        · by_cases e1 : v2 = 0
          · exact ⟨2, by omega, nz v3 (fun e2 => hz ⟨e0, e1, e2⟩)⟩
          · exact ⟨1, by omega, nz v2 e1⟩
        · exact ⟨0, by omega, nz v1 e0⟩
  · exact xD_f hd (yD_f hd ⟨rfl, I'⟩)
/-! add -/
theorem xa_s {c e n a m : Nat} (ha : a < 3) (hn : n < 14) (hc : c < 32768) (he : e < 32768) {post : Int32 → SX → Prop} (h : wX_add_33 post (nI c) (nI e) (nI n) f_nodes f_built f_enterTop f_enterBottom f_leaveTop f_leaveBottom f_hitCount m (nI (a + 1)) (upd a_low (3 * n + a) (nI (pt c a))) (upd a_high (3 * n + a) (nI (pt c a + pt e a))) a_nodeLow a_nodeHigh a_begins a_ends a_lefts a_order a_sorted a_bestOrder a_suffix a_boundLow a_boundHigh a_from a_way a_stack a_listed a_listTop a_listBottom) : wX_add_33 post (nI c) (nI e) (nI n) f_nodes f_built f_enterTop f_enterBottom f_leaveTop f_leaveBottom f_hitCount (m + 1) (nI a) a_low a_high a_nodeLow a_nodeHigh a_begins a_ends a_lefts a_order a_sorted a_bestOrder a_suffix a_boundLow a_boundHigh a_from a_way a_stack a_listed a_listTop a_listBottom := by
  have v : vp_in (3 * nI n + nI a) 42 := qn_i3 ha hn (by omega)
  have e1 : upd a_low (3 * nI n + nI a).toNatClampNeg (nI (pt c a)) = upd a_low (3 * n + a) (nI (pt c a)) := by rw [qn_c3 ha (by omega)]
  have e2 : upd a_high (3 * nI n + nI a).toNatClampNeg (nI (pt c a) + nI (pt e a)) = upd a_high (3 * n + a) (nI (pt c a + pt e a)) := by rw [qn_c3 ha (by omega), nI_add]
  exact br_f (nI_ge (b := 3) ha (by decide)) (xp hc ha ⟨v, nm_r e1 (xp hc ha (xp he ha ⟨v, nm_r e2 (nm_r (nI_1 a) h)⟩))⟩)
theorem xa_33 {c e n : Nat} (hn : n < 14) (hc : c < 32768) (he : e < 32768) {post : Int32 → SX → Prop} (h : post (nI n) (nI (n + 1), f_nodes, 0, f_enterTop, f_enterBottom, f_leaveTop, f_leaveBottom, f_hitCount, wr3 a_low (3 * n) (nI (pt c 0)) (nI (pt c 1)) (nI (pt c 2)), wr3 a_high (3 * n) (nI (pt c 0 + pt e 0)) (nI (pt c 1 + pt e 1)) (nI (pt c 2 + pt e 2)), a_nodeLow, a_nodeHigh, a_begins, a_ends, a_lefts, a_order, a_sorted, a_bestOrder, a_suffix, a_boundLow, a_boundHigh, a_from, a_way, a_stack, a_listed, a_listTop, a_listBottom)) : wX_add_33 post (nI c) (nI e) (nI n) f_nodes f_built f_enterTop f_enterBottom f_leaveTop f_leaveBottom f_hitCount 4 (nI 0) a_low a_high a_nodeLow a_nodeHigh a_begins a_ends a_lefts a_order a_sorted a_bestOrder a_suffix a_boundLow a_boundHigh a_from a_way a_stack a_listed a_listTop a_listBottom := by
  refine xa_s (by omega) hn hc he (xa_s (by omega) hn hc he (xa_s (by omega) hn hc he ?_))
  refine br_t (nI_le (a := 3) (b := 3) (by omega) (by decide)) (nm_r (nI_1 n) ?_)
  rw [nI_pred]
  exact h
theorem bS_w {n c e : Nat} (hS : bS n lo hi co ex) (hc : c < 32768) (he : e < 32768) : bS (n + 1) (wr3 lo (3 * n) (nI (pt c 0)) (nI (pt c 1)) (nI (pt c 2))) (wr3 hi (3 * n) (nI (pt c 0 + pt e 0)) (nI (pt c 1 + pt e 1)) (nI (pt c 2 + pt e 2))) (upd co n (nI c)) (upd ex n (nI e)) := by
  intro b hb
  by_cases hbn : b = n
  · subst hbn
    refine ⟨c, e, hc, he, pk_us, pk_us, fun a ha => ⟨?_, ?_⟩⟩
    · exact wr3_a (g := fun a => nI (pt c a)) a ha
    · exact wr3_a (g := fun a => nI (pt c a + pt e a)) a ha
  · obtain ⟨c', e', h1, h2, h3, h4, h5⟩ := hS b (by omega)
    refine ⟨c', e', h1, h2, by rw [pk_un hbn]; exact h3, by rw [pk_un hbn]; exact h4, fun a ha => ?_⟩
    rw [wr3_n (Or.inl (by omega)), wr3_n (Or.inl (by omega))]
    exact h5 a ha
theorem ya_t {c e n : Nat} (hn : n < 14) (hc : c < 32768) (he : e < 32768) {post : Int32 → SY → Prop} (h : post (nI n) (nI (n + 1), g_inTop, g_inBottom, g_outTop, g_outBottom, upd b_corners n (nI c), upd b_extents n (nI e), b_from, b_along, b_tops, b_bottoms)) : wpY_add post (nI n, g_inTop, g_inBottom, g_outTop, g_outBottom, b_corners, b_extents, b_from, b_along, b_tops, b_bottoms) (nI c) (nI e) := by
  have v : vp_in (nI n) 14 := vp_in_nI hn (by omega)
  have e1 : upd b_corners (nI n).toNatClampNeg (nI c) = upd b_corners n (nI c) := by rw [nI_clamp (by omega)]
  have e2 : upd b_extents (nI n).toNatClampNeg (nI e) = upd b_extents n (nI e) := by rw [nI_clamp (by omega)]
  unfold wpY_add
  exact yT_t hc (br_t rfl (yT_t he (br_t rfl (br_t (nI_le (b := 13) (by omega) (by decide)) ⟨v, nm_r e1 ⟨v, nm_r e2 (nm_r (nI_1 n) h)⟩⟩))))
theorem ya_3 {c e : Nat} (hc : c < 32768) (he : e < 32768) {post : Int32 → SY → Prop} (h : post (-3) (nI 14, g_inTop, g_inBottom, g_outTop, g_outBottom, b_corners, b_extents, b_from, b_along, b_tops, b_bottoms)) : wpY_add post (nI 14, g_inTop, g_inBottom, g_outTop, g_outBottom, b_corners, b_extents, b_from, b_along, b_tops, b_bottoms) (nI c) (nI e) := by
  unfold wpY_add
  exact yT_t hc (br_t rfl (yT_t he (br_t rfl (br_f (by decide) h))))
theorem ya_1 {p0 p1 : Int32} (h0 : ¬ isT p0) {post : Int32 → SY → Prop} (h : post (-1) (g_count, g_inTop, g_inBottom, g_outTop, g_outBottom, b_corners, b_extents, b_from, b_along, b_tops, b_bottoms)) : wpY_add post (g_count, g_inTop, g_inBottom, g_outTop, g_outBottom, b_corners, b_extents, b_from, b_along, b_tops, b_bottoms) p0 p1 := by
  unfold wpY_add
  exact yT_f h0 (br_f n10 h)
theorem ya_2 {c : Nat} {p1 : Int32} (hc : c < 32768) (h0 : ¬ isT p1) {post : Int32 → SY → Prop} (h : post (-2) (g_count, g_inTop, g_inBottom, g_outTop, g_outBottom, b_corners, b_extents, b_from, b_along, b_tops, b_bottoms)) : wpY_add post (g_count, g_inTop, g_inBottom, g_outTop, g_outBottom, b_corners, b_extents, b_from, b_along, b_tops, b_bottoms) (nI c) p1 := by
  unfold wpY_add
  exact yT_t hc (br_t rfl (yT_f h0 (br_f n10 h)))
theorem xa_1 {p0 p1 : Int32} (h0 : ¬ isT p0) {post : Int32 → SX → Prop} (h : post (-1) (f_count, f_nodes, f_built, f_enterTop, f_enterBottom, f_leaveTop, f_leaveBottom, f_hitCount, a_low, a_high, a_nodeLow, a_nodeHigh, a_begins, a_ends, a_lefts, a_order, a_sorted, a_bestOrder, a_suffix, a_boundLow, a_boundHigh, a_from, a_way, a_stack, a_listed, a_listTop, a_listBottom)) : wpX_add post (f_count, f_nodes, f_built, f_enterTop, f_enterBottom, f_leaveTop, f_leaveBottom, f_hitCount, a_low, a_high, a_nodeLow, a_nodeHigh, a_begins, a_ends, a_lefts, a_order, a_sorted, a_bestOrder, a_suffix, a_boundLow, a_boundHigh, a_from, a_way, a_stack, a_listed, a_listTop, a_listBottom) p0 p1 := by
  unfold wpX_add
  exact xT_f h0 (br_t rfl h)
theorem xa_2 {c : Nat} {p1 : Int32} (hc : c < 32768) (h0 : ¬ isT p1) {post : Int32 → SX → Prop} (h : post (-2) (f_count, f_nodes, f_built, f_enterTop, f_enterBottom, f_leaveTop, f_leaveBottom, f_hitCount, a_low, a_high, a_nodeLow, a_nodeHigh, a_begins, a_ends, a_lefts, a_order, a_sorted, a_bestOrder, a_suffix, a_boundLow, a_boundHigh, a_from, a_way, a_stack, a_listed, a_listTop, a_listBottom)) : wpX_add post (f_count, f_nodes, f_built, f_enterTop, f_enterBottom, f_leaveTop, f_leaveBottom, f_hitCount, a_low, a_high, a_nodeLow, a_nodeHigh, a_begins, a_ends, a_lefts, a_order, a_sorted, a_bestOrder, a_suffix, a_boundLow, a_boundHigh, a_from, a_way, a_stack, a_listed, a_listTop, a_listBottom) (nI c) p1 := by
  unfold wpX_add
  exact xT_t hc (br_f n10 (xT_f h0 (br_t rfl h)))
theorem xa_3 {c e : Nat} (hc : c < 32768) (he : e < 32768) {post : Int32 → SX → Prop} (h : post (-3) (nI 14, f_nodes, f_built, f_enterTop, f_enterBottom, f_leaveTop, f_leaveBottom, f_hitCount, a_low, a_high, a_nodeLow, a_nodeHigh, a_begins, a_ends, a_lefts, a_order, a_sorted, a_bestOrder, a_suffix, a_boundLow, a_boundHigh, a_from, a_way, a_stack, a_listed, a_listTop, a_listBottom)) : wpX_add post (nI 14, f_nodes, f_built, f_enterTop, f_enterBottom, f_leaveTop, f_leaveBottom, f_hitCount, a_low, a_high, a_nodeLow, a_nodeHigh, a_begins, a_ends, a_lefts, a_order, a_sorted, a_bestOrder, a_suffix, a_boundLow, a_boundHigh, a_from, a_way, a_stack, a_listed, a_listTop, a_listBottom) (nI c) (nI e) := by
  unfold wpX_add
  exact xT_t hc (br_f n10 (xT_t he (br_f n10 (br_t (by decide) h))))
theorem xa_t {c e n : Nat} (hn : n < 14) (hc : c < 32768) (he : e < 32768) {post : Int32 → SX → Prop} (h : post (nI n) (nI (n + 1), f_nodes, 0, f_enterTop, f_enterBottom, f_leaveTop, f_leaveBottom, f_hitCount, wr3 a_low (3 * n) (nI (pt c 0)) (nI (pt c 1)) (nI (pt c 2)), wr3 a_high (3 * n) (nI (pt c 0 + pt e 0)) (nI (pt c 1 + pt e 1)) (nI (pt c 2 + pt e 2)), a_nodeLow, a_nodeHigh, a_begins, a_ends, a_lefts, a_order, a_sorted, a_bestOrder, a_suffix, a_boundLow, a_boundHigh, a_from, a_way, a_stack, a_listed, a_listTop, a_listBottom)) : wpX_add post (nI n, f_nodes, f_built, f_enterTop, f_enterBottom, f_leaveTop, f_leaveBottom, f_hitCount, a_low, a_high, a_nodeLow, a_nodeHigh, a_begins, a_ends, a_lefts, a_order, a_sorted, a_bestOrder, a_suffix, a_boundLow, a_boundHigh, a_from, a_way, a_stack, a_listed, a_listTop, a_listBottom) (nI c) (nI e) := by
  unfold wpX_add
  exact xT_t hc (br_f n10 (xT_t he (br_f n10 (br_f (fun z => by have := qn_inj (b := 14) z (by omega) (by omega); omega) ⟨4, xa_33 hn hc he h⟩))))
theorem i_vc_add {k : Nat} {u : SX} {v : SY} (I : i_Rel k u v) (hk : k + 4 ≤ 2048) (v1 : Int32) (v2 : Int32) : wpX_add (fun r u' => wpY_add (fun r' v' => r' = r ∧ i_Rel (k + 4) u' v') v v1 v2) u v1 v2 := by
  have I' := i_up I
  obtain ⟨n, lo, hi, co, ex, fr, wy, hn, hS, hr, hX, hY⟩ := I
  obtain ⟨f_count, f_nodes, f_built, f_enterTop, f_enterBottom, f_leaveTop, f_leaveBottom, f_hitCount, a_low, a_high, a_nodeLow, a_nodeHigh, a_begins, a_ends, a_lefts, a_order, a_sorted, a_bestOrder, a_suffix, a_boundLow, a_boundHigh, a_from, a_way, a_stack, a_listed, a_listTop, a_listBottom⟩ := u
  obtain ⟨g_count, g_inTop, g_inBottom, g_outTop, g_outBottom, b_corners, b_extents, b_from, b_along, b_tops, b_bottoms⟩ := v
  obtain ⟨x1, x2, x3, x4, x5, x6⟩ := hX
  obtain ⟨y1, y2, y3, y4, y5⟩ := hY
  by_cases h1 : isT v1
  · obtain ⟨c, hc, rfl⟩ := h1
    by_cases h2 : isT v2
    · obtain ⟨e, he, rfl⟩ := h2
      subst x1 y1 x2 x3 y2 y3
      by_cases h14 : n = 14
      · subst h14
        exact xa_3 hc he (ya_3 hc he ⟨rfl, I'⟩)
      · exact xa_t (by omega) hc he (ya_t (by omega) hc he ⟨rfl, n + 1, _, _, _, _, fr, wy, by omega, bS_w hS hc he, hr, ⟨rfl, rfl, rfl, x4, x5, Or.inl rfl⟩, ⟨rfl, rfl, rfl, y4, y5⟩⟩)
    · exact xa_2 hc h2 (ya_2 hc h2 ⟨rfl, I'⟩)
  · exact xa_1 h1 (ya_1 h1 ⟨rfl, I'⟩)
end MU
end
section
section MV
variable {f_count f_nodes f_built f_enterTop f_enterBottom f_leaveTop f_leaveBottom f_hitCount : Int32} {a_low a_high a_nodeLow a_nodeHigh a_begins a_ends a_lefts a_order a_sorted a_bestOrder a_suffix a_boundLow a_boundHigh a_from a_way a_stack a_listed a_listTop a_listBottom : Nat → Int32}
variable {g_count g_inTop g_inBottom g_outTop g_outBottom : Int32} {b_corners b_extents b_from b_along b_tops b_bottoms : Nat → Int32}
variable {lo hi co ex fr wy : Nat → Int32}
/-! move -/
theorem xm_s {b a m x p q c : Nat} (ha : a < 3) (hb : b < 14) (hc : c < 32768) (hl : a_low (3 * b + a) = nI p) (hh : a_high (3 * b + a) = nI (p + q)) {post : Int32 → SX → Prop} (h : wX_move_25 post (nI b) (nI c) f_count f_nodes f_built f_enterTop f_enterBottom f_leaveTop f_leaveBottom f_hitCount m (nI (32 * x + p)) (nI (a + 1)) (upd a_low (3 * b + a) (nI (pt c a))) (upd a_high (3 * b + a) (nI (pt c a + q))) a_nodeLow a_nodeHigh a_begins a_ends a_lefts a_order a_sorted a_bestOrder a_suffix a_boundLow a_boundHigh a_from a_way a_stack a_listed a_listTop a_listBottom) : wX_move_25 post (nI b) (nI c) f_count f_nodes f_built f_enterTop f_enterBottom f_leaveTop f_leaveBottom f_hitCount (m + 1) (nI x) (nI a) a_low a_high a_nodeLow a_nodeHigh a_begins a_ends a_lefts a_order a_sorted a_bestOrder a_suffix a_boundLow a_boundHigh a_from a_way a_stack a_listed a_listTop a_listBottom := by
  have v : vp_in (3 * nI b + nI a) 42 := qn_i3 ha hb (by omega)
  have e0 : (3 * nI b + nI a).toNatClampNeg = 3 * b + a := qn_c3 ha (by omega)
  have e3 : 32 * nI x + a_low (3 * nI b + nI a).toNatClampNeg = nI (32 * x + p) := by
    rw [e0, hl, show (32 : Int32) * nI x = nI (32 * x) from pk_mul 32 x, nI_add]
  have e1 : upd a_low (3 * nI b + nI a).toNatClampNeg (a_low (3 * nI b + nI a).toNatClampNeg + (nI (pt c a) - a_low (3 * nI b + nI a).toNatClampNeg)) = upd a_low (3 * b + a) (nI (pt c a)) := by
    rw [e0, hl, Int32.add_comm, Int32.sub_add_cancel]
  have e2 : upd a_high (3 * nI b + nI a).toNatClampNeg (a_high (3 * nI b + nI a).toNatClampNeg + (nI (pt c a) - a_low (3 * nI b + nI a).toNatClampNeg)) = upd a_high (3 * b + a) (nI (pt c a + q)) := by
    rw [e0, hl, hh, ← nI_add, ← nI_add]
    exact congrArg _ (by grind)
  exact br_f (nI_ge (b := 3) ha (by decide)) (xp hc ha ⟨v, nm_e ⟨v, nm_r e3 ⟨v, v, nm_r e1 ⟨v, v, nm_r e2 (nm_r (nI_1 a) h)⟩⟩⟩⟩)
theorem xm_25 {b c c' e : Nat} (hb : b < 14) (hc : c < 32768) (hc' : c' < 32768) (hl : ∀ a, a < 3 → a_low (3 * b + a) = nI (pt c a) ∧ a_high (3 * b + a) = nI (pt c a + pt e a)) {post : Int32 → SX → Prop} (h : post (nI c) (f_count, f_nodes, 0, f_enterTop, f_enterBottom, f_leaveTop, f_leaveBottom, f_hitCount, wr3 a_low (3 * b) (nI (pt c' 0)) (nI (pt c' 1)) (nI (pt c' 2)), wr3 a_high (3 * b) (nI (pt c' 0 + pt e 0)) (nI (pt c' 1 + pt e 1)) (nI (pt c' 2 + pt e 2)), a_nodeLow, a_nodeHigh, a_begins, a_ends, a_lefts, a_order, a_sorted, a_bestOrder, a_suffix, a_boundLow, a_boundHigh, a_from, a_way, a_stack, a_listed, a_listTop, a_listBottom)) : wX_move_25 post (nI b) (nI c') f_count f_nodes f_built f_enterTop f_enterBottom f_leaveTop f_leaveBottom f_hitCount 4 (nI 0) (nI 0) a_low a_high a_nodeLow a_nodeHigh a_begins a_ends a_lefts a_order a_sorted a_bestOrder a_suffix a_boundLow a_boundHigh a_from a_way a_stack a_listed a_listTop a_listBottom := by
  refine xm_s (by omega) hb hc' (hl 0 (by omega)).1 (hl 0 (by omega)).2 ?_
  refine xm_s (p := pt c 1) (q := pt e 1) (by omega) hb hc' (by rw [pk_un (by omega)]; exact (hl 1 (by omega)).1) (by rw [pk_un (by omega)]; exact (hl 1 (by omega)).2) ?_
  refine xm_s (p := pt c 2) (q := pt e 2) (by omega) hb hc' (by rw [pk_un (by omega), pk_un (by omega)]; exact (hl 2 (by omega)).1) (by rw [pk_un (by omega), pk_un (by omega)]; exact (hl 2 (by omega)).2) ?_
  refine br_t (nI_le (a := 3) (b := 3) (by omega) (by decide)) ?_
  have ec : 32 * (32 * (32 * 0 + pt c 0) + pt c 1) + pt c 2 = c := by
    show 32 * (32 * (32 * 0 + c / 1024) + c / 32 % 32) + c % 32 = c
    omega
  rw [ec]
  exact h
theorem bS_m {n b c : Nat} (hS : bS n lo hi co ex) (hc : c < 32768) {e : Nat} (he : e < 32768) (hee : ex b = nI e) : bS n (wr3 lo (3 * b) (nI (pt c 0)) (nI (pt c 1)) (nI (pt c 2))) (wr3 hi (3 * b) (nI (pt c 0 + pt e 0)) (nI (pt c 1 + pt e 1)) (nI (pt c 2 + pt e 2))) (upd co b (nI c)) ex := by
  intro x hx
  by_cases hbn : x = b
  · subst hbn
    refine ⟨c, e, hc, he, pk_us, hee, fun a ha => ⟨?_, ?_⟩⟩
    · exact wr3_a (g := fun a => nI (pt c a)) a ha
    · exact wr3_a (g := fun a => nI (pt c a + pt e a)) a ha
  · obtain ⟨c', e', h1, h2, h3, h4, h5⟩ := hS x hx
    refine ⟨c', e', h1, h2, by rw [pk_un hbn]; exact h3, h4, fun a ha => ?_⟩
    rw [wr3_n (by omega), wr3_n (by omega)]
    exact h5 a ha
theorem xm_1 {n : Nat} {p0 p1 : Int32} (hn : n ≤ 14) (h0 : ¬ isB n p0) {post : Int32 → SX → Prop} (h : post (-1) (nI n, f_nodes, f_built, f_enterTop, f_enterBottom, f_leaveTop, f_leaveBottom, f_hitCount, a_low, a_high, a_nodeLow, a_nodeHigh, a_begins, a_ends, a_lefts, a_order, a_sorted, a_bestOrder, a_suffix, a_boundLow, a_boundHigh, a_from, a_way, a_stack, a_listed, a_listTop, a_listBottom)) : wpX_move post (nI n, f_nodes, f_built, f_enterTop, f_enterBottom, f_leaveTop, f_leaveBottom, f_hitCount, a_low, a_high, a_nodeLow, a_nodeHigh, a_begins, a_ends, a_lefts, a_order, a_sorted, a_bestOrder, a_suffix, a_boundLow, a_boundHigh, a_from, a_way, a_stack, a_listed, a_listTop, a_listBottom) p0 p1 := by
  unfold wpX_move
  exact xB_f h0 hn (br_t rfl h)
theorem xm_2 {n b : Nat} {p1 : Int32} (hn : n ≤ 14) (hb : b < n) (h0 : ¬ isT p1) {post : Int32 → SX → Prop} (h : post (-2) (nI n, f_nodes, f_built, f_enterTop, f_enterBottom, f_leaveTop, f_leaveBottom, f_hitCount, a_low, a_high, a_nodeLow, a_nodeHigh, a_begins, a_ends, a_lefts, a_order, a_sorted, a_bestOrder, a_suffix, a_boundLow, a_boundHigh, a_from, a_way, a_stack, a_listed, a_listTop, a_listBottom)) : wpX_move post (nI n, f_nodes, f_built, f_enterTop, f_enterBottom, f_leaveTop, f_leaveBottom, f_hitCount, a_low, a_high, a_nodeLow, a_nodeHigh, a_begins, a_ends, a_lefts, a_order, a_sorted, a_bestOrder, a_suffix, a_boundLow, a_boundHigh, a_from, a_way, a_stack, a_listed, a_listTop, a_listBottom) (nI b) p1 := by
  unfold wpX_move
  exact xB_t hb hn (br_f n10 (xT_f h0 (br_t rfl h)))
theorem xm_t {n b c c' e : Nat} (hn : n ≤ 14) (hb : b < n) (hc : c < 32768) (hc' : c' < 32768) (hl : ∀ a, a < 3 → a_low (3 * b + a) = nI (pt c a) ∧ a_high (3 * b + a) = nI (pt c a + pt e a)) {post : Int32 → SX → Prop} (h : post (nI c) (nI n, f_nodes, 0, f_enterTop, f_enterBottom, f_leaveTop, f_leaveBottom, f_hitCount, wr3 a_low (3 * b) (nI (pt c' 0)) (nI (pt c' 1)) (nI (pt c' 2)), wr3 a_high (3 * b) (nI (pt c' 0 + pt e 0)) (nI (pt c' 1 + pt e 1)) (nI (pt c' 2 + pt e 2)), a_nodeLow, a_nodeHigh, a_begins, a_ends, a_lefts, a_order, a_sorted, a_bestOrder, a_suffix, a_boundLow, a_boundHigh, a_from, a_way, a_stack, a_listed, a_listTop, a_listBottom)) : wpX_move post (nI n, f_nodes, f_built, f_enterTop, f_enterBottom, f_leaveTop, f_leaveBottom, f_hitCount, a_low, a_high, a_nodeLow, a_nodeHigh, a_begins, a_ends, a_lefts, a_order, a_sorted, a_bestOrder, a_suffix, a_boundLow, a_boundHigh, a_from, a_way, a_stack, a_listed, a_listTop, a_listBottom) (nI b) (nI c') := by
  unfold wpX_move
  exact xB_t hb hn (br_f n10 (xT_t hc' (br_f n10 ⟨4, xm_25 (by omega) hc hc' hl h⟩)))
theorem ym_1 {n : Nat} {p0 p1 : Int32} (hn : n ≤ 14) (h0 : ¬ isB n p0) {post : Int32 → SY → Prop} (h : post (-1) (nI n, g_inTop, g_inBottom, g_outTop, g_outBottom, b_corners, b_extents, b_from, b_along, b_tops, b_bottoms)) : wpY_move post (nI n, g_inTop, g_inBottom, g_outTop, g_outBottom, b_corners, b_extents, b_from, b_along, b_tops, b_bottoms) p0 p1 := by
  unfold wpY_move
  exact yB_f h0 hn (br_f n10 h)
theorem ym_2 {n b : Nat} {p1 : Int32} (hn : n ≤ 14) (hb : b < n) (h0 : ¬ isT p1) {post : Int32 → SY → Prop} (h : post (-2) (nI n, g_inTop, g_inBottom, g_outTop, g_outBottom, b_corners, b_extents, b_from, b_along, b_tops, b_bottoms)) : wpY_move post (nI n, g_inTop, g_inBottom, g_outTop, g_outBottom, b_corners, b_extents, b_from, b_along, b_tops, b_bottoms) (nI b) p1 := by
  unfold wpY_move
  exact yB_t hb hn (br_t rfl (yT_f h0 (br_f n10 h)))
theorem ym_t {n b c c' : Nat} (hn : n ≤ 14) (hb : b < n) (hc' : c' < 32768) (h3 : b_corners b = nI c) {post : Int32 → SY → Prop} (h : post (nI c) (nI n, g_inTop, g_inBottom, g_outTop, g_outBottom, upd b_corners b (nI c'), b_extents, b_from, b_along, b_tops, b_bottoms)) : wpY_move post (nI n, g_inTop, g_inBottom, g_outTop, g_outBottom, b_corners, b_extents, b_from, b_along, b_tops, b_bottoms) (nI b) (nI c') := by
  have v : vp_in (nI b) 14 := vp_in_nI (by omega) (by omega)
  have e1 : b_corners (nI b).toNatClampNeg = nI c := by rw [nI_clamp (by omega)]; exact h3
  have e2 : upd b_corners (nI b).toNatClampNeg (nI c') = upd b_corners b (nI c') := by rw [nI_clamp (by omega)]
  unfold wpY_move
  exact yB_t hb hn (br_t rfl (yT_t hc' (br_t rfl ⟨v, nm_r e1 ⟨v, nm_r e2 h⟩⟩)))
theorem i_vc_move {k : Nat} {u : SX} {v : SY} (I : i_Rel k u v) (hk : k + 4 ≤ 2048) (v1 : Int32) (v2 : Int32) : wpX_move (fun r u' => wpY_move (fun r' v' => r' = r ∧ i_Rel (k + 4) u' v') v v1 v2) u v1 v2 := by
  have I' := i_up I
  obtain ⟨n, lo, hi, co, ex, fr, wy, hn, hS, hr, hX, hY⟩ := I
  obtain ⟨f_count, f_nodes, f_built, f_enterTop, f_enterBottom, f_leaveTop, f_leaveBottom, f_hitCount, a_low, a_high, a_nodeLow, a_nodeHigh, a_begins, a_ends, a_lefts, a_order, a_sorted, a_bestOrder, a_suffix, a_boundLow, a_boundHigh, a_from, a_way, a_stack, a_listed, a_listTop, a_listBottom⟩ := u
  obtain ⟨g_count, g_inTop, g_inBottom, g_outTop, g_outBottom, b_corners, b_extents, b_from, b_along, b_tops, b_bottoms⟩ := v
  obtain ⟨x1, x2, x3, x4, x5, x6⟩ := hX
  obtain ⟨y1, y2, y3, y4, y5⟩ := hY
  subst x1 y1
  by_cases h1 : isB n v1
  · obtain ⟨b, hb, rfl⟩ := h1
    by_cases h2 : isT v2
    · obtain ⟨c', hc', rfl⟩ := h2
      subst x2 x3 y2 y3
      obtain ⟨c, e, hc, he, h3, h4, h5⟩ := hS b hb
      exact xm_t hn hb hc hc' h5 (ym_t hn hb hc' h3 ⟨rfl, n, _, _, _, _, fr, wy, hn, bS_m hS hc' he h4, hr, ⟨rfl, rfl, rfl, x4, x5, Or.inl rfl⟩, ⟨rfl, rfl, rfl, y4, y5⟩⟩)
    · exact xm_2 hn hb h2 (ym_2 hn hb h2 ⟨rfl, I'⟩)
  · exact xm_1 hn h1 (ym_1 hn h1 ⟨rfl, I'⟩)
/-! remove -/
def shw (f : Nat → Int32) (w s t : Nat) : Nat → Int32 := fun i => if s ≤ i ∧ i < t then f (i + w) else f i
theorem shw_0 {f : Nat → Int32} {w s : Nat} : shw f w s s = f := by
  funext i
  exact if_neg (by omega)
theorem shw_s {f : Nat → Int32} {w s t : Nat} (hs : s ≤ t) : upd (shw f w s t) t (shw f w s t (t + w)) = shw f w s (t + 1) := by
  funext i
  by_cases h : i = t
  · subst h
    rw [pk_us]
    show (if s ≤ i + w ∧ i + w < i then f (i + w + w) else f (i + w)) = if s ≤ i ∧ i < i + 1 then f (i + w) else f i
    rw [if_neg (by omega), if_pos (by omega)]
  · rw [pk_un h]
    show (if s ≤ i ∧ i < t then f (i + w) else f i) = if s ≤ i ∧ i < t + 1 then f (i + w) else f i
    by_cases h2 : s ≤ i ∧ i < t
    · rw [if_pos h2, if_pos (by omega)]
    · rw [if_neg h2, if_neg (by omega)]
theorem xv_16 {n b : Nat} (hn : n ≤ 14) {post : Int32 → SX → Prop} (h : post (nI (n - 1)) (nI (n - 1), f_nodes, 0, f_enterTop, f_enterBottom, f_leaveTop, f_leaveBottom, f_hitCount, shw a_low 3 (3 * b) (3 * n - 3), shw a_high 3 (3 * b) (3 * n - 3), a_nodeLow, a_nodeHigh, a_begins, a_ends, a_lefts, a_order, a_sorted, a_bestOrder, a_suffix, a_boundLow, a_boundHigh, a_from, a_way, a_stack, a_listed, a_listTop, a_listBottom)) : ∀ d j : Nat, j + d = 3 * n → 3 * b + 3 ≤ j → wX_remove_16 post (nI n) f_nodes f_built f_enterTop f_enterBottom f_leaveTop f_leaveBottom f_hitCount (d + 1) (nI j) (shw a_low 3 (3 * b) (j - 3)) (shw a_high 3 (3 * b) (j - 3)) a_nodeLow a_nodeHigh a_begins a_ends a_lefts a_order a_sorted a_bestOrder a_suffix a_boundLow a_boundHigh a_from a_way a_stack a_listed a_listTop a_listBottom := by
  have e3 : 3 * nI n = nI (3 * n) := pk_mul 3 n
  intro d
  induction d with
  | zero =>
    intro j hj hb
    have ej : j = 3 * n := by omega
    subst ej
    have c : 3 * nI n ≤ nI (3 * n) := by rw [e3]; exact nI_le (Nat.le_refl _) (by omega)
    exact br_t c (nm_r (qn_s (by omega)) h)
  | succ d ih =>
    intro j hj hb
    have c : ¬ 3 * nI n ≤ nI j := by rw [e3]; exact nI_ge (by omega) (by omega)
    have es : nI j - 3 = nI (j - 3) := pk_sub (b := 3) (by omega)
    have v1 : vp_in (nI j) 42 := vp_in_nI (by omega) (by omega)
    have v2 : vp_in (nI j - 3) 42 := by rw [es]; exact vp_in_nI (by omega) (by omega)
    have eg : ∀ f : Nat → Int32, upd (shw f 3 (3 * b) (j - 3)) (nI j - 3).toNatClampNeg (shw f 3 (3 * b) (j - 3) (nI j).toNatClampNeg) = shw f 3 (3 * b) (j + 1 - 3) := by
      intro f
      rw [es, nI_clamp (by omega), nI_clamp (by omega)]
      have h1 := shw_s (f := f) (w := 3) (s := 3 * b) (t := j - 3) (by omega)
      rw [show j - 3 + 3 = j from by omega] at h1
      rw [h1, show j - 3 + 1 = j + 1 - 3 from by omega]
    exact br_f c ⟨v1, v2, nm_r (eg a_low) ⟨v1, v2, nm_r (eg a_high) (nm_r (nI_1 j) (ih (j + 1) (by omega) (by omega)))⟩⟩
theorem yv_12 {n b : Nat} (hn : n ≤ 14) {post : Int32 → SY → Prop} (h : post (nI (n - 1)) (nI (n - 1), g_inTop, g_inBottom, g_outTop, g_outBottom, shw b_corners 1 b (n - 1), shw b_extents 1 b (n - 1), b_from, b_along, b_tops, b_bottoms)) : ∀ d j : Nat, j + 1 + d = n → b ≤ j → wY_remove_12 post (nI n) g_inTop g_inBottom g_outTop g_outBottom (d + 1) (nI j) (shw b_corners 1 b j) (shw b_extents 1 b j) b_from b_along b_tops b_bottoms := by
  intro d
  induction d with
  | zero =>
    intro j hj hb
    have ej : j = n - 1 := by omega
    subst ej
    have c : nI n - 1 ≤ nI (n - 1) := by rw [qn_s (by omega)]; exact nI_le (Nat.le_refl _) (by omega)
    exact br_t c (nm_r (qn_s (by omega)) h)
  | succ d ih =>
    intro j hj hb
    have c : ¬ nI n - 1 ≤ nI j := by rw [qn_s (by omega)]; exact nI_ge (by omega) (by omega)
    have v1 : vp_in (nI j + 1) 14 := by rw [nI_1]; exact vp_in_nI (by omega) (by omega)
    have v2 : vp_in (nI j) 14 := vp_in_nI (by omega) (by omega)
    have eg : ∀ f : Nat → Int32, upd (shw f 1 b j) (nI j).toNatClampNeg (shw f 1 b j (nI j + 1).toNatClampNeg) = shw f 1 b (j + 1) := by
      intro f
      rw [nI_1, nI_clamp (by omega), nI_clamp (by omega)]
      exact shw_s hb
    exact br_f c (br_f (nI_ge (b := 13) (by omega) (by decide)) ⟨v1, v2, nm_r (eg b_corners) ⟨v1, v2, nm_r (eg b_extents) (nm_r (nI_1 j) (ih (j + 1) (by omega) (by omega)))⟩⟩)
theorem bS_v {n b : Nat} (hS : bS n lo hi co ex) (hb : b < n) : bS (n - 1) (shw lo 3 (3 * b) (3 * n - 3)) (shw hi 3 (3 * b) (3 * n - 3)) (shw co 1 b (n - 1)) (shw ex 1 b (n - 1)) := by
  intro x hx
  by_cases hbx : x < b
  · obtain ⟨c', e', h1, h2, h3, h4, h5⟩ := hS x (by omega)
    refine ⟨c', e', h1, h2, (if_neg (by omega)).trans h3, (if_neg (by omega)).trans h4, fun a ha => ⟨(if_neg (by omega)).trans (h5 a ha).1, (if_neg (by omega)).trans (h5 a ha).2⟩⟩
  · obtain ⟨c', e', h1, h2, h3, h4, h5⟩ := hS (x + 1) (by omega)
    have e3 : ∀ a, 3 * (x + 1) + a = 3 * x + a + 3 := fun a => by omega
    refine ⟨c', e', h1, h2, (if_pos (by omega)).trans h3, (if_pos (by omega)).trans h4, fun a ha => ⟨(if_pos (by omega)).trans ?_, (if_pos (by omega)).trans ?_⟩⟩
    · rw [← e3]; exact (h5 a ha).1
    · rw [← e3]; exact (h5 a ha).2
theorem xv_1 {n : Nat} {p0 : Int32} (hn : n ≤ 14) (h0 : ¬ isB n p0) {post : Int32 → SX → Prop} (h : post (-1) (nI n, f_nodes, f_built, f_enterTop, f_enterBottom, f_leaveTop, f_leaveBottom, f_hitCount, a_low, a_high, a_nodeLow, a_nodeHigh, a_begins, a_ends, a_lefts, a_order, a_sorted, a_bestOrder, a_suffix, a_boundLow, a_boundHigh, a_from, a_way, a_stack, a_listed, a_listTop, a_listBottom)) : wpX_remove post (nI n, f_nodes, f_built, f_enterTop, f_enterBottom, f_leaveTop, f_leaveBottom, f_hitCount, a_low, a_high, a_nodeLow, a_nodeHigh, a_begins, a_ends, a_lefts, a_order, a_sorted, a_bestOrder, a_suffix, a_boundLow, a_boundHigh, a_from, a_way, a_stack, a_listed, a_listTop, a_listBottom) p0 := by
  unfold wpX_remove
  exact xB_f h0 hn (br_t rfl h)
theorem xv_t {n b : Nat} (hn : n ≤ 14) (hb : b < n) {post : Int32 → SX → Prop} (h : post (nI (n - 1)) (nI (n - 1), f_nodes, 0, f_enterTop, f_enterBottom, f_leaveTop, f_leaveBottom, f_hitCount, shw a_low 3 (3 * b) (3 * n - 3), shw a_high 3 (3 * b) (3 * n - 3), a_nodeLow, a_nodeHigh, a_begins, a_ends, a_lefts, a_order, a_sorted, a_bestOrder, a_suffix, a_boundLow, a_boundHigh, a_from, a_way, a_stack, a_listed, a_listTop, a_listBottom)) : wpX_remove post (nI n, f_nodes, f_built, f_enterTop, f_enterBottom, f_leaveTop, f_leaveBottom, f_hitCount, a_low, a_high, a_nodeLow, a_nodeHigh, a_begins, a_ends, a_lefts, a_order, a_sorted, a_bestOrder, a_suffix, a_boundLow, a_boundHigh, a_from, a_way, a_stack, a_listed, a_listTop, a_listBottom) (nI b) := by
  have e3 : 3 * nI b + 3 = nI (3 * b + 3) := qn_3 b 3
  have K := xv_16 (f_built := f_built) hn h (3 * n - (3 * b + 3)) (3 * b + 3) (by omega) (by omega)
  rw [show 3 * b + 3 - 3 = 3 * b from by omega, shw_0, shw_0] at K
  unfold wpX_remove
  exact xB_t hb hn (br_f n10 (nm_r e3 ⟨_, K⟩))
theorem yv_1 {n : Nat} {p0 : Int32} (hn : n ≤ 14) (h0 : ¬ isB n p0) {post : Int32 → SY → Prop} (h : post (-1) (nI n, g_inTop, g_inBottom, g_outTop, g_outBottom, b_corners, b_extents, b_from, b_along, b_tops, b_bottoms)) : wpY_remove post (nI n, g_inTop, g_inBottom, g_outTop, g_outBottom, b_corners, b_extents, b_from, b_along, b_tops, b_bottoms) p0 := by
  unfold wpY_remove
  exact yB_f h0 hn (br_f n10 h)
theorem yv_t {n b : Nat} (hn : n ≤ 14) (hb : b < n) {post : Int32 → SY → Prop} (h : post (nI (n - 1)) (nI (n - 1), g_inTop, g_inBottom, g_outTop, g_outBottom, shw b_corners 1 b (n - 1), shw b_extents 1 b (n - 1), b_from, b_along, b_tops, b_bottoms)) : wpY_remove post (nI n, g_inTop, g_inBottom, g_outTop, g_outBottom, b_corners, b_extents, b_from, b_along, b_tops, b_bottoms) (nI b) := by
  have K := yv_12 hn h (n - (b + 1)) b (by omega) (by omega)
  rw [shw_0, shw_0] at K
  unfold wpY_remove
  exact yB_t hb hn (br_t rfl ⟨_, K⟩)
theorem i_vc_remove {k : Nat} {u : SX} {v : SY} (I : i_Rel k u v) (hk : k + 4 ≤ 2048) (v1 : Int32) : wpX_remove (fun r u' => wpY_remove (fun r' v' => r' = r ∧ i_Rel (k + 4) u' v') v v1) u v1 := by
  have I' := i_up I
  obtain ⟨n, lo, hi, co, ex, fr, wy, hn, hS, hr, hX, hY⟩ := I
  obtain ⟨f_count, f_nodes, f_built, f_enterTop, f_enterBottom, f_leaveTop, f_leaveBottom, f_hitCount, a_low, a_high, a_nodeLow, a_nodeHigh, a_begins, a_ends, a_lefts, a_order, a_sorted, a_bestOrder, a_suffix, a_boundLow, a_boundHigh, a_from, a_way, a_stack, a_listed, a_listTop, a_listBottom⟩ := u
  obtain ⟨g_count, g_inTop, g_inBottom, g_outTop, g_outBottom, b_corners, b_extents, b_from, b_along, b_tops, b_bottoms⟩ := v
  obtain ⟨x1, x2, x3, x4, x5, x6⟩ := hX
  obtain ⟨y1, y2, y3, y4, y5⟩ := hY
  subst x1 y1
  by_cases h1 : isB n v1
  · obtain ⟨b, hb, rfl⟩ := h1
    subst x2 x3 y2 y3
    exact xv_t hn hb (yv_t hn hb ⟨rfl, n - 1, _, _, _, _, fr, wy, by omega, bS_v hS hb, hr, ⟨rfl, rfl, rfl, x4, x5, Or.inl rfl⟩, ⟨rfl, rfl, rfl, y4, y5⟩⟩)
  · exact xv_1 hn h1 (yv_1 hn h1 ⟨rfl, I'⟩)
end MV
end
section
section RO
variable {f_count f_nodes f_built f_enterTop f_enterBottom f_leaveTop f_leaveBottom f_hitCount : Int32} {a_low a_high a_nodeLow a_nodeHigh a_begins a_ends a_lefts a_order a_sorted a_bestOrder a_suffix a_boundLow a_boundHigh a_from a_way a_stack a_listed a_listTop a_listBottom : Nat → Int32}
variable {g_count g_inTop g_inBottom g_outTop g_outBottom : Int32} {b_corners b_extents b_from b_along b_tops b_bottoms : Nat → Int32}
theorem rw_x {p k : Nat} {dx : Int32} (hp : p < 32) (hk : k ≤ 13) (h1 : -31 ≤ dx.toInt) (h2 : dx.toInt ≤ 31) : (nI p + nI k * dx).toInt = p + k * dx.toInt := by
  have hk' := nI_toInt (n := k) (by omega)
  have hp' := nI_toInt (n := p) (by omega)
  have e1 := Int.mul_le_mul_of_nonneg_left h1 (show (0 : Int) ≤ (k : Int) by omega)
  have e2 := Int.mul_le_mul_of_nonneg_left h2 (show (0 : Int) ≤ (k : Int) by omega)
  have em : (nI k * dx).toInt = k * dx.toInt := by rw [qn_mul (by rw [hk']; omega) (by rw [hk']; omega), hk']
  rw [qn_add (by rw [em, hp']; omega) (by rw [em, hp']; omega), em, hp']
theorem rw_mono {p k k' : Nat} {D : Int} (hkk : k ≤ k') (hp : p < 32) (h : (p : Int) + k * D < 0 ∨ 31 < (p : Int) + k * D) : (p : Int) + k' * D < 0 ∨ 31 < (p : Int) + k' * D := by
  have hk0 : (0 : Int) ≤ (k : Int) := by omega
  have hkz : (k : Int) ≤ (k' : Int) := by omega
  rcases h with h | h
  · left
    have hD : D ≤ 0 := by
      refine Classical.byContradiction fun hn => ?_
      have := Int.mul_nonneg hk0 (show 0 ≤ D by omega)
      omega
    have := Int.mul_le_mul_of_nonpos_right hkz hD
    omega
  · right
    have hD : 0 ≤ D := by
      refine Classical.byContradiction fun hn => ?_
      have := Int.mul_le_mul_of_nonneg_left (show D ≤ 0 by omega) hk0
      rw [Int.mul_zero] at this
      omega
    have := Int.mul_le_mul_of_nonneg_right hkz hD
    omega
theorem rw_c {c k x : Nat} {dx : Int32} (hx : nI (pt c 0) + nI k * dx = nI x) : nI c + ((1024 * nI k) * dx) = nI (1024 * x + c % 1024) := by
  have ec : c = 1024 * (c / 1024) + c % 1024 := by omega
  have e1 : nI c = 1024 * nI (pt c 0) + nI (c % 1024) := by
    show nI c = nI 1024 * nI (c / 1024) + nI (c % 1024)
    rw [pk_mul, nI_add, ← ec]
  have e2 : nI (1024 * x + c % 1024) = 1024 * nI x + nI (c % 1024) := by
    show _ = nI 1024 * nI x + nI (c % 1024)
    rw [pk_mul, nI_add]
  rw [e1, e2, ← hx]
  grind
theorem pt_c {c x : Nat} : pt (1024 * x + c % 1024) 0 = x ∧ pt (1024 * x + c % 1024) 1 = pt c 1 ∧ pt (1024 * x + c % 1024) 2 = pt c 2 := by
  refine ⟨?_, ?_, ?_⟩
  · show (1024 * x + c % 1024) / 1024 = x
    omega
  · show (1024 * x + c % 1024) / 32 % 32 = c / 32 % 32
    omega
  · show (1024 * x + c % 1024) % 32 = c % 32
    omega
theorem xr_115 {b w a : Nat} {x2 x3 x4 z0 P Q : Int32} {post : Int32 → SX → Prop} {J42 : Int32 → Int32 → (Nat → Int32) → (Nat → Int32) → (Nat → Int32) → (Nat → Int32) → (Nat → Int32) → (Nat → Int32) → (Nat → Int32) → (Nat → Int32) → (Nat → Int32) → (Nat → Int32) → (Nat → Int32) → (Nat → Int32) → (Nat → Int32) → (Nat → Int32) → (Nat → Int32) → (Nat → Int32) → (Nat → Int32) → (Nat → Int32) → (Nat → Int32) → Prop} {J96 : Int32 → (Nat → Int32) → (Nat → Int32) → (Nat → Int32) → (Nat → Int32) → (Nat → Int32) → (Nat → Int32) → (Nat → Int32) → (Nat → Int32) → (Nat → Int32) → (Nat → Int32) → (Nat → Int32) → (Nat → Int32) → (Nat → Int32) → (Nat → Int32) → (Nat → Int32) → (Nat → Int32) → (Nat → Int32) → (Nat → Int32) → (Nat → Int32) → Prop} (ha : a < 3) (hb : b < 14) (hw : w < 14) (hl : a_low (3 * b + a) + z0 = P) (hh : a_high (3 * b + a) + z0 = Q) (h : J96 (nI (a + 1)) (upd a_low (3 * w + a) P) (upd a_high (3 * w + a) Q) a_nodeLow a_nodeHigh a_begins a_ends a_lefts a_order a_sorted a_bestOrder a_suffix a_boundLow a_boundHigh a_from a_way a_stack a_listed a_listTop a_listBottom) : wX_row_115 post J42 J96 (nI b) x2 x3 x4 (nI w) (nI a) z0 f_count f_nodes f_built f_enterTop f_enterBottom f_leaveTop f_leaveBottom f_hitCount a_low a_high a_nodeLow a_nodeHigh a_begins a_ends a_lefts a_order a_sorted a_bestOrder a_suffix a_boundLow a_boundHigh a_from a_way a_stack a_listed a_listTop a_listBottom := by
  have v1 : vp_in (3 * nI b + nI a) 42 := qn_i3 ha hb (by omega)
  have v2 : vp_in (3 * nI w + nI a) 42 := qn_i3 ha hw (by omega)
  have e1 : upd a_low (3 * nI w + nI a).toNatClampNeg (a_low (3 * nI b + nI a).toNatClampNeg + z0) = upd a_low (3 * w + a) P := by
    rw [qn_c3 ha (by omega), qn_c3 ha (by omega), hl]
  have e2 : upd a_high (3 * nI w + nI a).toNatClampNeg (a_high (3 * nI b + nI a).toNatClampNeg + z0) = upd a_high (3 * w + a) Q := by
    rw [qn_c3 ha (by omega), qn_c3 ha (by omega), hh]
  exact And.intro v1 ⟨v2, nm_r e1 ⟨v1, v2, nm_r e2 (nm_r (nI_1 a) h)⟩⟩
theorem xr_96 {b n c e x : Nat} {x2 x3 x4 : Int32} {post : Int32 → SX → Prop} {J42 : Int32 → Int32 → (Nat → Int32) → (Nat → Int32) → (Nat → Int32) → (Nat → Int32) → (Nat → Int32) → (Nat → Int32) → (Nat → Int32) → (Nat → Int32) → (Nat → Int32) → (Nat → Int32) → (Nat → Int32) → (Nat → Int32) → (Nat → Int32) → (Nat → Int32) → (Nat → Int32) → (Nat → Int32) → (Nat → Int32) → (Nat → Int32) → (Nat → Int32) → Prop} (hxx : nI (pt c 0) + x4 * x2 = nI x) (hl : ∀ a, a < 3 → a_low (3 * b + a) = nI (pt c a) ∧ a_high (3 * b + a) = nI (pt c a + pt e a)) (hb : b < n) (hn : n < 14) (h : J42 (x4 + 1) (nI (n + 1)) (wr3 a_low (3 * n) (nI x) (nI (pt c 1)) (nI (pt c 2))) (wr3 a_high (3 * n) (nI (x + pt e 0)) (nI (pt c 1 + pt e 1)) (nI (pt c 2 + pt e 2))) a_nodeLow a_nodeHigh a_begins a_ends a_lefts a_order a_sorted a_bestOrder a_suffix a_boundLow a_boundHigh a_from a_way a_stack a_listed a_listTop a_listBottom) : wX_row_96 post J42 (nI b) x2 x3 x4 (nI n) (nI n) f_nodes f_built f_enterTop f_enterBottom f_leaveTop f_leaveBottom f_hitCount 4 (nI 0) a_low a_high a_nodeLow a_nodeHigh a_begins a_ends a_lefts a_order a_sorted a_bestOrder a_suffix a_boundLow a_boundHigh a_from a_way a_stack a_listed a_listTop a_listBottom := by
  have g0 := hl 0 (by omega)
  have g1 := hl 1 (by omega)
  have g2 := hl 2 (by omega)
  refine br_f (nI_ge (a := 0) (b := 3) (by omega) (by decide)) (br_t nI_0 (xr_115 (P := nI x) (Q := nI (x + pt e 0)) (by omega) (by omega) hn ?_ ?_ ?_))
  · rw [g0.1]; exact hxx
  · rw [g0.2, ← nI_add, ← nI_add, ← hxx]; grind
  · refine br_f (nI_ge (a := 1) (b := 3) (by omega) (by decide)) (br_f (by decide) (xr_115 (P := nI (pt c 1)) (Q := nI (pt c 1 + pt e 1)) (by omega) (by omega) hn ?_ ?_ ?_))
    · rw [pk_un (by omega), g1.1]; exact Int32.add_zero _
    · rw [pk_un (by omega), g1.2]; exact Int32.add_zero _
    · refine br_f (nI_ge (a := 2) (b := 3) (by omega) (by decide)) (br_f (by decide) (xr_115 (P := nI (pt c 2)) (Q := nI (pt c 2 + pt e 2)) (by omega) (by omega) hn ?_ ?_ ?_))
      · rw [pk_un (by omega), pk_un (by omega), g2.1]; exact Int32.add_zero _
      · rw [pk_un (by omega), pk_un (by omega), g2.2]; exact Int32.add_zero _
      · exact br_t (nI_le (a := 3) (b := 3) (by omega) (by decide)) (nm_r (nI_1 n) (nm_e h))
theorem rw_idle {b c e many n : Nat} {dx : Int32} {co ex : Nat → Int32} (hb : b < 14) (hm : many ≤ 13) (hc : c < 32768) (he : e < 32768) (hco : co b = nI c) (hex : ex b = nI e) {post : Int32 → SY → Prop} (hp : post (nI n) (nI n, g_inTop, g_inBottom, g_outTop, g_outBottom, co, ex, b_from, b_along, b_tops, b_bottoms)) : ∀ d k : Nat, many + 1 = k + d → (∀ k', k ≤ k' → k' ≤ many → n = 14 ∨ (nI (pt c 0) + nI k' * dx).toInt < 0 ∨ 31 < (nI (pt c 0) + nI k' * dx).toInt) → wY_row_42 post (nI b) dx (nI many) (d + 1) (nI k) (nI n) g_inTop g_inBottom g_outTop g_outBottom co ex b_from b_along b_tops b_bottoms := by
  intro d
  induction d with
  | zero =>
    intro k hk _
    exact br_t (nI_lt (by omega) (by omega)) hp
  | succ d ih =>
    intro k hk hout
    have v : vp_in (nI b) 14 := vp_in_nI hb (by omega)
    have e5 : co (nI b).toNatClampNeg / 1024 + nI k * dx = nI (pt c 0) + nI k * dx := by
      rw [nI_clamp (by omega), hco, show nI c / 1024 = nI (c / 1024) from pk_div (d := 1024) (by omega) (by omega) (by omega)]
      rfl
    have nxt := ih (k + 1) (by omega) (fun k' h1 h2 => hout k' (by omega) h2)
    refine br_f (nI_nlt (by omega) (by omega)) ⟨v, by decide, nm_r e5 ?_⟩
    refine br_c (fun _ => nm_r (nI_1 k) nxt) fun c0 => br_c (fun _ => nm_r (nI_1 k) nxt) fun c1 => ⟨v, v, ?_⟩
    obtain ⟨x, hx, ex1⟩ := nI_of2 (M := 31) (n := 31) (by decide) c0 (Int32.not_lt.mp c1)
    have h14 : n = 14 := by
      rcases hout k (Nat.le_refl k) (by omega) with h | h | h
      · exact h
      · rw [ex1, nI_toInt (by omega)] at h; omega
      · rw [ex1, nI_toInt (by omega)] at h; omega
    subst h14
    have e6 : co (nI b).toNatClampNeg + ((1024 * nI k) * dx) = nI (1024 * x + c % 1024) := by
      rw [nI_clamp (by omega), hco]; exact rw_c ex1
    have e7 : ex (nI b).toNatClampNeg = nI e := by rw [nI_clamp (by omega)]; exact hex
    rw [e6, e7]
    exact ya_3 (by omega) he (nm_r (nI_1 k) nxt)
theorem rw_42 {b c e many : Nat} {dx : Int32} (h1 : -31 ≤ dx.toInt) (h2 : dx.toInt ≤ 31) (hm : many ≤ 13) (hc : c < 32768) (he : e < 32768) : ∀ (d k n : Nat) (lo hi co ex : Nat → Int32), many + 1 = k + d → b < n → n ≤ 14 → bS n lo hi co ex → co b = nI c → ex b = nI e → ∃ (n' : Nat) (lo' hi' co' ex' : Nat → Int32), n' ≤ 14 ∧ bS n' lo' hi' co' ex' ∧ (∀ post : Int32 → SX → Prop, post (nI n') (nI n', f_nodes, 0, f_enterTop, f_enterBottom, f_leaveTop, f_leaveBottom, f_hitCount, lo', hi', a_nodeLow, a_nodeHigh, a_begins, a_ends, a_lefts, a_order, a_sorted, a_bestOrder, a_suffix, a_boundLow, a_boundHigh, a_from, a_way, a_stack, a_listed, a_listTop, a_listBottom) → wX_row_42 post (nI b) dx (nI many) f_nodes f_built f_enterTop f_enterBottom f_leaveTop f_leaveBottom f_hitCount (d + 1) (nI k) (nI n) lo hi a_nodeLow a_nodeHigh a_begins a_ends a_lefts a_order a_sorted a_bestOrder a_suffix a_boundLow a_boundHigh a_from a_way a_stack a_listed a_listTop a_listBottom) ∧ (∀ post : Int32 → SY → Prop, post (nI n') (nI n', g_inTop, g_inBottom, g_outTop, g_outBottom, co', ex', b_from, b_along, b_tops, b_bottoms) → wY_row_42 post (nI b) dx (nI many) (d + 1) (nI k) (nI n) g_inTop g_inBottom g_outTop g_outBottom co ex b_from b_along b_tops b_bottoms) := by
  intro d
  induction d with
  | zero =>
    intro k n lo hi co ex hk hb hn hS hco hex
    exact ⟨n, lo, hi, co, ex, hn, hS, fun post hp => br_t (nI_lt (by omega) (by omega)) hp, fun post hp => br_t (nI_lt (by omega) (by omega)) hp⟩
  | succ d ih =>
    intro k n lo hi co ex hk hb hn hS hco hex
    have hl : ∀ a, a < 3 → lo (3 * b + a) = nI (pt c a) ∧ hi (3 * b + a) = nI (pt c a + pt e a) := by
      obtain ⟨c2, e2, hc2, he2, g1, g2, g3⟩ := hS b hb
      have ec : c2 = c := qn_inj (g1.symm.trans hco) (by omega) (by omega)
      have ee : e2 = e := qn_inj (g2.symm.trans hex) (by omega) (by omega)
      subst ec ee
      exact g3
    have cm : ¬ nI many < nI k := nI_nlt (by omega) (by omega)
    have hpt : pt c 0 < 32 := pt_lt hc 0
    by_cases h14 : n = 14
    · refine ⟨n, lo, hi, co, ex, hn, hS, fun post hp => br_f cm (br_t ?_ hp), fun post hp => rw_idle (by omega) hm hc he hco hex hp (d + 1) k hk (fun k' _ _ => Or.inl h14)⟩
      exact nI_le (a := 14) (by omega) (by omega)
    · have c14 : ¬ 14 ≤ nI n := nI_ge (b := 14) (by omega) (by decide)
      have v : vp_in (3 * nI b) 42 := by
        rw [show 3 * nI b = nI (3 * b) from pk_mul 3 b]; exact vp_in_nI (by omega) (by omega)
      have e5 : lo (3 * nI b).toNatClampNeg + nI k * dx = nI (pt c 0) + nI k * dx := by
        rw [show 3 * nI b = nI (3 * b) from pk_mul 3 b, nI_clamp (by omega)]
        rw [← (hl 0 (by omega)).1]; rfl
      by_cases hr : (nI (pt c 0) + nI k * dx).toInt < 0 ∨ 31 < (nI (pt c 0) + nI k * dx).toInt
      · refine ⟨n, lo, hi, co, ex, hn, hS, fun post hp => br_f cm (br_f c14 ⟨v, nm_r e5 ?_⟩), fun post hp => rw_idle (by omega) hm hc he hco hex hp (d + 1) k hk (fun k' hkk hkm => Or.inr ?_)⟩
        · rcases hr with hr | hr
          · exact br_t (Int32.lt_iff_toInt_lt.mpr (by rw [qn_0]; exact hr)) hp
          · refine br_f (fun z => ?_) (br_f (fun z => ?_) hp)
            · have := Int32.lt_iff_toInt_lt.mp z
              rw [qn_0] at this; omega
            · have := Int32.le_iff_toInt_le.mp z
              rw [show (31 : Int32).toInt = 31 from by decide] at this; omega
        · rw [rw_x hpt (by omega) h1 h2] at hr ⊢
          exact rw_mono hkk hpt hr
      · have c0 : ¬ nI (pt c 0) + nI k * dx < 0 := fun z => hr (Or.inl (by have := Int32.lt_iff_toInt_lt.mp z; rw [qn_0] at this; exact this))
        have c1 : nI (pt c 0) + nI k * dx ≤ 31 := Int32.le_iff_toInt_le.mpr (by rw [show (31 : Int32).toInt = 31 from by decide]; omega)
        obtain ⟨x, hx, ex1⟩ := nI_of2 (M := 31) (n := 31) (by decide) c0 c1
        have hc' : 1024 * x + c % 1024 < 32768 := by omega
        have hS' := bS_w hS hc' he
        obtain ⟨n', lo', hi', co', ex', q1, q2, q3, q4⟩ := ih (k + 1) (n + 1) _ _ _ _ (by omega) (by omega) (by omega) hS' (by rw [pk_un (by omega)]; exact hco) (by rw [pk_un (by omega)]; exact hex)
        refine ⟨n', lo', hi', co', ex', q1, q2, fun post hp => ?_, fun post hp => ?_⟩
        · have q3' := q3 post hp
          rw [pt_c.1, pt_c.2.1, pt_c.2.2, ← nI_1 k] at q3'
          exact br_f cm (br_f c14 ⟨v, nm_r e5 (br_f c0 (br_t c1 ⟨4, xr_96 (e := e) ex1 hl hb (by omega) q3'⟩))⟩)
        · have q4' := q4 post hp
          have vb : vp_in (nI b) 14 := vp_in_nI (by omega) (by omega)
          have e5' : co (nI b).toNatClampNeg / 1024 + nI k * dx = nI (pt c 0) + nI k * dx := by
            rw [nI_clamp (by omega), hco, show nI c / 1024 = nI (c / 1024) from pk_div (d := 1024) (by omega) (by omega) (by omega)]
            rfl
          have e6 : co (nI b).toNatClampNeg + ((1024 * nI k) * dx) = nI (1024 * x + c % 1024) := by
            rw [nI_clamp (by omega), hco]; exact rw_c ex1
          have e7 : ex (nI b).toNatClampNeg = nI e := by rw [nI_clamp (by omega)]; exact hex
          refine br_f cm ⟨vb, by decide, nm_r e5' (br_f c0 (br_f (Int32.not_lt.mpr c1) ⟨vb, vb, ?_⟩))⟩
          rw [e6, e7]
          exact ya_t (by omega) hc' he (nm_r (nI_1 k) q4')
theorem nr_31 {p : Int32} (h0 : ¬ p < -31) (h1 : p ≤ 31) : -31 ≤ p.toInt ∧ p.toInt ≤ 31 := by
  have h1' := Int32.le_iff_toInt_le.mp (Int32.not_lt.mp h0)
  have h2 := Int32.le_iff_toInt_le.mp h1
  rw [show (-31 : Int32).toInt = -31 from by decide] at h1'
  rw [show (31 : Int32).toInt = 31 from by decide] at h2
  exact ⟨h1', h2⟩
theorem i_vc_row {k : Nat} {u : SX} {v : SY} (I : i_Rel k u v) (hk : k + 4 ≤ 2048) (v1 : Int32) (v2 : Int32) (v3 : Int32) : wpX_row (fun r u' => wpY_row (fun r' v' => r' = r ∧ i_Rel (k + 4) u' v') v v1 v2 v3) u v1 v2 v3 := by
  have I' := i_up I
  obtain ⟨n, lo, hi, co, ex, fr, wy, hn, hS, hr, hX, hY⟩ := I
  obtain ⟨f_count, f_nodes, f_built, f_enterTop, f_enterBottom, f_leaveTop, f_leaveBottom, f_hitCount, a_low, a_high, a_nodeLow, a_nodeHigh, a_begins, a_ends, a_lefts, a_order, a_sorted, a_bestOrder, a_suffix, a_boundLow, a_boundHigh, a_from, a_way, a_stack, a_listed, a_listTop, a_listBottom⟩ := u
  obtain ⟨g_count, g_inTop, g_inBottom, g_outTop, g_outBottom, b_corners, b_extents, b_from, b_along, b_tops, b_bottoms⟩ := v
  obtain ⟨x1, x2, x3, x4, x5, x6⟩ := hX
  obtain ⟨y1, y2, y3, y4, y5⟩ := hY
  subst x1 y1
  unfold wpX_row wpY_row
  by_cases h1 : isB n v1
  · obtain ⟨b, hb, rfl⟩ := h1
    subst x2 x3 y2 y3
    by_cases ha : v2 < -31
    · exact xB_t hb hn (br_f n10 (br_t ha (yB_t hb hn (br_t rfl (br_t ha ⟨rfl, I'⟩)))))
    · by_cases hb2 : v2 ≤ 31
      · by_cases hc : v3 < 1
        · exact xB_t hb hn (br_f n10 (br_f ha (br_t hb2 (br_t hc (yB_t hb hn (br_t rfl (br_f ha (br_t hb2 (br_t hc ⟨rfl, I'⟩)))))))))
        · by_cases hd : v3 ≤ 13
          · have c0 : ¬ v3 < 0 := fun z => hc (Int32.lt_iff_toInt_lt.mpr (by have := Int32.lt_iff_toInt_lt.mp z; rw [qn_0] at this; rw [qn_1]; omega))
            obtain ⟨many, hmany, rfl⟩ := nI_of2 (M := 13) (n := 13) (by decide) c0 hd
            obtain ⟨c, e, hcc, hee, g1, g2, g3⟩ := hS b hb
            obtain ⟨n', lo', hi', co', ex', q1, q2, q3, q4⟩ := rw_42 (f_nodes := f_nodes) (f_built := f_built) (f_enterTop := f_enterTop) (f_enterBottom := f_enterBottom) (f_leaveTop := f_leaveTop) (f_leaveBottom := f_leaveBottom) (f_hitCount := f_hitCount) (a_nodeLow := a_nodeLow) (a_nodeHigh := a_nodeHigh) (a_begins := a_begins) (a_ends := a_ends) (a_lefts := a_lefts) (a_order := a_order) (a_sorted := a_sorted) (a_bestOrder := a_bestOrder) (a_suffix := a_suffix) (a_boundLow := a_boundLow) (a_boundHigh := a_boundHigh) (a_from := a_from) (a_way := a_way) (a_stack := a_stack) (a_listed := a_listed) (a_listTop := a_listTop) (a_listBottom := a_listBottom) (g_inTop := g_inTop) (g_inBottom := g_inBottom) (g_outTop := g_outTop) (g_outBottom := g_outBottom) (b_from := b_from) (b_along := b_along) (b_tops := b_tops) (b_bottoms := b_bottoms) (nr_31 ha hb2).1 (nr_31 ha hb2).2 hmany hcc hee many 1 n a_low a_high b_corners b_extents (by omega) hb hn hS g1 g2
            refine xB_t hb hn (br_f n10 (br_f ha (br_t hb2 (br_f hc (br_t hd ⟨_, q3 _ ?_⟩)))))
            refine yB_t hb hn (br_t rfl (br_f ha (br_t hb2 (br_f hc (br_t hd ⟨_, q4 _ ?_⟩)))))
            exact ⟨rfl, n', lo', hi', co', ex', fr, wy, q1, q2, hr, ⟨rfl, rfl, rfl, x4, x5, Or.inl rfl⟩, ⟨rfl, rfl, rfl, y4, y5⟩⟩
          · exact xB_t hb hn (br_f n10 (br_f ha (br_t hb2 (br_f hc (br_f hd (yB_t hb hn (br_t rfl (br_f ha (br_t hb2 (br_f hc (br_f hd ⟨rfl, I'⟩)))))))))))
      · exact xB_t hb hn (br_f n10 (br_f ha (br_f hb2 (yB_t hb hn (br_t rfl (br_f ha (br_f hb2 ⟨rfl, I'⟩)))))))
  · exact xB_f h1 hn (br_t rfl (yB_f h1 hn (br_f n10 ⟨rfl, I'⟩)))
end RO
end
section
section BO
variable {f_count f_nodes f_built f_enterTop f_enterBottom f_leaveTop f_leaveBottom f_hitCount : Int32} {a_low a_high a_nodeLow a_nodeHigh a_begins a_ends a_lefts a_order a_sorted a_bestOrder a_suffix a_boundLow a_boundHigh a_from a_way a_stack a_listed a_listTop a_listBottom : Nat → Int32}
theorem xe_s {a m : Nat} (ha : a < 3) {post : SX → Prop} (h : wX_emptyBound_2 post f_count f_nodes f_built f_enterTop f_enterBottom f_leaveTop f_leaveBottom f_hitCount m (nI (a + 1)) a_low a_high a_nodeLow a_nodeHigh a_begins a_ends a_lefts a_order a_sorted a_bestOrder a_suffix (upd a_boundLow a 1000) (upd a_boundHigh a (-1000)) a_from a_way a_stack a_listed a_listTop a_listBottom) : wX_emptyBound_2 post f_count f_nodes f_built f_enterTop f_enterBottom f_leaveTop f_leaveBottom f_hitCount (m + 1) (nI a) a_low a_high a_nodeLow a_nodeHigh a_begins a_ends a_lefts a_order a_sorted a_bestOrder a_suffix a_boundLow a_boundHigh a_from a_way a_stack a_listed a_listTop a_listBottom := by
  have v : vp_in (nI a) 3 := vp_in_nI ha (by omega)
  have e1 : upd a_boundLow (nI a).toNatClampNeg 1000 = upd a_boundLow a 1000 := by rw [nI_clamp (by omega)]
  have e2 : upd a_boundHigh (nI a).toNatClampNeg (-1000) = upd a_boundHigh a (-1000) := by rw [nI_clamp (by omega)]
  exact br_f (nI_ge (b := 3) ha (by decide)) ⟨v, nm_r e1 ⟨v, nm_r e2 (nm_r (nI_1 a) h)⟩⟩
theorem xe {post : SX → Prop} (h : ∀ bl bh : Nat → Int32, (∀ a, a < 3 → bl a = 1000 ∧ bh a = -1000) → post (f_count, f_nodes, f_built, f_enterTop, f_enterBottom, f_leaveTop, f_leaveBottom, f_hitCount, a_low, a_high, a_nodeLow, a_nodeHigh, a_begins, a_ends, a_lefts, a_order, a_sorted, a_bestOrder, a_suffix, bl, bh, a_from, a_way, a_stack, a_listed, a_listTop, a_listBottom)) : wpX_emptyBound post (f_count, f_nodes, f_built, f_enterTop, f_enterBottom, f_leaveTop, f_leaveBottom, f_hitCount, a_low, a_high, a_nodeLow, a_nodeHigh, a_begins, a_ends, a_lefts, a_order, a_sorted, a_bestOrder, a_suffix, a_boundLow, a_boundHigh, a_from, a_way, a_stack, a_listed, a_listTop, a_listBottom) := by
  refine Exists.intro 4 (xe_s (a := 0) (by omega) (xe_s (a := 1) (by omega) (xe_s (a := 2) (by omega) (br_t (nI_le (a := 3) (b := 3) (by omega) (by decide)) (h _ _ ?_)))))
  intro a ha
  obtain rfl | rfl | rfl : a = 0 ∨ a = 1 ∨ a = 2 := by omega
  all_goals exact ⟨rfl, rfl⟩
def gl (b l : Int32) : Int32 := if b ≤ l then b else l
def gh (b h : Int32) : Int32 := if h ≤ b then b else h
theorem xg_s {b a m : Nat} (ha : a < 3) (hb : b < 14) {post : SX → Prop} (h : wX_grow_2 post (nI b) f_count f_nodes f_built f_enterTop f_enterBottom f_leaveTop f_leaveBottom f_hitCount m (nI (a + 1)) a_low a_high a_nodeLow a_nodeHigh a_begins a_ends a_lefts a_order a_sorted a_bestOrder a_suffix (upd a_boundLow a (gl (a_boundLow a) (a_low (3 * b + a)))) (upd a_boundHigh a (gh (a_boundHigh a) (a_high (3 * b + a)))) a_from a_way a_stack a_listed a_listTop a_listBottom) : wX_grow_2 post (nI b) f_count f_nodes f_built f_enterTop f_enterBottom f_leaveTop f_leaveBottom f_hitCount (m + 1) (nI a) a_low a_high a_nodeLow a_nodeHigh a_begins a_ends a_lefts a_order a_sorted a_bestOrder a_suffix a_boundLow a_boundHigh a_from a_way a_stack a_listed a_listTop a_listBottom := by
  have v : vp_in (3 * nI b + nI a) 42 := qn_i3 ha hb (by omega)
  have v3 : vp_in (nI a) 3 := vp_in_nI ha (by omega)
  have ea : (nI a).toNatClampNeg = a := nI_clamp (by omega)
  have e1 : a_low (3 * nI b + nI a).toNatClampNeg = a_low (3 * b + a) := by rw [qn_c3 ha (by omega)]
  have e2 : a_high (3 * nI b + nI a).toNatClampNeg = a_high (3 * b + a) := by rw [qn_c3 ha (by omega)]
  have K : ∀ z0 : Int32, z0 = gl (a_boundLow a) (a_low (3 * b + a)) → wX_grow_55 post (wX_grow_2 post (nI b) f_count f_nodes f_built f_enterTop f_enterBottom f_leaveTop f_leaveBottom f_hitCount m) (nI b) (nI a) (a_high (3 * b + a)) z0 (nI a) f_count f_nodes f_built f_enterTop f_enterBottom f_leaveTop f_leaveBottom f_hitCount a_low a_high a_nodeLow a_nodeHigh a_begins a_ends a_lefts a_order a_sorted a_bestOrder a_suffix a_boundLow a_boundHigh a_from a_way a_stack a_listed a_listTop a_listBottom := by
    intro z0 hz
    have e3 : upd a_boundLow (nI a).toNatClampNeg z0 = upd a_boundLow a (gl (a_boundLow a) (a_low (3 * b + a))) := by rw [ea, hz]
    refine And.intro v3 (nm_r e3 ⟨v3, ?_⟩)
    by_cases c : a_high (3 * b + a) ≤ a_boundHigh a
    · have e4 : upd a_boundHigh (nI a).toNatClampNeg (a_boundHigh (nI a).toNatClampNeg) = upd a_boundHigh a (gh (a_boundHigh a) (a_high (3 * b + a))) := by
        rw [ea]; unfold gh; rw [if_pos c]
      exact br_t (by rw [ea]; exact c) ⟨v3, v3, nm_r e4 (nm_r (nI_1 a) h)⟩
    · have e4 : upd a_boundHigh (nI a).toNatClampNeg (a_high (3 * b + a)) = upd a_boundHigh a (gh (a_boundHigh a) (a_high (3 * b + a))) := by
        rw [ea]; unfold gh; rw [if_neg c]
      exact br_f (by rw [ea]; exact c) ⟨v3, nm_r e4 (nm_r (nI_1 a) h)⟩
  refine br_f (nI_ge (b := 3) ha (by decide)) ⟨v, nm_r e1 ⟨v, nm_r e2 ⟨v3, ?_⟩⟩⟩
  by_cases c : a_boundLow a ≤ a_low (3 * b + a)
  · refine br_t (by rw [ea]; exact c) ⟨v3, K _ ?_⟩
    rw [ea]; unfold gl; rw [if_pos c]
  · refine br_f (by rw [ea]; exact c) (K _ ?_)
    unfold gl; rw [if_neg c]
theorem xg {b : Nat} (hb : b < 14) {post : SX → Prop} (h : ∀ bl bh : Nat → Int32, (∀ a, a < 3 → bl a = gl (a_boundLow a) (a_low (3 * b + a)) ∧ bh a = gh (a_boundHigh a) (a_high (3 * b + a))) → post (f_count, f_nodes, f_built, f_enterTop, f_enterBottom, f_leaveTop, f_leaveBottom, f_hitCount, a_low, a_high, a_nodeLow, a_nodeHigh, a_begins, a_ends, a_lefts, a_order, a_sorted, a_bestOrder, a_suffix, bl, bh, a_from, a_way, a_stack, a_listed, a_listTop, a_listBottom)) : wpX_grow post (f_count, f_nodes, f_built, f_enterTop, f_enterBottom, f_leaveTop, f_leaveBottom, f_hitCount, a_low, a_high, a_nodeLow, a_nodeHigh, a_begins, a_ends, a_lefts, a_order, a_sorted, a_bestOrder, a_suffix, a_boundLow, a_boundHigh, a_from, a_way, a_stack, a_listed, a_listTop, a_listBottom) (nI b) := by
  refine Exists.intro 4 (xg_s (a := 0) (by omega) hb (xg_s (a := 1) (by omega) hb (xg_s (a := 2) (by omega) hb (br_t (nI_le (a := 3) (b := 3) (by omega) (by decide)) (h _ _ ?_)))))
  intro a ha
  obtain rfl | rfl | rfl : a = 0 ∨ a = 1 ∨ a = 2 := by omega
  all_goals exact ⟨rfl, rfl⟩
/-! the bound of a node -/
def ft (od : Nat → Nat) (lo hi : Nat → Int32) (b e a : Nat) (L H : Int32) : Prop := (∀ x, me od b e x → L ≤ lo (3 * x + a) ∧ hi (3 * x + a) ≤ H) ∧ (∃ x, me od b e x ∧ L = lo (3 * x + a)) ∧ ∃ x, me od b e x ∧ H = hi (3 * x + a)
theorem ft_s {od : Nat → Nat} {lo hi : Nat → Int32} {n b k a : Nat} {L H : Int32} (hB : bB n lo hi) (ha : a < 3) (hk : od k < n) (hbk : b ≤ k) (h : (k = b ∧ L = 1000 ∧ H = -1000) ∨ ft od lo hi b k a L H) : ft od lo hi b (k + 1) a (gl L (lo (3 * od k + a))) (gh H (hi (3 * od k + a))) := by
  have bd := hB (od k) hk a ha
  have mk : me od b (k + 1) (od k) := ⟨k, hbk, by omega, rfl⟩
  have ms : ∀ x, me od b (k + 1) x → x = od k ∨ me od b k x := by
    rintro x ⟨j, h1, h2, h3⟩
    by_cases hj : j = k
    · subst hj; exact Or.inl h3.symm
    · exact Or.inr ⟨j, h1, by omega, h3⟩
  have mm : ∀ x, me od b k x → me od b (k + 1) x := by
    rintro x ⟨j, h1, h2, h3⟩
    exact ⟨j, h1, by omega, h3⟩
  rcases h with ⟨rfl, rfl, rfl⟩ | ⟨h1, ⟨x1, g1, g2⟩, ⟨x2, g3, g4⟩⟩
  · have e1 : gl 1000 (lo (3 * od k + a)) = lo (3 * od k + a) := by
      unfold gl
      refine if_neg (fun z => ?_)
      have := Int32.le_iff_toInt_le.mp z
      rw [show (1000 : Int32).toInt = 1000 from by decide] at this
      omega
    have e2 : gh (-1000) (hi (3 * od k + a)) = hi (3 * od k + a) := by
      unfold gh
      refine if_neg (fun z => ?_)
      have := Int32.le_iff_toInt_le.mp z
      rw [show (-1000 : Int32).toInt = -1000 from by decide] at this
      omega
    rw [e1, e2]
    refine ⟨fun x hx => ?_, ⟨od k, mk, rfl⟩, ⟨od k, mk, rfl⟩⟩
    rcases ms x hx with rfl | ⟨j, j1, j2, _⟩
    · exact ⟨Int32.le_refl _, Int32.le_refl _⟩
    · omega
  · have l1 : gl L (lo (3 * od k + a)) ≤ L ∧ gl L (lo (3 * od k + a)) ≤ lo (3 * od k + a) := by
      unfold gl
      by_cases c : L ≤ lo (3 * od k + a)
      · rw [if_pos c]; exact ⟨Int32.le_refl _, c⟩
      · rw [if_neg c]; exact ⟨Int32.le_of_lt (Int32.not_le.mp c), Int32.le_refl _⟩
    have l2 : H ≤ gh H (hi (3 * od k + a)) ∧ hi (3 * od k + a) ≤ gh H (hi (3 * od k + a)) := by
      unfold gh
      by_cases c : hi (3 * od k + a) ≤ H
      · rw [if_pos c]; exact ⟨Int32.le_refl _, c⟩
      · rw [if_neg c]; exact ⟨Int32.le_of_lt (Int32.not_le.mp c), Int32.le_refl _⟩
    refine ⟨fun x hx => ?_, ?_, ?_⟩
    · rcases ms x hx with rfl | hx
      · exact ⟨l1.2, l2.2⟩
      · exact ⟨Int32.le_trans l1.1 (h1 x hx).1, Int32.le_trans (h1 x hx).2 l2.1⟩
    · unfold gl
      by_cases c : L ≤ lo (3 * od k + a)
      · rw [if_pos c]; exact ⟨x1, mm x1 g1, g2⟩
      · rw [if_neg c]; exact ⟨od k, mk, rfl⟩
    · unfold gh
      by_cases c : hi (3 * od k + a) ≤ H
      · rw [if_pos c]; exact ⟨x2, mm x2 g3, g4⟩
      · rw [if_neg c]; exact ⟨od k, mk, rfl⟩
theorem xf_39s {i a m : Nat} (ha : a < 3) (hi' : i < 27) {post : SX → Prop} (h : wX_fitNode_39 post (nI i) f_count f_nodes f_built f_enterTop f_enterBottom f_leaveTop f_leaveBottom f_hitCount m (nI (a + 1)) a_low a_high (upd a_nodeLow (3 * i + a) (a_boundLow a)) (upd a_nodeHigh (3 * i + a) (a_boundHigh a)) a_begins a_ends a_lefts a_order a_sorted a_bestOrder a_suffix a_boundLow a_boundHigh a_from a_way a_stack a_listed a_listTop a_listBottom) : wX_fitNode_39 post (nI i) f_count f_nodes f_built f_enterTop f_enterBottom f_leaveTop f_leaveBottom f_hitCount (m + 1) (nI a) a_low a_high a_nodeLow a_nodeHigh a_begins a_ends a_lefts a_order a_sorted a_bestOrder a_suffix a_boundLow a_boundHigh a_from a_way a_stack a_listed a_listTop a_listBottom := by
  have v : vp_in (3 * nI i + nI a) 81 := qn_i3 ha hi' (by omega)
  have v3 : vp_in (nI a) 3 := vp_in_nI ha (by omega)
  have e1 : upd a_nodeLow (3 * nI i + nI a).toNatClampNeg (a_boundLow (nI a).toNatClampNeg) = upd a_nodeLow (3 * i + a) (a_boundLow a) := by rw [qn_c3 ha (by omega), nI_clamp (by omega)]
  have e2 : upd a_nodeHigh (3 * nI i + nI a).toNatClampNeg (a_boundHigh (nI a).toNatClampNeg) = upd a_nodeHigh (3 * i + a) (a_boundHigh a) := by rw [qn_c3 ha (by omega), nI_clamp (by omega)]
  exact br_f (nI_ge (b := 3) ha (by decide)) ⟨v3, v, nm_r e1 ⟨v3, v, nm_r e2 (nm_r (nI_1 a) h)⟩⟩
theorem xf_39 {i : Nat} (hi' : i < 27) {post : SX → Prop} (h : post (f_count, f_nodes, f_built, f_enterTop, f_enterBottom, f_leaveTop, f_leaveBottom, f_hitCount, a_low, a_high, wr3 a_nodeLow (3 * i) (a_boundLow 0) (a_boundLow 1) (a_boundLow 2), wr3 a_nodeHigh (3 * i) (a_boundHigh 0) (a_boundHigh 1) (a_boundHigh 2), a_begins, a_ends, a_lefts, a_order, a_sorted, a_bestOrder, a_suffix, a_boundLow, a_boundHigh, a_from, a_way, a_stack, a_listed, a_listTop, a_listBottom)) : wX_fitNode_39 post (nI i) f_count f_nodes f_built f_enterTop f_enterBottom f_leaveTop f_leaveBottom f_hitCount 4 (nI 0) a_low a_high a_nodeLow a_nodeHigh a_begins a_ends a_lefts a_order a_sorted a_bestOrder a_suffix a_boundLow a_boundHigh a_from a_way a_stack a_listed a_listTop a_listBottom :=
  xf_39s (a := 0) (by omega) hi' (xf_39s (a := 1) (by omega) hi' (xf_39s (a := 2) (by omega) hi' (br_t (nI_le (a := 3) (b := 3) (by omega) (by decide)) h)))
theorem xf_11 {n i b e : Nat} {od : Nat → Nat} (hn : n ≤ 14) (hB : bB n a_low a_high) (hi' : i < 27) (hbe : b < e) (hen : e ≤ n) (he : a_ends i = nI e) (ho : ∀ k, k < n → a_order k = nI (od k) ∧ od k < n) {post : SX → Prop} (h : ∀ bl bh : Nat → Int32, (∀ a, a < 3 → ft od a_low a_high b e a (bl a) (bh a)) → post (f_count, f_nodes, f_built, f_enterTop, f_enterBottom, f_leaveTop, f_leaveBottom, f_hitCount, a_low, a_high, wr3 a_nodeLow (3 * i) (bl 0) (bl 1) (bl 2), wr3 a_nodeHigh (3 * i) (bh 0) (bh 1) (bh 2), a_begins, a_ends, a_lefts, a_order, a_sorted, a_bestOrder, a_suffix, bl, bh, a_from, a_way, a_stack, a_listed, a_listTop, a_listBottom)) : ∀ (d k : Nat) (bl bh : Nat → Int32), k + d = e → b ≤ k → (∀ a, a < 3 → (k = b ∧ bl a = 1000 ∧ bh a = -1000) ∨ ft od a_low a_high b k a (bl a) (bh a)) → wX_fitNode_11 post (nI i) (d + 1) (nI k) f_count f_nodes f_built f_enterTop f_enterBottom f_leaveTop f_leaveBottom f_hitCount a_low a_high a_nodeLow a_nodeHigh a_begins a_ends a_lefts a_order a_sorted a_bestOrder a_suffix bl bh a_from a_way a_stack a_listed a_listTop a_listBottom := by
  have v : vp_in (nI i) 27 := vp_in_nI hi' (by omega)
  have ei : a_ends (nI i).toNatClampNeg = nI e := by rw [nI_clamp (by omega)]; exact he
  intro d
  induction d with
  | zero =>
    intro k bl bh hk hbk hf
    have ek : k = e := by omega
    subst ek
    refine And.intro v (br_t (by rw [ei]; exact nI_le (Nat.le_refl _) (by omega)) ⟨4, xf_39 hi' (h bl bh (fun a ha => ?_))⟩)
    rcases hf a ha with ⟨z, _⟩ | z
    · omega
    · exact z
  | succ d ih =>
    intro k bl bh hk hbk hf
    obtain ⟨o1, o2⟩ := ho k (by omega)
    have eo : a_order (nI k).toNatClampNeg = nI (od k) := by rw [nI_clamp (by omega)]; exact o1
    refine And.intro v (br_f (by rw [ei]; exact nI_ge (by omega) (by omega)) ⟨vp_in_nI (by omega) (by omega), ?_⟩)
    rw [eo]
    refine xg (by omega) (fun bl' bh' hg => nm_r (nI_1 k) (ih (k + 1) bl' bh' (by omega) (by omega) (fun a ha => Or.inr ?_)))
    rw [(hg a ha).1, (hg a ha).2]
    exact ft_s hB ha o2 hbk (hf a ha)
theorem xf {n i b e : Nat} {od : Nat → Nat} (hn : n ≤ 14) (hB : bB n a_low a_high) (hi' : i < 27) (hbe : b < e) (hen : e ≤ n) (hb : a_begins i = nI b) (he : a_ends i = nI e) (ho : ∀ k, k < n → a_order k = nI (od k) ∧ od k < n) {post : SX → Prop} (h : ∀ bl bh nl nh : Nat → Int32, (∀ j, j < 3 * i ∨ 3 * i + 3 ≤ j → nl j = a_nodeLow j ∧ nh j = a_nodeHigh j) → tr_fit od a_low a_high nl nh b e i → post (f_count, f_nodes, f_built, f_enterTop, f_enterBottom, f_leaveTop, f_leaveBottom, f_hitCount, a_low, a_high, nl, nh, a_begins, a_ends, a_lefts, a_order, a_sorted, a_bestOrder, a_suffix, bl, bh, a_from, a_way, a_stack, a_listed, a_listTop, a_listBottom)) : wpX_fitNode post (f_count, f_nodes, f_built, f_enterTop, f_enterBottom, f_leaveTop, f_leaveBottom, f_hitCount, a_low, a_high, a_nodeLow, a_nodeHigh, a_begins, a_ends, a_lefts, a_order, a_sorted, a_bestOrder, a_suffix, a_boundLow, a_boundHigh, a_from, a_way, a_stack, a_listed, a_listTop, a_listBottom) (nI i) := by
  have v : vp_in (nI i) 27 := vp_in_nI hi' (by omega)
  have eb : a_begins (nI i).toNatClampNeg = nI b := by rw [nI_clamp (by omega)]; exact hb
  refine xe (fun bl bh hz => ⟨v, nm_r eb ⟨e - b + 1, xf_11 hn hB hi' hbe hen he ho (fun bl bh hf => h bl bh _ _ (fun j hj => ⟨wr3_n hj, wr3_n hj⟩) ?_) (e - b) b bl bh (by omega) (Nat.le_refl b) (fun a ha => Or.inl ⟨rfl, hz a ha⟩)⟩⟩)
  intro a ha
  have e1 := wr3_a (f := a_nodeLow) (g := bl) (o := 3 * i) a ha
  have e2 := wr3_a (f := a_nodeHigh) (g := bh) (o := 3 * i) a ha
  rw [e1, e2]
  exact hf a ha
end BO
end
section
section SO
variable {f_count f_nodes f_built f_enterTop f_enterBottom f_leaveTop f_leaveBottom f_hitCount : Int32} {a_low a_high a_nodeLow a_nodeHigh a_begins a_ends a_lefts a_order a_sorted a_bestOrder a_suffix a_boundLow a_boundHigh a_from a_way a_stack a_listed a_listTop a_listBottom : Nat → Int32}
/-! arrays rearranged, by counts -/
def pe (f g : Nat → Int32) (b l : Nat) : Prop := ∀ P : Int32 → Prop, cq (fun j => P (f j)) b l = cq (fun j => P (g j)) b l
def vb (x : Int32) : Prop := ∃ m : Nat, m < 14 ∧ x = nI m
theorem pe_v {f g : Nat → Int32} {b l : Nat} (h : pe f g b l) (hg : ∀ j, b ≤ j → j < b + l → vb (g j)) : ∀ j, b ≤ j → j < b + l → vb (f j) := by
  intro j h1 h2
  have e := h (fun x => ¬ vb x)
  rw [cq_0 (p := fun j => ¬ vb (g j)) b l (fun j h1 h2 hn => hn (hg j h1 h2))] at e
  exact Classical.byContradiction (cq_z e j h1 h2)
theorem cq_un {P : Int32 → Prop} {s : Nat → Int32} {k b l : Nat} {x : Int32} (h : k < b ∨ b + l ≤ k) : cq (fun j => P (upd s k x j)) b l = cq (fun j => P (s j)) b l :=
  cq_congr b l (fun j h1 h2 => by rw [pk_un (by omega)])
theorem so_x {s o : Nat → Int32} {b t k : Nat} (ht : b + t ≤ k) (H : ∀ P : Int32 → Prop, cq (fun j => P (s j)) b t + cq (fun j => P (s j)) (b + t + 1) (k - b - t) = cq (fun j => P (o j)) b (k - b)) : pe (upd s (b + t) (o k)) o b (k + 1 - b) := by
  intro P
  have H' := H P
  have e1 : k + 1 - b = t + (k - b - t + 1) := by omega
  have e3 : cq (fun j => P (o j)) b (k + 1 - b) = cq (fun j => P (o j)) b (k - b) + tN (P (o k)) := by
    rw [show k + 1 - b = (k - b) + 1 from by omega, cq_s, show b + (k - b) = k from by omega]
  rw [e3, e1, cq_add b t (k - b - t + 1), cq_cons (b + t) (k - b - t), cq_un (b := b) (l := t) (by omega), cq_un (b := b + t + 1) (by omega), pk_us]
  omega
theorem so_s {s o : Nat → Int32} {b t k : Nat} (ht : b + t + 1 ≤ k) (H : ∀ P : Int32 → Prop, cq (fun j => P (s j)) b (t + 1) + cq (fun j => P (s j)) (b + (t + 1) + 1) (k - b - (t + 1)) = cq (fun j => P (o j)) b (k - b)) : ∀ P : Int32 → Prop, cq (fun j => P (upd s (b + t + 1) (s (b + t)) j)) b t + cq (fun j => P (upd s (b + t + 1) (s (b + t)) j)) (b + t + 1) (k - b - t) = cq (fun j => P (o j)) b (k - b) := by
  intro P
  have H' := H P
  rw [cq_s] at H'
  rw [show k - b - t = (k - b - (t + 1)) + 1 from by omega, cq_cons (b + t + 1), cq_un (by omega), cq_un (by omega), pk_us]
  have e4 : b + (t + 1) + 1 = b + t + 1 + 1 := by omega
  rw [e4] at H'
  omega
theorem xs_47 {b k ax : Nat} {x3 x6 : Int32} (hax : ax < 3) (hbk : b ≤ k) (hk : k < 14) (hv : ∀ j, b ≤ j → j < k → vb (a_order j)) {post : SX → Prop} {J3 : Int32 → (Nat → Int32) → (Nat → Int32) → (Nat → Int32) → (Nat → Int32) → (Nat → Int32) → (Nat → Int32) → (Nat → Int32) → (Nat → Int32) → (Nat → Int32) → (Nat → Int32) → (Nat → Int32) → (Nat → Int32) → (Nat → Int32) → (Nat → Int32) → (Nat → Int32) → (Nat → Int32) → (Nat → Int32) → (Nat → Int32) → (Nat → Int32) → Prop} (hJ : ∀ s' : Nat → Int32, pe s' a_order b (k + 1 - b) → J3 (nI (k + 1)) a_low a_high a_nodeLow a_nodeHigh a_begins a_ends a_lefts a_order s' a_bestOrder a_suffix a_boundLow a_boundHigh a_from a_way a_stack a_listed a_listTop a_listBottom) : ∀ (t : Nat) (s : Nat → Int32), b + t ≤ k → (∀ P : Int32 → Prop, cq (fun j => P (s j)) b t + cq (fun j => P (s j)) (b + t + 1) (k - b - t) = cq (fun j => P (a_order j)) b (k - b)) → wX_sortAlong_47 post J3 (nI ax) (nI b) x3 (nI k) (a_order k) x6 f_count f_nodes f_built f_enterTop f_enterBottom f_leaveTop f_leaveBottom f_hitCount (t + 1) (nI (b + t)) a_low a_high a_nodeLow a_nodeHigh a_begins a_ends a_lefts a_order s a_bestOrder a_suffix a_boundLow a_boundHigh a_from a_way a_stack a_listed a_listTop a_listBottom := by
  intro t
  induction t with
  | zero =>
    intro s ht H
    have e1 : upd s (nI (b + 0)).toNatClampNeg (a_order k) = upd s (b + 0) (a_order k) := by rw [nI_clamp (by omega)]
    exact br_t (nI_le (by omega) (by omega)) ⟨vp_in_nI (by omega) (by omega), nm_r e1 (nm_r (nI_1 k) (hJ _ (so_x ht H)))⟩
  | succ t ih =>
    intro s ht H
    have es : nI (b + (t + 1)) - 1 = nI (b + t) := nI_pred (b + t)
    have ec : (nI (b + (t + 1)) - 1).toNatClampNeg = b + t := by rw [es]; exact nI_clamp (by omega)
    have v1 : vp_in (nI (b + (t + 1)) - 1) 14 := by rw [es]; exact vp_in_nI (by omega) (by omega)
    have v2 : vp_in (nI (b + (t + 1))) 14 := vp_in_nI (by omega) (by omega)
    have vs : vb (s (b + t)) := by
      have e := H (fun x => ¬ vb x)
      rw [cq_0 (p := fun j => ¬ vb (a_order j)) b (k - b) (fun j h1 h2 hn => hn (hv j h1 (by omega)))] at e
      exact Classical.byContradiction (cq_z (p := fun j => ¬ vb (s j)) (b := b) (l := t + 1) (by omega) (b + t) (by omega) (by omega))
    obtain ⟨m, hm, em⟩ := vs
    have v3 : vp_in (3 * (s (nI (b + (t + 1)) - 1).toNatClampNeg) + nI ax) 42 := by
      rw [ec, em]; exact qn_i3 hax hm (by omega)
    have e1 : ∀ x : Int32, upd s (nI (b + (t + 1))).toNatClampNeg x = upd s (b + t + 1) x := fun x => by rw [nI_clamp (by omega)]; rfl
    have e2 : upd s (nI (b + (t + 1))).toNatClampNeg (s (nI (b + (t + 1)) - 1).toNatClampNeg) = upd s (b + t + 1) (s (b + t)) := by rw [e1, ec]
    exact br_f (nI_ge (by omega) (by omega)) ⟨v1, v3, v1, v3, br_c (fun _ => ⟨v2, nm_r (e1 _) (nm_r (nI_1 k) (hJ _ (so_x (t := t + 1) ht H)))⟩) (fun _ => ⟨v1, v2, nm_r e2 (nm_r (pk_m1 (b + t)) (ih _ (by omega) (so_s ht H)))⟩)⟩
theorem xs_3 {b e ax : Nat} (hax : ax < 3) (hbe : b ≤ e) (he : e ≤ 14) (hv : ∀ j, b ≤ j → j < e → vb (a_order j)) {post : SX → Prop} (h : ∀ s' : Nat → Int32, pe s' a_order b (e - b) → post (f_count, f_nodes, f_built, f_enterTop, f_enterBottom, f_leaveTop, f_leaveBottom, f_hitCount, a_low, a_high, a_nodeLow, a_nodeHigh, a_begins, a_ends, a_lefts, a_order, s', a_bestOrder, a_suffix, a_boundLow, a_boundHigh, a_from, a_way, a_stack, a_listed, a_listTop, a_listBottom)) : ∀ (d k : Nat) (s : Nat → Int32), k + d = e → b ≤ k → pe s a_order b (k - b) → wX_sortAlong_3 post (nI ax) (nI b) (nI e) f_count f_nodes f_built f_enterTop f_enterBottom f_leaveTop f_leaveBottom f_hitCount (d + 1) (nI k) a_low a_high a_nodeLow a_nodeHigh a_begins a_ends a_lefts a_order s a_bestOrder a_suffix a_boundLow a_boundHigh a_from a_way a_stack a_listed a_listTop a_listBottom := by
  intro d
  induction d with
  | zero =>
    intro k s hk hbk hp
    have ek : k = e := by omega
    subst ek
    exact br_t (nI_le (Nat.le_refl _) (by omega)) (h s hp)
  | succ d ih =>
    intro k s hk hbk hp
    obtain ⟨m, hm, em⟩ := hv k hbk (by omega)
    have eo : a_order (nI k).toNatClampNeg = a_order k := by rw [nI_clamp (by omega)]
    have v3 : vp_in (3 * a_order k + nI ax) 42 := by rw [em]; exact qn_i3 hax hm (by omega)
    have K := xs_47 (f_count := f_count) (f_nodes := f_nodes) (f_built := f_built) (f_enterTop := f_enterTop) (f_enterBottom := f_enterBottom) (f_leaveTop := f_leaveTop) (f_leaveBottom := f_leaveBottom) (f_hitCount := f_hitCount) (b := b) (k := k) (ax := ax) (x3 := nI e) (x6 := (a_low ((3 * a_order k) + nI ax).toNatClampNeg) + (a_high ((3 * a_order k) + nI ax).toNatClampNeg)) hax hbk (by omega) (fun j h1 h2 => hv j h1 (by omega)) (post := post) (J3 := wX_sortAlong_3 post (nI ax) (nI b) (nI e) f_count f_nodes f_built f_enterTop f_enterBottom f_leaveTop f_leaveBottom f_hitCount (d + 1)) (fun s' hs => ih (k + 1) s' (by omega) (by omega) hs) (k - b) s (by omega) (fun P => by
      rw [hp P, show k - b - (k - b) = 0 from by omega]; rfl)
    rw [show b + (k - b) = k from by omega] at K
    exact br_f (nI_ge (by omega) (by omega)) ⟨vp_in_nI (by omega) (by omega), nm_r eo ⟨v3, v3, nm_e ⟨_, K⟩⟩⟩
theorem xs {b e ax : Nat} (hax : ax < 3) (hbe : b ≤ e) (he : e ≤ 14) (hv : ∀ j, b ≤ j → j < e → vb (a_order j)) {post : SX → Prop} (h : ∀ s' : Nat → Int32, pe s' a_order b (e - b) → post (f_count, f_nodes, f_built, f_enterTop, f_enterBottom, f_leaveTop, f_leaveBottom, f_hitCount, a_low, a_high, a_nodeLow, a_nodeHigh, a_begins, a_ends, a_lefts, a_order, s', a_bestOrder, a_suffix, a_boundLow, a_boundHigh, a_from, a_way, a_stack, a_listed, a_listTop, a_listBottom)) : wpX_sortAlong post (f_count, f_nodes, f_built, f_enterTop, f_enterBottom, f_leaveTop, f_leaveBottom, f_hitCount, a_low, a_high, a_nodeLow, a_nodeHigh, a_begins, a_ends, a_lefts, a_order, a_sorted, a_bestOrder, a_suffix, a_boundLow, a_boundHigh, a_from, a_way, a_stack, a_listed, a_listTop, a_listBottom) (nI ax) (nI b) (nI e) :=
  Exists.intro (e - b + 1) (xs_3 hax hbe he hv h (e - b) b a_sorted (by omega) (Nat.le_refl b) (fun P => by rw [show b - b = 0 from by omega]; rfl))
theorem xsf {post : Int32 → Prop} (h : ∀ r, post r) : wpX_surface post (f_count, f_nodes, f_built, f_enterTop, f_enterBottom, f_leaveTop, f_leaveBottom, f_hitCount, a_low, a_high, a_nodeLow, a_nodeHigh, a_begins, a_ends, a_lefts, a_order, a_sorted, a_bestOrder, a_suffix, a_boundLow, a_boundHigh, a_from, a_way, a_stack, a_listed, a_listTop, a_listBottom) := nm_e (nm_e (nm_e (h _)))
theorem xb_8 {b e : Nat} (he : e ≤ 14) (hv : ∀ j, b ≤ j → j < e → vb (a_sorted j)) {post : SX → Prop} (h : ∀ bl bh sf : Nat → Int32, post (f_count, f_nodes, f_built, f_enterTop, f_enterBottom, f_leaveTop, f_leaveBottom, f_hitCount, a_low, a_high, a_nodeLow, a_nodeHigh, a_begins, a_ends, a_lefts, a_order, a_sorted, a_bestOrder, sf, bl, bh, a_from, a_way, a_stack, a_listed, a_listTop, a_listBottom)) : ∀ (t : Nat) (bl bh sf : Nat → Int32), b + t < e → wX_sumBehind_8 post (nI b) (nI e) (t + 1) (nI (b + t)) f_count f_nodes f_built f_enterTop f_enterBottom f_leaveTop f_leaveBottom f_hitCount a_low a_high a_nodeLow a_nodeHigh a_begins a_ends a_lefts a_order a_sorted a_bestOrder sf bl bh a_from a_way a_stack a_listed a_listTop a_listBottom := by
  intro t
  induction t with
  | zero =>
    intro bl bh sf ht
    exact br_t (nI_le (by omega) (by omega)) (h bl bh sf)
  | succ t ih =>
    intro bl bh sf ht
    obtain ⟨m, hm, em⟩ := hv (b + (t + 1)) (by omega) ht
    have eo : a_sorted (nI (b + (t + 1))).toNatClampNeg = nI m := by rw [nI_clamp (by omega)]; exact em
    refine br_f (nI_ge (by omega) (by omega)) ⟨vp_in_nI (by omega) (by omega), ?_⟩
    rw [eo]
    exact xg hm (fun bl' bh' _ => xsf (fun r => ⟨vp_in_nI (by omega) (by omega), nm_e (nm_r (pk_m1 (b + t)) (ih bl' bh' _ (by omega)))⟩))
theorem xb {b e : Nat} (hbe : b < e) (he : e ≤ 14) (hv : ∀ j, b ≤ j → j < e → vb (a_sorted j)) {post : SX → Prop} (h : ∀ bl bh sf : Nat → Int32, post (f_count, f_nodes, f_built, f_enterTop, f_enterBottom, f_leaveTop, f_leaveBottom, f_hitCount, a_low, a_high, a_nodeLow, a_nodeHigh, a_begins, a_ends, a_lefts, a_order, a_sorted, a_bestOrder, sf, bl, bh, a_from, a_way, a_stack, a_listed, a_listTop, a_listBottom)) : wpX_sumBehind post (f_count, f_nodes, f_built, f_enterTop, f_enterBottom, f_leaveTop, f_leaveBottom, f_hitCount, a_low, a_high, a_nodeLow, a_nodeHigh, a_begins, a_ends, a_lefts, a_order, a_sorted, a_bestOrder, a_suffix, a_boundLow, a_boundHigh, a_from, a_way, a_stack, a_listed, a_listTop, a_listBottom) (nI b) (nI e) := by
  refine xe (fun bl bh _ => nm_r (qn_s (by omega)) ⟨e - 1 - b + 1, ?_⟩)
  have K := xb_8 (b := b) he hv h (e - 1 - b) bl bh a_suffix (by omega)
  rw [show b + (e - 1 - b) = e - 1 from by omega] at K
  exact K
theorem xk_2 {b e : Nat} (he : e ≤ 14) {post : SX → Prop} (h : ∀ bo : Nat → Int32, (∀ j, b ≤ j → j < e → bo j = a_sorted j) → post (f_count, f_nodes, f_built, f_enterTop, f_enterBottom, f_leaveTop, f_leaveBottom, f_hitCount, a_low, a_high, a_nodeLow, a_nodeHigh, a_begins, a_ends, a_lefts, a_order, a_sorted, bo, a_suffix, a_boundLow, a_boundHigh, a_from, a_way, a_stack, a_listed, a_listTop, a_listBottom)) : ∀ (d k : Nat) (bo : Nat → Int32), k + d = e → b ≤ k → (∀ j, b ≤ j → j < k → bo j = a_sorted j) → wX_keepOrder_2 post (nI e) f_count f_nodes f_built f_enterTop f_enterBottom f_leaveTop f_leaveBottom f_hitCount (d + 1) (nI k) a_low a_high a_nodeLow a_nodeHigh a_begins a_ends a_lefts a_order a_sorted bo a_suffix a_boundLow a_boundHigh a_from a_way a_stack a_listed a_listTop a_listBottom := by
  intro d
  induction d with
  | zero =>
    intro k bo hk hbk hp
    have ek : k = e := by omega
    subst ek
    exact br_t (nI_le (Nat.le_refl _) (by omega)) (h bo hp)
  | succ d ih =>
    intro k bo hk hbk hp
    have v : vp_in (nI k) 14 := vp_in_nI (by omega) (by omega)
    have e1 : upd bo (nI k).toNatClampNeg (a_sorted (nI k).toNatClampNeg) = upd bo k (a_sorted k) := by rw [nI_clamp (by omega)]
    refine br_f (nI_ge (by omega) (by omega)) ⟨v, v, nm_r e1 (nm_r (nI_1 k) (ih (k + 1) _ (by omega) (by omega) (fun j h1 h2 => ?_)))⟩
    by_cases hj : j = k
    · subst hj; exact pk_us
    · rw [pk_un hj]; exact hp j h1 (by omega)
theorem xk {b e : Nat} (hbe : b ≤ e) (he : e ≤ 14) {post : SX → Prop} (h : ∀ bo : Nat → Int32, (∀ j, b ≤ j → j < e → bo j = a_sorted j) → post (f_count, f_nodes, f_built, f_enterTop, f_enterBottom, f_leaveTop, f_leaveBottom, f_hitCount, a_low, a_high, a_nodeLow, a_nodeHigh, a_begins, a_ends, a_lefts, a_order, a_sorted, bo, a_suffix, a_boundLow, a_boundHigh, a_from, a_way, a_stack, a_listed, a_listTop, a_listBottom)) : wpX_keepOrder post (f_count, f_nodes, f_built, f_enterTop, f_enterBottom, f_leaveTop, f_leaveBottom, f_hitCount, a_low, a_high, a_nodeLow, a_nodeHigh, a_begins, a_ends, a_lefts, a_order, a_sorted, a_bestOrder, a_suffix, a_boundLow, a_boundHigh, a_from, a_way, a_stack, a_listed, a_listTop, a_listBottom) (nI b) (nI e) :=
  Exists.intro (e - b + 1) (xk_2 he h (e - b) b a_bestOrder (by omega) (Nat.le_refl b) (fun j h1 h2 => by omega))
/-! where to cut -/
def cR (b e : Nat) (od bo : Nat → Int32) (best : Int32) : Prop := ∃ cut : Nat, b < cut ∧ cut < e ∧ best = nI cut ∧ pe bo od b (e - b)
theorem xc_119 {b e : Nat} {best : Int32} (he : e ≤ 14) (od : Nat → Int32) {post : Int32 → SX → Prop} (h : ∀ od' : Nat → Int32, (∀ j, j < b ∨ e ≤ j → od' j = od j) → (∀ j, b ≤ j → j < e → od' j = a_bestOrder j) → post best (f_count, f_nodes, f_built, f_enterTop, f_enterBottom, f_leaveTop, f_leaveBottom, f_hitCount, a_low, a_high, a_nodeLow, a_nodeHigh, a_begins, a_ends, a_lefts, od', a_sorted, a_bestOrder, a_suffix, a_boundLow, a_boundHigh, a_from, a_way, a_stack, a_listed, a_listTop, a_listBottom)) : ∀ (d k : Nat) (o : Nat → Int32), k + d = e → b ≤ k → (∀ j, j < b ∨ e ≤ j → o j = od j) → (∀ j, b ≤ j → j < k → o j = a_bestOrder j) → wX_chooseCut_119 post (nI e) best f_count f_nodes f_built f_enterTop f_enterBottom f_leaveTop f_leaveBottom f_hitCount (d + 1) (nI k) a_low a_high a_nodeLow a_nodeHigh a_begins a_ends a_lefts o a_sorted a_bestOrder a_suffix a_boundLow a_boundHigh a_from a_way a_stack a_listed a_listTop a_listBottom := by
  intro d
  induction d with
  | zero =>
    intro k o hk hbk hp hq
    have ek : k = e := by omega
    subst ek
    exact br_t (nI_le (Nat.le_refl _) (by omega)) (h o hp hq)
  | succ d ih =>
    intro k o hk hbk hp hq
    have v : vp_in (nI k) 14 := vp_in_nI (by omega) (by omega)
    have e1 : upd o (nI k).toNatClampNeg (a_bestOrder (nI k).toNatClampNeg) = upd o k (a_bestOrder k) := by rw [nI_clamp (by omega)]
    refine br_f (nI_ge (by omega) (by omega)) ⟨v, v, nm_r e1 (nm_r (nI_1 k) (ih (k + 1) _ (by omega) (by omega) (fun j h1 => ?_) (fun j h1 h2 => ?_)))⟩
    · rw [pk_un (by omega)]; exact hp j h1
    · by_cases hj : j = k
      · subst hj; exact pk_us
      · rw [pk_un hj]; exact hq j h1 (by omega)
theorem xc_35 {b e ax : Nat} (hbe : b + 2 ≤ e) (he : e ≤ 14) (hp : pe a_sorted a_order b (e - b)) (hv : ∀ j, b ≤ j → j < e → vb (a_sorted j)) {post : Int32 → SX → Prop} {J8 : Int32 → Int32 → Int32 → Int32 → Int32 → Int32 → Int32 → Int32 → Int32 → Int32 → Int32 → (Nat → Int32) → (Nat → Int32) → (Nat → Int32) → (Nat → Int32) → (Nat → Int32) → (Nat → Int32) → (Nat → Int32) → (Nat → Int32) → (Nat → Int32) → (Nat → Int32) → (Nat → Int32) → (Nat → Int32) → (Nat → Int32) → (Nat → Int32) → (Nat → Int32) → (Nat → Int32) → (Nat → Int32) → (Nat → Int32) → (Nat → Int32) → Prop} (hJ : ∀ (best least : Int32) (bo bl bh : Nat → Int32), cR b e a_order bo best → J8 best least (nI (ax + 1)) f_count f_nodes f_built f_enterTop f_enterBottom f_leaveTop f_leaveBottom f_hitCount a_low a_high a_nodeLow a_nodeHigh a_begins a_ends a_lefts a_order a_sorted bo a_suffix bl bh a_from a_way a_stack a_listed a_listTop a_listBottom) : ∀ (d k : Nat) (best least : Int32) (bo bl bh : Nat → Int32), k + 1 + d = e → b ≤ k → (cR b e a_order bo best ∨ (best = -1 ∧ k = b)) → wX_chooseCut_35 post J8 (nI b) (nI e) (nI ax) (d + 1) best least (nI k) f_count f_nodes f_built f_enterTop f_enterBottom f_leaveTop f_leaveBottom f_hitCount a_low a_high a_nodeLow a_nodeHigh a_begins a_ends a_lefts a_order a_sorted bo a_suffix bl bh a_from a_way a_stack a_listed a_listTop a_listBottom := by
  have e1 : nI e - 1 = nI (e - 1) := qn_s (by omega)
  intro d
  induction d with
  | zero =>
    intro k best least bo bl bh hk hbk hc
    refine br_t (by rw [e1]; exact nI_le (by omega) (by omega)) (nm_r (nI_1 ax) (hJ _ _ _ _ _ ?_))
    rcases hc with hc | ⟨_, hc⟩
    · exact hc
    · omega
  | succ d ih =>
    intro k best least bo bl bh hk hbk hc
    obtain ⟨m, hm, em⟩ := hv k hbk (by omega)
    have eo : a_sorted (nI k).toNatClampNeg = nI m := by rw [nI_clamp (by omega)]; exact em
    have v15 : vp_in (nI k + 1) 15 := by rw [nI_1]; exact vp_in_nI (by omega) (by omega)
    have K : ∀ (x7 : Int32) (bl' bh' : Nat → Int32), wX_chooseCut_89 post J8 (wX_chooseCut_35 post J8 (nI b) (nI e) (nI ax) (d + 1)) (nI b) (nI e) (nI ax) (nI k) x7 f_count f_nodes f_built f_enterTop f_enterBottom f_leaveTop f_leaveBottom f_hitCount a_low a_high a_nodeLow a_nodeHigh a_begins a_ends a_lefts a_order a_sorted bo a_suffix bl' bh' a_from a_way a_stack a_listed a_listTop a_listBottom := by
      intro x7 bl' bh'
      refine nm_r (nI_1 k) (xk (by omega) he (fun bo' hb' => nm_r (nI_1 k) (ih (k + 1) _ _ bo' bl' bh' (by omega) (by omega) (Or.inl ⟨k + 1, by omega, by omega, rfl, fun P => ?_⟩))))
      rw [← hp P]
      exact cq_congr b (e - b) (fun j h1 h2 => by rw [hb' j h1 (by omega)])
    refine br_f (by rw [e1]; exact nI_ge (by omega) (by omega)) ⟨vp_in_nI (by omega) (by omega), ?_⟩
    rw [eo]
    refine xg hm (fun bl' bh' _ => xsf (fun r => ⟨v15, nm_e (br_c (fun _ => K _ _ _) (fun hne => br_c (fun _ => nm_r (nI_1 k) (ih (k + 1) _ _ bo bl' bh' (by omega) (by omega) (Or.inl ?_))) (fun _ => K _ _ _)))⟩))
    rcases hc with hc | ⟨hc, _⟩
    · exact hc
    · exact absurd hc hne
theorem xc_8 {b e : Nat} (hbe : b + 2 ≤ e) (he : e ≤ 14) (hv : ∀ j, b ≤ j → j < e → vb (a_order j)) {post : Int32 → SX → Prop} (h : ∀ (cut : Nat) (od' s bo sf bl bh : Nat → Int32), b < cut → cut < e → (∀ j, j < b ∨ e ≤ j → od' j = a_order j) → pe od' a_order b (e - b) → post (nI cut) (f_count, f_nodes, f_built, f_enterTop, f_enterBottom, f_leaveTop, f_leaveBottom, f_hitCount, a_low, a_high, a_nodeLow, a_nodeHigh, a_begins, a_ends, a_lefts, od', s, bo, sf, bl, bh, a_from, a_way, a_stack, a_listed, a_listTop, a_listBottom)) : ∀ (d ax : Nat) (best least : Int32) (s bo sf bl bh : Nat → Int32), ax + d = 3 → (cR b e a_order bo best ∨ (best = -1 ∧ ax = 0)) → wX_chooseCut_8 post (nI b) (nI e) (d + 1) best least (nI ax) f_count f_nodes f_built f_enterTop f_enterBottom f_leaveTop f_leaveBottom f_hitCount a_low a_high a_nodeLow a_nodeHigh a_begins a_ends a_lefts a_order s bo sf bl bh a_from a_way a_stack a_listed a_listTop a_listBottom := by
  intro d
  induction d with
  | zero =>
    intro ax best least s bo sf bl bh hax hc
    have ea : ax = 3 := by omega
    subst ea
    rcases hc with ⟨cut, c1, c2, rfl, c3⟩ | ⟨_, hc⟩
    · refine br_t (nI_le (a := 3) (b := 3) (by omega) (by decide)) ⟨e - b + 1, xc_119 (a_bestOrder := bo) he a_order (fun od' h1 h2 => h cut od' s bo sf bl bh c1 c2 h1 (fun P => ?_)) (e - b) b a_order (by omega) (Nat.le_refl b) (fun j _ => rfl) (fun j h1 h2 => by omega)⟩
      rw [← c3 P]
      exact cq_congr b (e - b) (fun j h1 h2' => by rw [h2 j h1 (by omega)])
    · omega
  | succ d ih =>
    intro ax best least s bo sf bl bh hax hc
    refine br_f (nI_ge (b := 3) (by omega) (by decide)) (xs (by omega) (by omega) he hv (fun s' hs => ?_))
    have hv' : ∀ j, b ≤ j → j < e → vb (s' j) := fun j h1 h2 => pe_v hs (fun j h1 h2 => hv j h1 (by omega)) j h1 (by omega)
    refine xb (by omega) he hv' (fun bl1 bh1 sf1 => xe (fun bl2 bh2 _ => ⟨e - b - 1 + 1, ?_⟩))
    refine xc_35 hbe he hs hv' (fun best' least' bo' bl' bh' hR => ih (ax + 1) best' least' s' bo' sf1 bl' bh' (by omega) (Or.inl hR)) (e - b - 1) b best least bo bl2 bh2 (by omega) (Nat.le_refl b) ?_
    rcases hc with hc | ⟨hc, _⟩
    · exact Or.inl hc
    · exact Or.inr ⟨hc, rfl⟩
theorem xc {b e : Nat} (hbe : b + 2 ≤ e) (he : e ≤ 14) (hv : ∀ j, b ≤ j → j < e → vb (a_order j)) {post : Int32 → SX → Prop} (h : ∀ (cut : Nat) (od' s bo sf bl bh : Nat → Int32), b < cut → cut < e → (∀ j, j < b ∨ e ≤ j → od' j = a_order j) → pe od' a_order b (e - b) → post (nI cut) (f_count, f_nodes, f_built, f_enterTop, f_enterBottom, f_leaveTop, f_leaveBottom, f_hitCount, a_low, a_high, a_nodeLow, a_nodeHigh, a_begins, a_ends, a_lefts, od', s, bo, sf, bl, bh, a_from, a_way, a_stack, a_listed, a_listTop, a_listBottom)) : wpX_chooseCut post (f_count, f_nodes, f_built, f_enterTop, f_enterBottom, f_leaveTop, f_leaveBottom, f_hitCount, a_low, a_high, a_nodeLow, a_nodeHigh, a_begins, a_ends, a_lefts, a_order, a_sorted, a_bestOrder, a_suffix, a_boundLow, a_boundHigh, a_from, a_way, a_stack, a_listed, a_listTop, a_listBottom) (nI b) (nI e) :=
  Exists.intro 4 (xc_8 hbe he hv h 3 0 (-1) 0 a_sorted a_bestOrder a_suffix a_boundLow a_boundHigh (by omega) (Or.inr ⟨rfl, rfl⟩))
end SO
end
section
/-! building the tree: the intervals -/
def bs (bg en : Nat → Nat) : Nat → Nat
  | 0 => 0
  | k + 1 => bs bg en k + (2 * (en k - bg k) - 2)
theorem bs_s {bg en : Nat → Nat} {k : Nat} : bs bg en (k + 1) = bs bg en k + (2 * (en k - bg k) - 2) := rfl
theorem bs_m {bg en : Nat → Nat} {i k : Nat} (h : i ≤ k) : bs bg en i ≤ bs bg en k := by
  obtain ⟨d, rfl⟩ : ∃ d, k = i + d := ⟨k - i, by omega⟩
  induction d with
  | zero => exact Nat.le_refl _
  | succ d ih =>
    have := ih (by omega)
    show bs bg en i ≤ bs bg en (i + d) + _
    omega
theorem bs_c {bg en bg' en' : Nat → Nat} : ∀ k, (∀ j, j < k → bg' j = bg j ∧ en' j = en j) → bs bg' en' k = bs bg en k := by
  intro k
  induction k with
  | zero => intro _; rfl
  | succ k ih =>
    intro h
    rw [bs_s, bs_s, ih (fun j hj => h j (by omega)), (h k (by omega)).1, (h k (by omega)).2]
def bI (n M i : Nat) (bg en lf : Nat → Nat) : Prop := i ≤ M ∧ 1 ≤ M ∧ bg 0 = 0 ∧ en 0 = n ∧ (∀ j, j < M → bg j < en j ∧ en j ≤ n) ∧ (∀ j, j < i → bg j + 1 = en j ∨ (lf j + 1 < M ∧ bg (lf j) = bg j ∧ en (lf j) = bg (lf j + 1) ∧ en (lf j + 1) = en j)) ∧ (∀ j o, j < M → i ≤ o → o < M → j ≠ o → (en j ≤ bg o ∨ en o ≤ bg j) ∨ (j < i ∧ bg j ≤ bg o ∧ en o ≤ en j)) ∧ M + bs bg en M ≤ 2 * n - 1 + bs bg en i
theorem bI_M {n M i : Nat} {bg en lf : Nat → Nat} (h : bI n M i bg en lf) : M ≤ 2 * n - 1 := by
  obtain ⟨h1, _, _, _, _, _, _, h8⟩ := h
  have := bs_m (bg := bg) (en := en) h1
  omega
theorem bI_2 {n M i : Nat} {bg en lf : Nat → Nat} (h : bI n M i bg en lf) (hi : i < M) (h2 : bg i + 2 ≤ en i) : M + 2 ≤ 2 * n - 1 := by
  obtain ⟨h1, _, _, _, _, _, _, h8⟩ := h
  have h3 := bs_m (bg := bg) (en := en) (show i + 1 ≤ M from hi)
  rw [bs_s] at h3
  omega
theorem bI_leaf {n M i : Nat} {bg en lf : Nat → Nat} (h : bI n M i bg en lf) (hi : i < M) (hl : bg i + 1 = en i) : bI n M (i + 1) bg en lf := by
  obtain ⟨h1, h2, h3, h4, h5, h6, h7, h8⟩ := h
  refine ⟨hi, h2, h3, h4, h5, lt_s h6 (Or.inl hl), fun j o a b c d => ?_, ?_⟩
  · rcases h7 j o a (by omega) c d with z | z
    · exact Or.inl z
    · exact Or.inr ⟨by omega, z.2⟩
  · rw [bs_s]; omega
def bB1 (M : Nat) (f : Nat → Nat) (x y : Nat) : Nat → Nat := fun j => if j = M then x else if j = M + 1 then y else f j
theorem bB1_0 {M x y : Nat} {f : Nat → Nat} : bB1 M f x y M = x := if_pos rfl
theorem bB1_1 {M x y : Nat} {f : Nat → Nat} : bB1 M f x y (M + 1) = y := by
  unfold bB1
  rw [if_neg (by omega), if_pos rfl]
theorem bB1_n {M x y j : Nat} {f : Nat → Nat} (h : j < M) : bB1 M f x y j = f j := by
  unfold bB1
  rw [if_neg (by omega), if_neg (by omega)]
theorem bI_split {n M i cut : Nat} {bg en lf : Nat → Nat} (h : bI n M i bg en lf) (hi : i < M) (hc1 : bg i < cut) (hc2 : cut < en i) : bI n (M + 2) (i + 1) (bB1 M bg (bg i) cut) (bB1 M en cut (en i)) (fun j => if j = i then M else lf j) := by
  obtain ⟨h1, h2, h3, h4, h5, h6, h7, h8⟩ := h
  have hb0 := bB1_0 (M := M) (x := bg i) (y := cut) (f := bg)
  have hb1 := bB1_1 (M := M) (x := bg i) (y := cut) (f := bg)
  have he0 := bB1_0 (M := M) (x := cut) (y := en i) (f := en)
  have he1 := bB1_1 (M := M) (x := cut) (y := en i) (f := en)
  have hbn : ∀ j, j < M → bB1 M bg (bg i) cut j = bg j := fun j hj => bB1_n hj
  have hen : ∀ j, j < M → bB1 M en cut (en i) j = en j := fun j hj => bB1_n hj
  generalize hB : bB1 M bg (bg i) cut = BG at *
  generalize hE : bB1 M en cut (en i) = EN at *
  have h5i := h5 i hi
  refine ⟨by omega, by omega, by rw [hbn 0 (by omega)]; exact h3, by rw [hen 0 (by omega)]; exact h4, fun j hj => ?_, fun j hj => ?_, fun j o a b c d => ?_, ?_⟩
  · by_cases e0 : j = M
    · subst e0; omega
    · by_cases e1 : j = M + 1
      · subst e1; omega
      · rw [hbn j (by omega), hen j (by omega)]; exact h5 j (by omega)
  · dsimp only
    by_cases e0 : j = i
    · subst e0
      right
      rw [if_pos rfl, hb0, hb1, he0, he1, hbn j hi, hen j hi]
      exact ⟨by omega, rfl, rfl, rfl⟩
    · rw [if_neg e0]
      have e1 := hbn j (by omega)
      have e2 := hen j (by omega)
      rcases h6 j (by omega) with z | ⟨z1, z2, z3, z4⟩
      · left; omega
      · right
        have e3 := hbn (lf j) (by omega)
        have e4 := hen (lf j) (by omega)
        have e5 := hbn (lf j + 1) (by omega)
        have e6 := hen (lf j + 1) (by omega)
        omega
  · by_cases o1 : o < M
    · have f1 := hbn o o1
      have f2 := hen o o1
      by_cases j1 : j < M
      · have f3 := hbn j j1
        have f4 := hen j j1
        have := h7 j o j1 (by omega) o1 d
        omega
      · have := h7 i o hi (by omega) o1 (by omega)
        by_cases j2 : j = M
        · subst j2; omega
        · have : j = M + 1 := by omega
          subst this; omega
    · by_cases j1 : j < M
      · have f3 := hbn j j1
        have f4 := hen j j1
        by_cases ji : j = i
        · subst ji
          right
          by_cases o2 : o = M
          · subst o2; omega
          · have : o = M + 1 := by omega
            subst this; omega
        · have := h7 j i j1 (Nat.le_refl i) hi ji
          by_cases o2 : o = M
          · subst o2; omega
          · have : o = M + 1 := by omega
            subst this; omega
      · by_cases o2 : o = M
        · subst o2
          have : j = o + 1 := by omega
          subst this; omega
        · have : o = M + 1 := by omega
          subst this
          have : j = M := by omega
          subst this; omega
  · have g1 := bs_c (bg := bg) (en := en) (bg' := BG) (en' := EN) M (fun j hj => ⟨hbn j hj, hen j hj⟩)
    have g2 := bs_c (bg := bg) (en := en) (bg' := BG) (en' := EN) (i + 1) (fun j hj => ⟨hbn j (by omega), hen j (by omega)⟩)
    show M + 2 + (bs BG EN M + (2 * (EN M - BG M) - 2) + (2 * (EN (M + 1) - BG (M + 1)) - 2)) ≤ _
    rw [g1, g2, bs_s]
    omega
/-! with the arrays -/
def oN (a : Nat → Int32) : Nat → Nat := fun k => (a k).toNatClampNeg
def bJ (n M i : Nat) (bg en lf : Nat → Nat) (lo hi nl nh ab ae al ao : Nat → Int32) : Prop := bI n M i bg en lf ∧ (∀ j, j < M → ab j = nI (bg j) ∧ ae j = nI (en j)) ∧ (∀ j, j < i → bg j + 1 = en j ∨ al j = nI (lf j)) ∧ (∀ k, k < n → ao k = nI (oN ao k)) ∧ pm (oN ao) n ∧ ∀ j, j < i → tr_fit (oN ao) lo hi nl nh (bg j) (en j) j
theorem fit_c {od od' : Nat → Nat} {lo hi nl nh nl' nh' : Nat → Int32} {b e i : Nat} (hm : ∀ x, me od' b e x ↔ me od b e x) (hn : ∀ a, a < 3 → nl' (3 * i + a) = nl (3 * i + a) ∧ nh' (3 * i + a) = nh (3 * i + a)) (h : tr_fit od lo hi nl nh b e i) : tr_fit od' lo hi nl' nh' b e i := by
  intro a ha
  obtain ⟨h1, ⟨x, x1, x2⟩, ⟨y, y1, y2⟩⟩ := h a ha
  rw [(hn a ha).1, (hn a ha).2]
  exact ⟨fun z hz => h1 z ((hm z).mp hz), ⟨x, (hm x).mpr x1, x2⟩, ⟨y, (hm y).mpr y1, y2⟩⟩
theorem bJ_ok {n M : Nat} {bg en lf : Nat → Nat} {lo hi nl nh ab ae al ao : Nat → Int32} (h0 : 0 < n) (hn : n ≤ 14) (h : bJ n M M bg en lf lo hi nl nh ab ae al ao) : tr_OK n (nI M) lo hi nl nh ab ae al ao := by
  obtain ⟨hI, h1, h2, h3, h4, h5⟩ := h
  have hM := bI_M hI
  obtain ⟨g1, g2, g3, g4, g5, g6, g7, g8⟩ := hI
  refine ⟨M, bg, en, lf, oN ao, rfl, fun z => by omega, fun _ => ⟨by omega, g3, g4⟩, by omega, hn, h3, h4, fun i hi => ⟨⟨(g5 i hi).1, (g5 i hi).2, g6 i hi⟩, ⟨(h1 i hi).1, (h1 i hi).2, h2 i hi⟩, h5 i hi⟩⟩
theorem bJ_leaf {n M i : Nat} {bg en lf : Nat → Nat} {lo hi nl nh ab ae al ao nl' nh' : Nat → Int32} (h : bJ n M i bg en lf lo hi nl nh ab ae al ao) (hi' : i < M) (hl : bg i + 1 = en i) (hn : ∀ j, j < 3 * i ∨ 3 * i + 3 ≤ j → nl' j = nl j ∧ nh' j = nh j) (hf : tr_fit (oN ao) lo hi nl' nh' (bg i) (en i) i) : bJ n M (i + 1) bg en lf lo hi nl' nh' ab ae al ao := by
  obtain ⟨hI, h1, h2, h3, h4, h5⟩ := h
  refine ⟨bI_leaf hI hi' hl, h1, lt_s h2 (Or.inl hl), h3, h4, lt_s (fun j hj => ?_) hf⟩
  exact fit_c (fun x => Iff.rfl) (fun a ha => hn (3 * j + a) (by omega)) (h5 j hj)
theorem bJ_split {n M i cut : Nat} {bg en lf : Nat → Nat} {lo hi nl nh ab ae al ao nl' nh' ao' : Nat → Int32} (hn14 : n ≤ 14) (h : bJ n M i bg en lf lo hi nl nh ab ae al ao) (hi' : i < M) (hc1 : bg i < cut) (hc2 : cut < en i) (hn : ∀ j, j < 3 * i ∨ 3 * i + 3 ≤ j → nl' j = nl j ∧ nh' j = nh j) (hf : tr_fit (oN ao) lo hi nl' nh' (bg i) (en i) i) (ho1 : ∀ j, j < bg i ∨ en i ≤ j → ao' j = ao j) (ho2 : pe ao' ao (bg i) (en i - bg i)) : bJ n (M + 2) (i + 1) (bB1 M bg (bg i) cut) (bB1 M en cut (en i)) (fun j => if j = i then M else lf j) lo hi nl' nh' (upd (upd ab M (nI (bg i))) (M + 1) (nI cut)) (upd (upd ae M (nI cut)) (M + 1) (nI (en i))) (upd al i (nI M)) ao' := by
  obtain ⟨hI, h1, h2, h3, h4, h5⟩ := h
  have hIS := bI_split hI hi' hc1 hc2
  obtain ⟨g1, g2, g3, g4, g5, g6, g7, g8⟩ := hI
  have hen := (g5 i hi').2
  have R : rr (oN ao) (oN ao') (bg i) (en i) := by
    refine ⟨fun k hk => ?_, fun P => ho2 (fun x => P x.toNatClampNeg)⟩
    unfold oN
    rw [ho1 k hk]
  have F : ∀ j, j < i + 1 → tr_fit (oN ao) lo hi nl' nh' (bg j) (en j) j := lt_s (fun j hj => fit_c (fun x => Iff.rfl) (fun a ha => hn (3 * j + a) (by omega)) (h5 j hj)) hf
  refine ⟨hIS, fun j hj => ?_, fun j hj => ?_, fun k hk => ?_, rr_pm R (by omega) hen h4, fun j hj => ?_⟩
  · by_cases e0 : j = M
    · subst e0
      rw [bB1_0, bB1_0, pk_un (by omega), pk_us, pk_un (by omega), pk_us]
      exact ⟨rfl, rfl⟩
    · by_cases e1 : j = M + 1
      · subst e1
        rw [bB1_1, bB1_1, pk_us, pk_us]
        exact ⟨rfl, rfl⟩
      · rw [bB1_n (by omega), bB1_n (by omega), pk_un (by omega), pk_un (by omega), pk_un (by omega), pk_un (by omega)]
        exact h1 j (by omega)
  · by_cases e0 : j = i
    · subst e0
      right
      rw [pk_us]
      exact congrArg nI (if_pos rfl).symm
    · rw [bB1_n (by omega), bB1_n (by omega), pk_un e0]
      rcases h2 j (by omega) with z | z
      · exact Or.inl z
      · right
        rw [z]
        exact congrArg nI (if_neg e0).symm
  · by_cases hk2 : k < bg i ∨ en i ≤ k
    · have e : oN ao' k = oN ao k := R.1 k hk2
      rw [e, ho1 k hk2]
      exact h3 k hk
    · obtain ⟨m, hm, em⟩ := pe_v ho2 (fun j j1 j2 => ⟨oN ao j, by have := pm_lt h4 (show j < n by omega); omega, h3 j (by omega)⟩) k (by omega) (by omega)
      unfold oN
      rw [em, nI_clamp (by omega)]
  · rw [bB1_n (by omega), bB1_n (by omega)]
    refine fit_c (fun x => ?_) (fun a ha => ⟨rfl, rfl⟩) (F j hj)
    by_cases e0 : j = i
    · subst e0; exact rr_me R x
    · rcases g7 j i (by omega) (Nat.le_refl i) hi' e0 with z | z
      · exact rr_dis R (by omega) x
      · exact rr_sup R (by omega) z.2.1 z.2.2 x
section BU
variable {f_count f_nodes f_built f_enterTop f_enterBottom f_leaveTop f_leaveBottom f_hitCount : Int32} {a_low a_high a_nodeLow a_nodeHigh a_begins a_ends a_lefts a_order a_sorted a_bestOrder a_suffix a_boundLow a_boundHigh a_from a_way a_stack a_listed a_listTop a_listBottom : Nat → Int32}
theorem xu_73 {n : Nat} (h0 : 0 < n) (hn : n ≤ 14) (hB : bB n a_low a_high) {post : SX → Prop} (h : ∀ (fn : Int32) (nl nh ab ae al ao s bo sf bl bh : Nat → Int32), tr_OK n fn a_low a_high nl nh ab ae al ao → post (f_count, fn, f_built, f_enterTop, f_enterBottom, f_leaveTop, f_leaveBottom, f_hitCount, a_low, a_high, nl, nh, ab, ae, al, ao, s, bo, sf, bl, bh, a_from, a_way, a_stack, a_listed, a_listTop, a_listBottom)) : ∀ (d i M : Nat) (bg en lf : Nat → Nat) (nl nh ab ae al ao s bo sf bl bh : Nat → Int32), i + d = 27 → bJ n M i bg en lf a_low a_high nl nh ab ae al ao → wX_build_73 post (d + 1) (nI i) f_count (nI M) f_built f_enterTop f_enterBottom f_leaveTop f_leaveBottom f_hitCount a_low a_high nl nh ab ae al ao s bo sf bl bh a_from a_way a_stack a_listed a_listTop a_listBottom := by
  intro d
  induction d with
  | zero =>
    intro i M bg en lf nl nh ab ae al ao s bo sf bl bh hi J
    have hM := bI_M J.1
    have hiM := J.1.1
    have e1 : i = M := by omega
    subst e1
    exact br_t (nI_le (a := 27) (by omega) (by omega)) (h _ _ _ _ _ _ _ s bo sf bl bh (bJ_ok h0 hn J))
  | succ d ih =>
    intro i M bg en lf nl nh ab ae al ao s bo sf bl bh hi J
    have hM := bI_M J.1
    have hiM := J.1.1
    refine br_f (nI_ge (b := 27) (by omega) (by decide)) ?_
    by_cases e1 : i = M
    · subst e1
      exact br_t (nI_le (Nat.le_refl _) (by omega)) (h _ _ _ _ _ _ _ s bo sf bl bh (bJ_ok h0 hn J))
    · have hlt : i < M := by omega
      have g5 := J.1.2.2.2.2.1 i hlt
      have ga := J.2.1 i hlt
      have v : vp_in (nI i) 27 := vp_in_nI (by omega) (by omega)
      have ei : (nI i).toNatClampNeg = i := nI_clamp (by omega)
      refine br_f (nI_ge hlt (by omega)) (xf (n := n) hn hB (by omega) g5.1 g5.2 ga.1 ga.2 (fun k hk => ⟨J.2.2.2.1 k hk, pm_lt J.2.2.2.2.1 hk⟩) (fun bl1 bh1 nl1 nh1 hn1 hf1 => ⟨v, v, ?_⟩))
      have es : ae (nI i).toNatClampNeg - ab (nI i).toNatClampNeg = nI (en i - bg i) := by
        rw [ei, ga.1, ga.2, pk_sub (by omega)]
      by_cases hl : bg i + 1 = en i
      · refine br_t (by rw [es]; exact nI_le (b := 1) (by omega) (by decide)) (nm_r (nI_1 i) (ih (i + 1) M bg en lf _ _ _ _ _ _ _ _ _ _ _ (by omega) (bJ_leaf J hlt hl hn1 hf1)))
      · have hM2 := bI_2 J.1 hlt (by omega)
        refine br_f (by rw [es]; exact nI_ge (a := 1) (by omega) (by omega)) ⟨v, v, ?_⟩
        rw [ei, ga.1, ga.2]
        refine xc (by omega) (by omega) (fun j j1 j2 => ⟨oN ao j, by have := pm_lt J.2.2.2.2.1 (show j < n by omega); omega, J.2.2.2.1 j (by omega)⟩) (fun cut ao' s' bo' sf' bl' bh' c1 c2 o1 o2 => ?_)
        have vM : vp_in (nI M) 27 := vp_in_nI (by omega) (by omega)
        have vM1 : vp_in (nI M + 1) 27 := by rw [nI_1]; exact vp_in_nI (by omega) (by omega)
        have eM : (nI M).toNatClampNeg = M := nI_clamp (by omega)
        have eM1 : (nI M + 1).toNatClampNeg = M + 1 := by rw [nI_1]; exact nI_clamp (by omega)
        have k2 : upd ab (nI M).toNatClampNeg (ab i) = upd ab M (nI (bg i)) := by rw [eM, ga.1]
        have k3 : upd ae (nI M).toNatClampNeg (nI cut) = upd ae M (nI cut) := by rw [eM]
        have k4 : upd (upd ab M (nI (bg i))) (nI M + 1).toNatClampNeg (nI cut) = upd (upd ab M (nI (bg i))) (M + 1) (nI cut) := by rw [eM1]
        have k5 : upd (upd ae M (nI cut)) (nI M + 1).toNatClampNeg (upd ae M (nI cut) i) = upd (upd ae M (nI cut)) (M + 1) (nI (en i)) := by rw [eM1, pk_un (by omega), ga.2]
        exact ⟨v, nm_e ⟨v, vM, nm_r k2 ⟨vM, nm_r k3 ⟨vM1, nm_r k4 ⟨v, vM1, nm_r k5 (nm_r (qn_2 M) (nm_r (nI_1 i) (ih (i + 1) (M + 2) _ _ _ _ _ _ _ _ _ _ _ _ _ _ (by omega) (bJ_split hn J hlt c1 c2 hn1 hf1 o1 o2))))⟩⟩⟩⟩⟩
theorem pm_id (n : Nat) (od : Nat → Nat) (h : ∀ k, k < n → od k = k) : pm od n := by
  intro P
  exact cq_congr 0 n (fun j _ hj => by rw [h j (by omega)])
theorem xu_28 {n : Nat} (h0 : 0 < n) (hn : n ≤ 14) (hB : bB n a_low a_high) {post : SX → Prop} (h : ∀ (fn : Int32) (nl nh ab ae al ao s bo sf bl bh : Nat → Int32), tr_OK n fn a_low a_high nl nh ab ae al ao → post (nI n, fn, f_built, f_enterTop, f_enterBottom, f_leaveTop, f_leaveBottom, f_hitCount, a_low, a_high, nl, nh, ab, ae, al, ao, s, bo, sf, bl, bh, a_from, a_way, a_stack, a_listed, a_listTop, a_listBottom)) : ∀ (d k : Nat) (ao : Nat → Int32), k + d = n → (∀ j, j < k → ao j = nI j) → wX_build_28 post (nI n) f_nodes f_built f_enterTop f_enterBottom f_leaveTop f_leaveBottom f_hitCount (d + 1) (nI k) a_low a_high a_nodeLow a_nodeHigh a_begins a_ends a_lefts ao a_sorted a_bestOrder a_suffix a_boundLow a_boundHigh a_from a_way a_stack a_listed a_listTop a_listBottom := by
  intro d
  induction d with
  | zero =>
    intro k ao hk ho
    have ek : k = n := by omega
    subst ek
    refine br_t (nI_le (Nat.le_refl _) (by omega)) (nm_e (nm_e ⟨28, xu_73 h0 hn hB h 27 0 1 (fun _ => 0) (fun _ => k) (fun _ => 0) a_nodeLow a_nodeHigh _ _ a_lefts ao a_sorted a_bestOrder a_suffix a_boundLow a_boundHigh (by omega) ⟨⟨by omega, by omega, rfl, rfl, fun j hj => ⟨h0, Nat.le_refl k⟩, fun j hj => by omega, fun j o _ _ _ _ => by omega, ?_⟩, fun j hj => ?_, fun j hj => by omega, fun j hj => ?_, pm_id k _ (fun j hj => ?_), fun j hj => by omega⟩⟩))
    · show 1 + (0 + (2 * (k - 0) - 2)) ≤ 2 * k - 1 + 0
      omega
    · have : j = 0 := by omega
      subst this
      exact ⟨pk_us, pk_us⟩
    · unfold oN
      rw [ho j hj, nI_clamp (by omega)]
    · unfold oN
      rw [ho j hj, nI_clamp (by omega)]
  | succ d ih =>
    intro k ao hk ho
    have v : vp_in (nI k) 14 := vp_in_nI (by omega) (by omega)
    have e1 : upd ao (nI k).toNatClampNeg (nI k) = upd ao k (nI k) := by rw [nI_clamp (by omega)]
    refine br_f (nI_ge (by omega) (by omega)) ⟨v, nm_r e1 (nm_r (nI_1 k) (ih (k + 1) _ (by omega) (fun j hj => ?_)))⟩
    by_cases hjk : j = k
    · subst hjk; exact pk_us
    · rw [pk_un hjk]; exact ho j (by omega)
/-- the tree stands behind build -/
theorem xu {n : Nat} (hn : n ≤ 14) (hB : bB n a_low a_high) (ht : f_built = 0 ∨ (f_built = 1 ∧ tr_OK n f_nodes a_low a_high a_nodeLow a_nodeHigh a_begins a_ends a_lefts a_order)) {post : SX → Prop} (h : ∀ (fn : Int32) (nl nh ab ae al ao s bo sf bl bh : Nat → Int32), tr_OK n fn a_low a_high nl nh ab ae al ao → post (nI n, fn, 1, f_enterTop, f_enterBottom, f_leaveTop, f_leaveBottom, f_hitCount, a_low, a_high, nl, nh, ab, ae, al, ao, s, bo, sf, bl, bh, a_from, a_way, a_stack, a_listed, a_listTop, a_listBottom)) : wpX_build post (nI n, f_nodes, f_built, f_enterTop, f_enterBottom, f_leaveTop, f_leaveBottom, f_hitCount, a_low, a_high, a_nodeLow, a_nodeHigh, a_begins, a_ends, a_lefts, a_order, a_sorted, a_bestOrder, a_suffix, a_boundLow, a_boundHigh, a_from, a_way, a_stack, a_listed, a_listTop, a_listBottom) := by
  rcases ht with rfl | ⟨rfl, ht⟩
  · refine br_t rfl ?_
    by_cases h0 : n = 0
    · subst h0
      refine br_t nI_0 (h _ _ _ _ _ _ _ _ _ _ _ _ ⟨0, fun _ => 0, fun _ => 0, fun _ => 0, fun _ => 0, rfl, fun _ => rfl, fun z => by omega, by omega, by omega, fun k hk => by omega, fun P => rfl, fun i hi => by omega⟩)
    · exact br_f (nI_ne0 (by omega) (by omega)) ⟨n + 1, xu_28 (by omega) hn hB h n 0 a_order (by omega) (fun j hj => by omega)⟩
  · exact br_f n10 (h _ _ _ _ _ _ _ _ _ _ _ _ ht)
end BU
end
section
/-! a ray through a bound: the walk -/
theorem qm {x y : Int32} {X Y : Int} (hx : x.toInt = X) (hy : y.toInt = Y) (b1 : -200 ≤ X) (b2 : X ≤ 200) (b3 : 0 ≤ Y) (b4 : Y ≤ 20) : (x * y).toInt = X * Y := by
  have := gb_m b1 b2 b3 b4
  rw [qn_mul (by rw [hx, hy]; omega) (by rw [hx, hy]; omega), hx, hy]
def pR (l h f d : Nat → Int) (r et eb lt lb : Int32) : Prop := (r = 0 ∧ ¬ ge_P l h f d) ∨ (r = 1 ∧ ge_P l h f d ∧ (et.toInt = (ge_E l h f d 3).1 ∧ eb.toInt = (ge_E l h f d 3).2) ∧ lt.toInt = (ge_V l h f d 3).1 ∧ lb.toInt = (ge_V l h f d 3).2)
section PA
variable {f_count f_nodes f_built f_enterTop f_enterBottom f_leaveTop f_leaveBottom f_hitCount : Int32} {a_low a_high a_nodeLow a_nodeHigh a_begins a_ends a_lefts a_order a_sorted a_bestOrder a_suffix a_boundLow a_boundHigh a_from a_way a_stack a_listed a_listTop a_listBottom : Nat → Int32}
variable {l h f d : Nat → Int}
theorem pa_145 {k : Nat} {x5 x7 et eb lt lb : Int32} (hb : ge_b l h f d) (hk : k < 3) (hd : d k ≠ 0) (h5 : x5.toInt = ge_sz d k) (h7 : x7.toInt = ge_la l h f d k) (hlt : lt.toInt = (ge_V l h f d k).1) (hlb : lb.toInt = (ge_V l h f d k).2) {post : Int32 → SX → Prop} {J22 : Int32 → Int32 → Int32 → Int32 → Int32 → Prop} (hJ : ∀ lt' lb' : Int32, lt'.toInt = (ge_V l h f d (k + 1)).1 → lb'.toInt = (ge_V l h f d (k + 1)).2 → J22 (nI (k + 1)) et eb lt' lb') : wX_pass_145 post J22 (nI k) x5 x7 f_count f_nodes f_built et eb lt lb f_hitCount a_low a_high a_nodeLow a_nodeHigh a_begins a_ends a_lefts a_order a_sorted a_bestOrder a_suffix a_boundLow a_boundHigh a_from a_way a_stack a_listed a_listTop a_listBottom := by
  have bv := ge_Vb hb k (by omega)
  have vn := ge_Vn (l := l) (h := h) (f := f) (d := d) k
  have bf := ge_bf hb hk
  have sp := ge_sp hd
  have S : ((ge_V l h f d k).2 = 0 ∨ ge_la l h f d k * (ge_V l h f d k).2 < (ge_V l h f d k).1 * ge_sz d k) → wX_pass_169 post J22 (nI k) x5 x7 f_count f_nodes f_built et eb lt lb f_hitCount a_low a_high a_nodeLow a_nodeHigh a_begins a_ends a_lefts a_order a_sorted a_bestOrder a_suffix a_boundLow a_boundHigh a_from a_way a_stack a_listed a_listTop a_listBottom := by
    intro c
    refine nm_r (nI_1 k) (hJ _ _ ?_ ?_)
    · rw [ge_Vs, if_neg hd, if_pos c]; exact h7
    · rw [ge_Vs, if_neg hd, if_pos c]; exact h5
  have m1 : (lt * x5).toInt = (ge_V l h f d k).1 * ge_sz d k := qm hlt h5 (by omega) (by omega) (by omega) (by omega)
  have m2 : (x7 * lb).toInt = ge_la l h f d k * (ge_V l h f d k).2 := qm h7 hlb (by omega) (by omega) (by omega) (by omega)
  by_cases c0 : lb = 0
  · refine br_t c0 (S (Or.inl ?_))
    rw [← hlb, c0]; exact qn_0
  · have c0' : (ge_V l h f d k).2 ≠ 0 := fun z => c0 (Int32.toInt_inj.mp (by rw [hlb, z, qn_0]))
    refine br_f c0 (br_c (fun c => ?_) (fun c => S (Or.inr ?_)))
    · have c' := Int32.le_iff_toInt_le.mp c
      rw [m1, m2] at c'
      have cn : ¬ ((ge_V l h f d k).2 = 0 ∨ ge_la l h f d k * (ge_V l h f d k).2 < (ge_V l h f d k).1 * ge_sz d k) := by
        rintro (z | z)
        · exact c0' z
        · omega
      refine nm_r (nI_1 k) (hJ _ _ ?_ ?_)
      · rw [ge_Vs, if_neg hd, if_neg cn]; exact hlt
      · rw [ge_Vs, if_neg hd, if_neg cn]; exact hlb
    · have c' : ¬ (lt * x5).toInt ≤ (x7 * lb).toInt := fun z => c (Int32.le_iff_toInt_le.mpr z)
      rw [m1, m2] at c'
      omega
theorem pa_114 {k : Nat} {x5 x6 x7 et eb lt lb : Int32} (hb : ge_b l h f d) (hk : k < 3) (hd : d k ≠ 0) (h5 : x5.toInt = ge_sz d k) (h6 : x6.toInt = ge_fi l h f d k) (h7 : x7.toInt = ge_la l h f d k) (het : et.toInt = (ge_E l h f d k).1) (heb : eb.toInt = (ge_E l h f d k).2) (hlt : lt.toInt = (ge_V l h f d k).1) (hlb : lb.toInt = (ge_V l h f d k).2) {post : Int32 → SX → Prop} {J22 : Int32 → Int32 → Int32 → Int32 → Int32 → Prop} (hJ : ∀ et' eb' lt' lb' : Int32, et'.toInt = (ge_E l h f d (k + 1)).1 → eb'.toInt = (ge_E l h f d (k + 1)).2 → lt'.toInt = (ge_V l h f d (k + 1)).1 → lb'.toInt = (ge_V l h f d (k + 1)).2 → J22 (nI (k + 1)) et' eb' lt' lb') : wX_pass_114 post J22 (nI k) x5 x6 x7 f_count f_nodes f_built et eb lt lb f_hitCount a_low a_high a_nodeLow a_nodeHigh a_begins a_ends a_lefts a_order a_sorted a_bestOrder a_suffix a_boundLow a_boundHigh a_from a_way a_stack a_listed a_listTop a_listBottom := by
  have be := ge_Eb hb k (by omega)
  have ep := ge_Ep (l := l) (h := h) (f := f) (d := d) k
  have bf := ge_bf hb hk
  have sp := ge_sp hd
  have m1 : (x6 * eb).toInt = ge_fi l h f d k * (ge_E l h f d k).2 := qm h6 heb (by omega) (by omega) (by omega) (by omega)
  have m2 : (et * x5).toInt = (ge_E l h f d k).1 * ge_sz d k := qm het h5 (by omega) (by omega) (by omega) (by omega)
  refine br_c (fun c => pa_145 hb hk hd h5 h7 hlt hlb (fun lt' lb' a b => hJ et eb lt' lb' ?_ ?_ a b)) (fun c => pa_145 hb hk hd h5 h7 hlt hlb (fun lt' lb' a b => hJ x6 x5 lt' lb' ?_ ?_ a b))
  all_goals have c' := (not_congr (Int32.le_iff_toInt_le (x := x6 * eb) (y := et * x5))); rw [m1, m2] at c'
  · rw [ge_Es, if_neg hd, if_neg (fun z => c'.mpr (by omega) c)]; exact het
  · rw [ge_Es, if_neg hd, if_neg (fun z => c'.mpr (by omega) c)]; exact heb
  · rw [ge_Es, if_neg hd, if_pos (by have := c'.mp c; omega)]; exact h6
  · rw [ge_Es, if_neg hd, if_pos (by have := c'.mp c; omega)]; exact h5
theorem pa_22 (hb : ge_b l h (wI a_from) (wI a_way)) (hz : ∃ a, a < 3 ∧ wI a_way a ≠ 0) (hl : ∀ a, a < 3 → (a_boundLow a).toInt = l a ∧ (a_boundHigh a).toInt = h a) {post : Int32 → SX → Prop} (hp : ∀ r et eb lt lb : Int32, pR l h (wI a_from) (wI a_way) r et eb lt lb → post r (f_count, f_nodes, f_built, et, eb, lt, lb, f_hitCount, a_low, a_high, a_nodeLow, a_nodeHigh, a_begins, a_ends, a_lefts, a_order, a_sorted, a_bestOrder, a_suffix, a_boundLow, a_boundHigh, a_from, a_way, a_stack, a_listed, a_listTop, a_listBottom)) : ∀ (m k : Nat) (et eb lt lb : Int32), k + m = 3 → ge_F l h (wI a_from) (wI a_way) k → et.toInt = (ge_E l h (wI a_from) (wI a_way) k).1 → eb.toInt = (ge_E l h (wI a_from) (wI a_way) k).2 → lt.toInt = (ge_V l h (wI a_from) (wI a_way) k).1 → lb.toInt = (ge_V l h (wI a_from) (wI a_way) k).2 → wX_pass_22 post f_count f_nodes f_built f_hitCount a_low a_high a_nodeLow a_nodeHigh a_begins a_ends a_lefts a_order a_sorted a_bestOrder a_suffix a_boundLow a_boundHigh a_from a_way a_stack a_listed a_listTop a_listBottom (m + 1) (nI k) et eb lt lb := by
  intro m
  induction m with
  | zero =>
    intro k et eb lt lb hk hF het heb hlt hlb
    have ek : k = 3 := by omega
    subst ek
    have be := ge_Eb hb 3 (by omega)
    have ep := ge_Ep (l := l) (h := h) (f := wI a_from) (d := wI a_way) 3
    have bv := ge_Vb hb 3 (by omega)
    have vn := ge_Vn (l := l) (h := h) (f := wI a_from) (d := wI a_way) 3
    have m1 := qm hlt heb (by omega) (by omega) (by omega) (by omega)
    have m2 := qm het hlb (by omega) (by omega) (by omega) (by omega)
    refine br_t (nI_le (a := 3) (b := 3) (by omega) (by decide)) (br_c (fun c => hp _ _ _ _ _ (Or.inl ⟨rfl, fun hP => ?_⟩)) (fun c => hp _ _ _ _ _ (Or.inr ⟨rfl, ⟨hF, ?_⟩, ⟨het, heb⟩, hlt, hlb⟩)))
    · have c' := Int32.lt_iff_toInt_lt.mp c
      rw [m1, m2] at c'
      have := hP.2
      omega
    · have c' : ¬ (lt * eb).toInt < (et * lb).toInt := fun z => c (Int32.lt_iff_toInt_lt.mpr z)
      rw [m1, m2] at c'
      omega
  | succ m ih =>
    intro k et eb lt lb hk hF het heb hlt hlb
    have hk3 : k < 3 := by omega
    have v : vp_in (nI k) 3 := vp_in_nI hk3 (by omega)
    have ek : (nI k).toNatClampNeg = k := nI_clamp (by omega)
    obtain ⟨b1, b2, b3, b4⟩ := hb k hk3
    have hl' := hl k hk3
    have f3 : (a_from k).toInt = wI a_from k := rfl
    have f4 : (a_way k).toInt = wI a_way k := rfl
    have en : a_boundLow (nI k).toNatClampNeg - a_from (nI k).toNatClampNeg = a_boundLow k - a_from k := by rw [ek]
    have ef : a_boundHigh (nI k).toNatClampNeg - a_from (nI k).toNatClampNeg = a_boundHigh k - a_from k := by rw [ek]
    have ed : a_way (nI k).toNatClampNeg = a_way k := by rw [ek]
    have tn : (a_boundLow k - a_from k).toInt = l k - wI a_from k := by
      rw [qn_sub (by rw [hl'.1, f3]; omega) (by rw [hl'.1, f3]; omega), hl'.1, f3]
    have tf : (a_boundHigh k - a_from k).toInt = h k - wI a_from k := by
      rw [qn_sub (by rw [hl'.2, f3]; omega) (by rw [hl'.2, f3]; omega), hl'.2, f3]
    refine br_f (nI_ge (b := 3) hk3 (by decide)) ⟨v, nm_r ed ⟨v, v, nm_r en ⟨v, v, nm_r ef ?_⟩⟩⟩
    by_cases hd : wI a_way k = 0
    · have hd' : a_way k = 0 := Int32.toInt_inj.mp (by rw [f4, hd, qn_0])
      have E1 : ge_E l h (wI a_from) (wI a_way) (k + 1) = ge_E l h (wI a_from) (wI a_way) k := by rw [ge_Es, if_pos hd]
      have V1 : ge_V l h (wI a_from) (wI a_way) (k + 1) = ge_V l h (wI a_from) (wI a_way) k := by rw [ge_Vs, if_pos hd]
      refine br_t hd' (br_c (fun c => hp _ _ _ _ _ (Or.inl ⟨rfl, fun hP => ?_⟩)) (fun c => br_c (fun c2 => nm_r (nI_1 k) (ih (k + 1) _ _ _ _ (by omega) (lt_s hF (fun _ => ?_)) ?_ ?_ ?_ ?_)) (fun c2 => hp _ _ _ _ _ (Or.inl ⟨rfl, fun hP => ?_⟩))))
      · have c' := Int32.lt_iff_toInt_lt.mp c
        rw [tn, qn_0] at c'
        have := hP.1 k hk3 hd
        omega
      · have c' : ¬ (0 : Int32).toInt < (a_boundLow k - a_from k).toInt := fun z => c (Int32.lt_iff_toInt_lt.mpr z)
        rw [tn, qn_0] at c'
        have c2' := Int32.le_iff_toInt_le.mp c2
        rw [tf, qn_0] at c2'
        constructor <;> omega
      · rw [E1]; exact het
      · rw [E1]; exact heb
      · rw [V1]; exact hlt
      · rw [V1]; exact hlb
      · have c2' : ¬ (0 : Int32).toInt ≤ (a_boundHigh k - a_from k).toInt := fun z => c2 (Int32.le_iff_toInt_le.mpr z)
        rw [tf, qn_0] at c2'
        have := hP.1 k hk3 hd
        omega
    · have hd' : ¬ a_way k = 0 := fun z => hd (by rw [← f4, z]; exact qn_0)
      have nx : ∀ et' eb' lt' lb' : Int32, et'.toInt = (ge_E l h (wI a_from) (wI a_way) (k + 1)).1 → eb'.toInt = (ge_E l h (wI a_from) (wI a_way) (k + 1)).2 → lt'.toInt = (ge_V l h (wI a_from) (wI a_way) (k + 1)).1 → lb'.toInt = (ge_V l h (wI a_from) (wI a_way) (k + 1)).2 → wX_pass_22 post f_count f_nodes f_built f_hitCount a_low a_high a_nodeLow a_nodeHigh a_begins a_ends a_lefts a_order a_sorted a_bestOrder a_suffix a_boundLow a_boundHigh a_from a_way a_stack a_listed a_listTop a_listBottom (m + 1) (nI (k + 1)) et' eb' lt' lb' := fun et' eb' lt' lb' a b c e => ih (k + 1) et' eb' lt' lb' (by omega) (lt_s hF (fun z => absurd z hd)) a b c e
      by_cases hs : 0 < wI a_way k
      · have c1 : ¬ a_way k ≤ 0 := fun z => by
          have := Int32.le_iff_toInt_le.mp z
          rw [f4, qn_0] at this; omega
        refine br_f hd' (br_f c1 (br_f c1 (br_f c1 (pa_114 hb hk3 hd ?_ ?_ ?_ het heb hlt hlb nx))))
        · unfold ge_sz; rw [if_pos hs]; exact f4
        · unfold ge_fi; rw [if_pos hs]; exact tn
        · unfold ge_la; rw [if_pos hs]; exact tf
      · have c1 : a_way k ≤ 0 := Int32.le_iff_toInt_le.mpr (by rw [f4, qn_0]; omega)
        refine br_f hd' (br_t c1 (br_t c1 (br_t c1 (pa_114 hb hk3 hd ?_ ?_ ?_ het heb hlt hlb nx))))
        · unfold ge_sz; rw [if_neg hs, qn_neg (by rw [f4]; omega) (by rw [f4]; omega), f4]
        · unfold ge_fi; rw [if_neg hs, qn_neg (by rw [tf]; omega) (by rw [tf]; omega), tf]; omega
        · unfold ge_la; rw [if_neg hs, qn_neg (by rw [tn]; omega) (by rw [tn]; omega), tn]; omega
theorem pa (hb : ge_b l h (wI a_from) (wI a_way)) (hz : ∃ a, a < 3 ∧ wI a_way a ≠ 0) (hl : ∀ a, a < 3 → (a_boundLow a).toInt = l a ∧ (a_boundHigh a).toInt = h a) {post : Int32 → SX → Prop} (hp : ∀ r et eb lt lb : Int32, pR l h (wI a_from) (wI a_way) r et eb lt lb → post r (f_count, f_nodes, f_built, et, eb, lt, lb, f_hitCount, a_low, a_high, a_nodeLow, a_nodeHigh, a_begins, a_ends, a_lefts, a_order, a_sorted, a_bestOrder, a_suffix, a_boundLow, a_boundHigh, a_from, a_way, a_stack, a_listed, a_listTop, a_listBottom)) : wpX_pass post (f_count, f_nodes, f_built, f_enterTop, f_enterBottom, f_leaveTop, f_leaveBottom, f_hitCount, a_low, a_high, a_nodeLow, a_nodeHigh, a_begins, a_ends, a_lefts, a_order, a_sorted, a_bestOrder, a_suffix, a_boundLow, a_boundHigh, a_from, a_way, a_stack, a_listed, a_listTop, a_listBottom) :=
  Exists.intro 4 (pa_22 hb hz hl hp 3 0 0 1 0 0 (by omega) (fun a ha => absurd ha (Nat.not_lt_zero a)) qn_0 qn_1 qn_0 qn_0)
theorem pR_n {r et eb lt lb : Int32} (hr : pR l h f d r et eb lt lb) : Jvm.narrow .boolean (.int r) = .int r := by
  rcases hr with ⟨rfl, _⟩ | ⟨rfl, _⟩
  · exact narrow_b0
  · exact narrow_b1
theorem xn_s {i a m : Nat} (ha : a < 3) (hi : i < 27) {post : Int32 → SX → Prop} (h : wX_passNode_2 post (nI i) f_count f_nodes f_built f_enterTop f_enterBottom f_leaveTop f_leaveBottom f_hitCount m (nI (a + 1)) a_low a_high a_nodeLow a_nodeHigh a_begins a_ends a_lefts a_order a_sorted a_bestOrder a_suffix (upd a_boundLow a (a_nodeLow (3 * i + a))) (upd a_boundHigh a (a_nodeHigh (3 * i + a))) a_from a_way a_stack a_listed a_listTop a_listBottom) : wX_passNode_2 post (nI i) f_count f_nodes f_built f_enterTop f_enterBottom f_leaveTop f_leaveBottom f_hitCount (m + 1) (nI a) a_low a_high a_nodeLow a_nodeHigh a_begins a_ends a_lefts a_order a_sorted a_bestOrder a_suffix a_boundLow a_boundHigh a_from a_way a_stack a_listed a_listTop a_listBottom := by
  have v : vp_in (3 * nI i + nI a) 81 := qn_i3 ha hi (by omega)
  have v3 : vp_in (nI a) 3 := vp_in_nI ha (by omega)
  have e1 : upd a_boundLow (nI a).toNatClampNeg (a_nodeLow (3 * nI i + nI a).toNatClampNeg) = upd a_boundLow a (a_nodeLow (3 * i + a)) := by rw [qn_c3 ha (by omega), nI_clamp (by omega)]
  have e2 : upd a_boundHigh (nI a).toNatClampNeg (a_nodeHigh (3 * nI i + nI a).toNatClampNeg) = upd a_boundHigh a (a_nodeHigh (3 * i + a)) := by rw [qn_c3 ha (by omega), nI_clamp (by omega)]
  exact br_f (nI_ge (b := 3) ha (by decide)) ⟨v, v3, nm_r e1 ⟨v, v3, nm_r e2 (nm_r (nI_1 a) h)⟩⟩
theorem xn {i : Nat} (hi : i < 27) (hb : ge_b (sl a_nodeLow i) (sl a_nodeHigh i) (wI a_from) (wI a_way)) (hz : ∃ a, a < 3 ∧ wI a_way a ≠ 0) {post : Int32 → SX → Prop} (hp : ∀ (r et eb lt lb : Int32) (bl bh : Nat → Int32), pR (sl a_nodeLow i) (sl a_nodeHigh i) (wI a_from) (wI a_way) r et eb lt lb → post r (f_count, f_nodes, f_built, et, eb, lt, lb, f_hitCount, a_low, a_high, a_nodeLow, a_nodeHigh, a_begins, a_ends, a_lefts, a_order, a_sorted, a_bestOrder, a_suffix, bl, bh, a_from, a_way, a_stack, a_listed, a_listTop, a_listBottom)) : wpX_passNode post (f_count, f_nodes, f_built, f_enterTop, f_enterBottom, f_leaveTop, f_leaveBottom, f_hitCount, a_low, a_high, a_nodeLow, a_nodeHigh, a_begins, a_ends, a_lefts, a_order, a_sorted, a_bestOrder, a_suffix, a_boundLow, a_boundHigh, a_from, a_way, a_stack, a_listed, a_listTop, a_listBottom) (nI i) := by
  refine Exists.intro 4 (xn_s (a := 0) (by omega) hi (xn_s (a := 1) (by omega) hi (xn_s (a := 2) (by omega) hi (br_t (nI_le (a := 3) (b := 3) (by omega) (by decide)) (pa hb hz ?_ (fun r et eb lt lb hr => ⟨pR_n hr, hp r et eb lt lb _ _ hr⟩))))))
  intro a ha
  obtain rfl | rfl | rfl : a = 0 ∨ a = 1 ∨ a = 2 := by omega
  all_goals exact ⟨rfl, rfl⟩
theorem xo_s {i a m : Nat} (ha : a < 3) (hi : i < 14) {post : Int32 → SX → Prop} (h : wX_passBox_2 post (nI i) f_count f_nodes f_built f_enterTop f_enterBottom f_leaveTop f_leaveBottom f_hitCount m (nI (a + 1)) a_low a_high a_nodeLow a_nodeHigh a_begins a_ends a_lefts a_order a_sorted a_bestOrder a_suffix (upd a_boundLow a (a_low (3 * i + a))) (upd a_boundHigh a (a_high (3 * i + a))) a_from a_way a_stack a_listed a_listTop a_listBottom) : wX_passBox_2 post (nI i) f_count f_nodes f_built f_enterTop f_enterBottom f_leaveTop f_leaveBottom f_hitCount (m + 1) (nI a) a_low a_high a_nodeLow a_nodeHigh a_begins a_ends a_lefts a_order a_sorted a_bestOrder a_suffix a_boundLow a_boundHigh a_from a_way a_stack a_listed a_listTop a_listBottom := by
  have v : vp_in (3 * nI i + nI a) 42 := qn_i3 ha hi (by omega)
  have v3 : vp_in (nI a) 3 := vp_in_nI ha (by omega)
  have e1 : upd a_boundLow (nI a).toNatClampNeg (a_low (3 * nI i + nI a).toNatClampNeg) = upd a_boundLow a (a_low (3 * i + a)) := by rw [qn_c3 ha (by omega), nI_clamp (by omega)]
  have e2 : upd a_boundHigh (nI a).toNatClampNeg (a_high (3 * nI i + nI a).toNatClampNeg) = upd a_boundHigh a (a_high (3 * i + a)) := by rw [qn_c3 ha (by omega), nI_clamp (by omega)]
  exact br_f (nI_ge (b := 3) ha (by decide)) ⟨v, v3, nm_r e1 ⟨v, v3, nm_r e2 (nm_r (nI_1 a) h)⟩⟩
theorem xo {i : Nat} (hi : i < 14) (hb : ge_b (sl a_low i) (sl a_high i) (wI a_from) (wI a_way)) (hz : ∃ a, a < 3 ∧ wI a_way a ≠ 0) {post : Int32 → SX → Prop} (hp : ∀ (r et eb lt lb : Int32) (bl bh : Nat → Int32), pR (sl a_low i) (sl a_high i) (wI a_from) (wI a_way) r et eb lt lb → post r (f_count, f_nodes, f_built, et, eb, lt, lb, f_hitCount, a_low, a_high, a_nodeLow, a_nodeHigh, a_begins, a_ends, a_lefts, a_order, a_sorted, a_bestOrder, a_suffix, bl, bh, a_from, a_way, a_stack, a_listed, a_listTop, a_listBottom)) : wpX_passBox post (f_count, f_nodes, f_built, f_enterTop, f_enterBottom, f_leaveTop, f_leaveBottom, f_hitCount, a_low, a_high, a_nodeLow, a_nodeHigh, a_begins, a_ends, a_lefts, a_order, a_sorted, a_bestOrder, a_suffix, a_boundLow, a_boundHigh, a_from, a_way, a_stack, a_listed, a_listTop, a_listBottom) (nI i) := by
  refine Exists.intro 4 (xo_s (a := 0) (by omega) hi (xo_s (a := 1) (by omega) hi (xo_s (a := 2) (by omega) hi (br_t (nI_le (a := 3) (b := 3) (by omega) (by decide)) (pa hb hz ?_ (fun r et eb lt lb hr => ⟨pR_n hr, hp r et eb lt lb _ _ hr⟩))))))
  intro a ha
  obtain rfl | rfl | rfl : a = 0 ∨ a = 1 ∨ a = 2 := by omega
  all_goals exact ⟨rfl, rfl⟩
/-! the two children on the stack -/
theorem xh_58 {w c : Nat} (hw : w < 31) {post : SX → Prop} (z : Int32) (hp : ∀ x y : Nat, ((x = c ∧ y = c + 1) ∨ (x = c + 1 ∧ y = c)) → post (f_count, f_nodes, f_built, f_enterTop, f_enterBottom, f_leaveTop, f_leaveBottom, f_hitCount, a_low, a_high, a_nodeLow, a_nodeHigh, a_begins, a_ends, a_lefts, a_order, a_sorted, a_bestOrder, a_suffix, a_boundLow, a_boundHigh, a_from, a_way, upd (upd a_stack w (nI x)) (w + 1) (nI y), a_listed, a_listTop, a_listBottom)) : wX_pushBoth_58 post (nI w) (nI c) z f_count f_nodes f_built f_enterTop f_enterBottom f_leaveTop f_leaveBottom f_hitCount a_low a_high a_nodeLow a_nodeHigh a_begins a_ends a_lefts a_order a_sorted a_bestOrder a_suffix a_boundLow a_boundHigh a_from a_way a_stack a_listed a_listTop a_listBottom := by
  have v : vp_in (nI w) 32 := vp_in_nI (by omega) (by omega)
  have v1 : vp_in (nI w + 1) 32 := by rw [nI_1]; exact vp_in_nI (by omega) (by omega)
  have e0 : ∀ x : Int32, upd a_stack (nI w).toNatClampNeg x = upd a_stack w x := fun x => by rw [nI_clamp (by omega)]
  have e1 : ∀ (g : Nat → Int32) (x : Int32), upd g (nI w + 1).toNatClampNeg x = upd g (w + 1) x := fun g x => by rw [nI_1, nI_clamp (by omega)]
  have k1 := hp c (c + 1) (Or.inl ⟨rfl, rfl⟩)
  have k2 := hp (c + 1) c (Or.inr ⟨rfl, rfl⟩)
  rw [← nI_1 c] at k1 k2
  by_cases hz : z = 0
  · exact br_t hz (And.intro v (nm_r (e0 _) (br_t hz ⟨v1, nm_r (e1 _ _) k1⟩)))
  · exact br_f hz (And.intro v (nm_r (e0 _) (br_f hz ⟨v1, nm_r (e1 _ _) k2⟩)))
theorem xh {w c : Nat} (hw : w < 31) (hc : c + 1 < 27) (hb1 : ge_b (sl a_nodeLow c) (sl a_nodeHigh c) (wI a_from) (wI a_way)) (hb2 : ge_b (sl a_nodeLow (c + 1)) (sl a_nodeHigh (c + 1)) (wI a_from) (wI a_way)) (hz : ∃ a, a < 3 ∧ wI a_way a ≠ 0) {post : SX → Prop} (hp : ∀ (et eb lt lb : Int32) (bl bh : Nat → Int32) (x y : Nat), ((x = c ∧ y = c + 1) ∨ (x = c + 1 ∧ y = c)) → post (f_count, f_nodes, f_built, et, eb, lt, lb, f_hitCount, a_low, a_high, a_nodeLow, a_nodeHigh, a_begins, a_ends, a_lefts, a_order, a_sorted, a_bestOrder, a_suffix, bl, bh, a_from, a_way, upd (upd a_stack w (nI x)) (w + 1) (nI y), a_listed, a_listTop, a_listBottom)) : wpX_pushBoth post (f_count, f_nodes, f_built, f_enterTop, f_enterBottom, f_leaveTop, f_leaveBottom, f_hitCount, a_low, a_high, a_nodeLow, a_nodeHigh, a_begins, a_ends, a_lefts, a_order, a_sorted, a_bestOrder, a_suffix, a_boundLow, a_boundHigh, a_from, a_way, a_stack, a_listed, a_listTop, a_listBottom) (nI w) (nI c) := by
  have W : ∀ (et eb lt lb : Int32) (bl bh : Nat → Int32) (z : Int32), wX_pushBoth_58 post (nI w) (nI c) z f_count f_nodes f_built et eb lt lb f_hitCount a_low a_high a_nodeLow a_nodeHigh a_begins a_ends a_lefts a_order a_sorted a_bestOrder a_suffix bl bh a_from a_way a_stack a_listed a_listTop a_listBottom := fun et eb lt lb bl bh z => xh_58 hw z (fun x y hxy => hp et eb lt lb bl bh x y hxy)
  refine xn (by omega) hb1 hz (fun r et eb lt lb bl bh hr => ?_)
  have G : wpX_passNode (fun r_29 u => match u with
    | (f_count, f_nodes, f_built, f_enterTop, f_enterBottom, f_leaveTop, f_leaveBottom, f_hitCount, a_low, a_high, a_nodeLow, a_nodeHigh, a_begins, a_ends, a_lefts, a_order, a_sorted, a_bestOrder, a_suffix, a_boundLow, a_boundHigh, a_from, a_way, a_stack, a_listed, a_listTop, a_listBottom) => (((r = 0 → (wX_pushBoth_57 post (nI w) (nI c) f_count f_nodes f_built f_enterTop f_enterBottom f_leaveTop f_leaveBottom f_hitCount a_low a_high a_nodeLow a_nodeHigh a_begins a_ends a_lefts a_order a_sorted a_bestOrder a_suffix a_boundLow a_boundHigh a_from a_way a_stack a_listed a_listTop a_listBottom)) ∧ (¬ r = 0 → (((r_29 = 0 → (wX_pushBoth_53 post (nI w) (nI c) f_count f_nodes f_built f_enterTop f_enterBottom f_leaveTop f_leaveBottom f_hitCount a_low a_high a_nodeLow a_nodeHigh a_begins a_ends a_lefts a_order a_sorted a_bestOrder a_suffix a_boundLow a_boundHigh a_from a_way a_stack a_listed a_listTop a_listBottom)) ∧ (¬ r_29 = 0 → ((((f_enterTop * eb) < (et * f_enterBottom) → (wX_pushBoth_57 post (nI w) (nI c) f_count f_nodes f_built f_enterTop f_enterBottom f_leaveTop f_leaveBottom f_hitCount a_low a_high a_nodeLow a_nodeHigh a_begins a_ends a_lefts a_order a_sorted a_bestOrder a_suffix a_boundLow a_boundHigh a_from a_way a_stack a_listed a_listTop a_listBottom)) ∧ (¬ (f_enterTop * eb) < (et * f_enterBottom) → (wX_pushBoth_53 post (nI w) (nI c) f_count f_nodes f_built f_enterTop f_enterBottom f_leaveTop f_leaveBottom f_hitCount a_low a_high a_nodeLow a_nodeHigh a_begins a_ends a_lefts a_order a_sorted a_bestOrder a_suffix a_boundLow a_boundHigh a_from a_way a_stack a_listed a_listTop a_listBottom))))))))))) (f_count, f_nodes, f_built, et, eb, lt, lb, f_hitCount, a_low, a_high, a_nodeLow, a_nodeHigh, a_begins, a_ends, a_lefts, a_order, a_sorted, a_bestOrder, a_suffix, bl, bh, a_from, a_way, a_stack, a_listed, a_listTop, a_listBottom) (nI (c + 1)) := by
    refine xn (by omega) hb2 hz (fun r2 et2 eb2 lt2 lb2 bl2 bh2 hr2 => ?_)
    have W0 : wX_pushBoth_57 post (nI w) (nI c) f_count f_nodes f_built et2 eb2 lt2 lb2 f_hitCount a_low a_high a_nodeLow a_nodeHigh a_begins a_ends a_lefts a_order a_sorted a_bestOrder a_suffix bl2 bh2 a_from a_way a_stack a_listed a_listTop a_listBottom := W et2 eb2 lt2 lb2 bl2 bh2 0
    have W1 : wX_pushBoth_53 post (nI w) (nI c) f_count f_nodes f_built et2 eb2 lt2 lb2 f_hitCount a_low a_high a_nodeLow a_nodeHigh a_begins a_ends a_lefts a_order a_sorted a_bestOrder a_suffix bl2 bh2 a_from a_way a_stack a_listed a_listTop a_listBottom := W et2 eb2 lt2 lb2 bl2 bh2 1
    exact br_c (fun _ => W0) fun _ => br_c (fun _ => W1) fun _ => br_c (fun _ => W0) fun _ => W1
  rw [← nI_1 c] at G
  exact G
/-! the first node -/
def tS (N : Nat) : List Nat := if N = 0 then [] else [0]
theorem tS_l (N : Nat) : (tS N).length ≤ 1 := by
  unfold tS
  split
  · exact Nat.zero_le 1
  · exact Nat.le_refl 1
theorem xw {N : Nat} (hN : N ≤ 27) {post : Int32 → SX → Prop} (h : post (nI (tS N).length) (f_count, nI N, f_built, f_enterTop, f_enterBottom, f_leaveTop, f_leaveBottom, f_hitCount, a_low, a_high, a_nodeLow, a_nodeHigh, a_begins, a_ends, a_lefts, a_order, a_sorted, a_bestOrder, a_suffix, a_boundLow, a_boundHigh, a_from, a_way, upd a_stack 0 0, a_listed, a_listTop, a_listBottom)) : wpX_start post (f_count, nI N, f_built, f_enterTop, f_enterBottom, f_leaveTop, f_leaveBottom, f_hitCount, a_low, a_high, a_nodeLow, a_nodeHigh, a_begins, a_ends, a_lefts, a_order, a_sorted, a_bestOrder, a_suffix, a_boundLow, a_boundHigh, a_from, a_way, a_stack, a_listed, a_listTop, a_listBottom) := by
  refine nm_e ?_
  by_cases h0 : N = 0
  · subst h0
    exact br_t (nI_le (a := 0) (b := 0) (by omega) (by omega)) h
  · have e : (tS N).length = 1 := by unfold tS; rw [if_neg h0]; rfl
    rw [e] at h
    exact br_f (nI_nle (by omega) (by omega)) h
theorem tS_I {n N : Nat} {bg en lf od : Nat → Nat} {lo hi nl nh ab ae al ao a : Nat → Int32} (h0 : n = 0 → N = 0) (h1 : 0 < n → 0 < N ∧ bg 0 = 0 ∧ en 0 = n) (T : tr_T n N bg en lf od lo hi nl nh ab ae al ao) : tv_I n N bg en (upd a 0 0) (tS N) 0 ∧ (∀ x, x < n → tv_in bg en od x (tS N)) ∧ ∀ p : Nat → Prop, tv_pd bg en p (tS N) = cq p 0 n := by
  by_cases hn : n = 0
  · have hN := h0 hn
    subst hn hN
    exact ⟨⟨trivial, fun i hi => absurd hi List.not_mem_nil, Nat.zero_le 27⟩, fun x hx => by omega, fun p => rfl⟩
  · obtain ⟨g0, g1, g2⟩ := h1 (by omega)
    have e : tS N = [0] := by unfold tS; rw [if_neg (by omega)]
    rw [e]
    refine ⟨tv_0 g0 g1 g2 T.2.1, fun x hx => ⟨0, List.mem_cons_self, ?_⟩, fun p => ?_⟩
    · rw [g1, g2]
      obtain ⟨k, hk, ek⟩ := pm_on T.2.2.2.1 hx
      exact ⟨k, by omega, hk, ek⟩
    · show cq p (bg 0) (en 0 - bg 0) + 0 = _
      rw [g1, g2]; rfl
end PA
end
section
/-! facts of a tree's node -/
theorem tv_szp {N i : Nat} {bg en : Nat → Nat} {t : List Nat} (hb : ∀ i, i < N → bg i < en i) (hi : i < N) : tv_sz bg en t < tv_sz bg en (i :: t) := by
  have := hb i hi
  show tv_sz bg en t < (2 * (en i - bg i) - 1) + tv_sz bg en t
  omega
theorem tv_szc {N i x y : Nat} {bg en lf : Nat → Nat} {t : List Nat} (hb : ∀ i, i < N → bg i < en i) (hc : lf i + 1 < N ∧ bg (lf i) = bg i ∧ en (lf i) = bg (lf i + 1) ∧ en (lf i + 1) = en i) (hxy : (x = lf i ∧ y = lf i + 1) ∨ (x = lf i + 1 ∧ y = lf i)) : tv_sz bg en (y :: x :: t) < tv_sz bg en (i :: t) := by
  have h1 := hb (lf i) (by omega)
  have h2 := hb (lf i + 1) (by omega)
  show (2 * (en y - bg y) - 1) + ((2 * (en x - bg x) - 1) + tv_sz bg en t) < (2 * (en i - bg i) - 1) + tv_sz bg en t
  rcases hxy with ⟨rfl, rfl⟩ | ⟨rfl, rfl⟩ <;> omega
theorem tr_bg {n N : Nat} {bg en lf od : Nat → Nat} {lo hi nl nh ab ae al ao : Nat → Int32} (T : tr_T n N bg en lf od lo hi nl nh ab ae al ao) : ∀ i, i < N → bg i < en i := fun i hi => (T.2.2.2.2 i hi).1.1
theorem tr_in {n N i : Nat} {bg en lf od : Nat → Nat} {lo hi nl nh ab ae al ao : Nat → Int32} (T : tr_T n N bg en lf od lo hi nl nh ab ae al ao) (hi' : i < N) (h : bg i + 1 ≠ en i) : (lf i + 1 < N ∧ bg (lf i) = bg i ∧ en (lf i) = bg (lf i + 1) ∧ en (lf i + 1) = en i) ∧ al i = nI (lf i) :=
  ⟨(T.2.2.2.2 i hi').1.2.2.resolve_left h, (T.2.2.2.2 i hi').2.1.2.2.resolve_left h⟩
theorem tr_g {n N i : Nat} {bg en lf od : Nat → Nat} {lo hi nl nh ab ae al ao fr wy : Nat → Int32} (hr : ry fr wy) (hB : bB n lo hi) (T : tr_T n N bg en lf od lo hi nl nh ab ae al ao) (hi' : i < N) : ge_b (sl nl i) (sl nh i) (wI fr) (wI wy) :=
  tr_gb hr hB T.2.2.2.1 (T.2.2.2.2 i hi').1.2.1 (T.2.2.2.2 i hi').2.2
theorem tr_sz {n N i : Nat} {bg en lf od : Nat → Nat} {lo hi nl nh ab ae al ao : Nat → Int32} (T : tr_T n N bg en lf od lo hi nl nh ab ae al ao) (hi' : i < N) : ae (nI i).toNatClampNeg - ab (nI i).toNatClampNeg = nI (en i - bg i) := by
  have h1 := T.1
  have h2 := T.2.2.2.2 i hi'
  rw [nI_clamp (by omega)]
  exact tr_e1 h2.2.1 h2.1.1 h2.1.2.1 T.2.1
theorem tr_1 {n N i : Nat} {bg en lf od : Nat → Nat} {lo hi nl nh ab ae al ao : Nat → Int32} (T : tr_T n N bg en lf od lo hi nl nh ab ae al ao) (hi' : i < N) : ae (nI i).toNatClampNeg - ab (nI i).toNatClampNeg = 1 ↔ bg i + 1 = en i := by
  have h2 := T.2.2.2.2 i hi'
  have h3 := T.2.1
  have h4 : en i ≤ n := h2.1.2.1
  have h5 : bg i < en i := h2.1.1
  rw [tr_sz T hi']
  constructor
  · intro z
    have := qn_inj (b := 1) z (by omega) (by omega)
    omega
  · intro z
    rw [show en i - bg i = 1 from by omega]; rfl
/-! the first box that is hit -/
def fS (n : Nat) (lo hi fr wy : Nat → Int32) (r : Int32) : Prop := (r = -1 ∧ ∀ x, x < n → ¬ sP lo hi fr wy x) ∨ ∃ b : Nat, b < n ∧ r = nI b ∧ sP lo hi fr wy b ∧ ∀ x, x < n → sP lo hi fr wy x → x = b ∨ kb (sT lo hi fr wy) (sQ lo hi fr wy) b x
def tB (n : Nat) (lo hi fr wy : Nat → Int32) (todo : Nat → Prop) (x1 x2 x3 : Int32) : Prop := (x1 = -1 ∧ x2 = 0 ∧ x3 = 1 ∧ ∀ x, x < n → sP lo hi fr wy x → todo x) ∨ ∃ b : Nat, b < n ∧ x1 = nI b ∧ sP lo hi fr wy b ∧ (x2.toInt = sT lo hi fr wy b ∧ x3.toInt = sQ lo hi fr wy b) ∧ ∀ x, x < n → sP lo hi fr wy x → todo x ∨ (x = b ∨ kb (sT lo hi fr wy) (sQ lo hi fr wy) b x)
theorem sQp (lo hi fr wy : Nat → Int32) (x : Nat) : 0 < sQ lo hi fr wy x := (ge_Ep 3).2
theorem sTp (lo hi fr wy : Nat → Int32) (x : Nat) : 0 ≤ sT lo hi fr wy x := (ge_Ep 3).1
theorem sTb {lo hi fr wy : Nat → Int32} {x : Nat} (h : ge_b (sl lo x) (sl hi x) (wI fr) (wI wy)) : sT lo hi fr wy x ≤ 162 ∧ sQ lo hi fr wy x ≤ 20 := ge_Eb h 3 (by omega)
section TR
variable {f_count f_nodes f_built f_enterTop f_enterBottom f_leaveTop f_leaveBottom f_hitCount : Int32} {a_low a_high a_nodeLow a_nodeHigh a_begins a_ends a_lefts a_order a_sorted a_bestOrder a_suffix a_boundLow a_boundHigh a_from a_way a_stack a_listed a_listTop a_listBottom : Nat → Int32}
theorem xt_81l {i x : Nat} {x1 x2 x3 x4 x5 x8 : Int32} (hi : i < 27) {b : Nat} (hb : b < 14) (h1 : a_ends (nI i).toNatClampNeg - a_begins (nI i).toNatClampNeg = 1) (h2 : a_begins i = nI b) (h3 : a_order b = nI x) {post : Int32 → SX → Prop} {J19 : Int32 → Int32 → Int32 → Int32 → Int32 → Int32 → Int32 → Int32 → Int32 → Int32 → Int32 → Int32 → Int32 → (Nat → Int32) → (Nat → Int32) → (Nat → Int32) → (Nat → Int32) → (Nat → Int32) → (Nat → Int32) → (Nat → Int32) → (Nat → Int32) → (Nat → Int32) → (Nat → Int32) → (Nat → Int32) → (Nat → Int32) → (Nat → Int32) → (Nat → Int32) → (Nat → Int32) → (Nat → Int32) → (Nat → Int32) → (Nat → Int32) → (Nat → Int32) → Prop} (hs : (x1 = -1 ∨ (¬ x1 = -1 ∧ (x8 < 0 ∨ (¬ x8 < 0 ∧ ¬ x1 ≤ nI x)))) → J19 (nI x) f_enterTop f_enterBottom x4 (x5 + 1) f_count f_nodes f_built f_enterTop f_enterBottom f_leaveTop f_leaveBottom f_hitCount a_low a_high a_nodeLow a_nodeHigh a_begins a_ends a_lefts a_order a_sorted a_bestOrder a_suffix a_boundLow a_boundHigh a_from a_way a_stack a_listed a_listTop a_listBottom) (hk : ¬ x1 = -1 → ¬ x8 < 0 → x1 ≤ nI x → J19 x1 x2 x3 x4 (x5 + 1) f_count f_nodes f_built f_enterTop f_enterBottom f_leaveTop f_leaveBottom f_hitCount a_low a_high a_nodeLow a_nodeHigh a_begins a_ends a_lefts a_order a_sorted a_bestOrder a_suffix a_boundLow a_boundHigh a_from a_way a_stack a_listed a_listTop a_listBottom) : wX_trace_81 post J19 x1 x2 x3 x4 x5 (nI i) x8 f_count f_nodes f_built f_enterTop f_enterBottom f_leaveTop f_leaveBottom f_hitCount a_low a_high a_nodeLow a_nodeHigh a_begins a_ends a_lefts a_order a_sorted a_bestOrder a_suffix a_boundLow a_boundHigh a_from a_way a_stack a_listed a_listTop a_listBottom := by
  have v : vp_in (nI i) 27 := vp_in_nI hi (by omega)
  have e1 : a_begins (nI i).toNatClampNeg = nI b := by rw [nI_clamp (by omega)]; exact h2
  have v2 : vp_in (a_begins (nI i).toNatClampNeg) 14 := by rw [e1]; exact vp_in_nI hb (by omega)
  have e2 : a_order (a_begins (nI i).toNatClampNeg).toNatClampNeg = nI x := by rw [e1, nI_clamp (by omega)]; exact h3
  have S : ∀ _ : (x1 = -1 ∨ (¬ x1 = -1 ∧ (x8 < 0 ∨ (¬ x8 < 0 ∧ ¬ x1 ≤ nI x)))), wX_trace_130 post J19 x4 x5 (nI x) f_count f_nodes f_built f_enterTop f_enterBottom f_leaveTop f_leaveBottom f_hitCount a_low a_high a_nodeLow a_nodeHigh a_begins a_ends a_lefts a_order a_sorted a_bestOrder a_suffix a_boundLow a_boundHigh a_from a_way a_stack a_listed a_listTop a_listBottom := fun c => nm_e (hs c)
  exact And.intro v ⟨v, br_t h1 ⟨v, v2, nm_r e2 (br_c (fun c => S (Or.inl c)) (fun c => br_c (fun c2 => S (Or.inr ⟨c, Or.inl c2⟩)) (fun c2 => br_c (fun c3 => nm_e (hk c c2 c3)) (fun c3 => S (Or.inr ⟨c, Or.inr ⟨c2, c3⟩⟩)))))⟩⟩
theorem xt_81i {i c w : Nat} {x1 x2 x3 x5 x8 : Int32} (hi : i < 27) (hw : w < 30) (hc : c + 1 < 27) (h1 : ¬ a_ends (nI i).toNatClampNeg - a_begins (nI i).toNatClampNeg = 1) (h2 : a_lefts i = nI c) (hb1 : ge_b (sl a_nodeLow c) (sl a_nodeHigh c) (wI a_from) (wI a_way)) (hb2 : ge_b (sl a_nodeLow (c + 1)) (sl a_nodeHigh (c + 1)) (wI a_from) (wI a_way)) (hz : ∃ a, a < 3 ∧ wI a_way a ≠ 0) {post : Int32 → SX → Prop} {J19 : Int32 → Int32 → Int32 → Int32 → Int32 → Int32 → Int32 → Int32 → Int32 → Int32 → Int32 → Int32 → Int32 → (Nat → Int32) → (Nat → Int32) → (Nat → Int32) → (Nat → Int32) → (Nat → Int32) → (Nat → Int32) → (Nat → Int32) → (Nat → Int32) → (Nat → Int32) → (Nat → Int32) → (Nat → Int32) → (Nat → Int32) → (Nat → Int32) → (Nat → Int32) → (Nat → Int32) → (Nat → Int32) → (Nat → Int32) → (Nat → Int32) → (Nat → Int32) → Prop} (hs : ∀ (et eb lt lb : Int32) (bl bh : Nat → Int32) (x y : Nat), ((x = c ∧ y = c + 1) ∨ (x = c + 1 ∧ y = c)) → J19 x1 x2 x3 (nI (w + 2)) (x5 + 1) f_count f_nodes f_built et eb lt lb f_hitCount a_low a_high a_nodeLow a_nodeHigh a_begins a_ends a_lefts a_order a_sorted a_bestOrder a_suffix bl bh a_from a_way (upd (upd a_stack w (nI x)) (w + 1) (nI y)) a_listed a_listTop a_listBottom) : wX_trace_81 post J19 x1 x2 x3 (nI w) x5 (nI i) x8 f_count f_nodes f_built f_enterTop f_enterBottom f_leaveTop f_leaveBottom f_hitCount a_low a_high a_nodeLow a_nodeHigh a_begins a_ends a_lefts a_order a_sorted a_bestOrder a_suffix a_boundLow a_boundHigh a_from a_way a_stack a_listed a_listTop a_listBottom := by
  have v : vp_in (nI i) 27 := vp_in_nI hi (by omega)
  have e1 : a_lefts (nI i).toNatClampNeg = nI c := by rw [nI_clamp (by omega)]; exact h2
  refine And.intro v ⟨v, br_f h1 ⟨v, ?_⟩⟩
  rw [e1]
  exact xh (by omega) hc hb1 hb2 hz (fun et eb lt lb bl bh x y hxy => nm_r (qn_2 w) (nm_e (hs et eb lt lb bl bh x y hxy)))
theorem xt_19 {n N : Nat} {bg en lf od : Nat → Nat} (hr : ry a_from a_way) (hB : bB n a_low a_high) (T : tr_T n N bg en lf od a_low a_high a_nodeLow a_nodeHigh a_begins a_ends a_lefts a_order) {post : Int32 → SX → Prop} (hp : ∀ (r et eb lt lb : Int32) (bl bh sk : Nat → Int32), fS n a_low a_high a_from a_way r → post r (f_count, f_nodes, f_built, et, eb, lt, lb, f_hitCount, a_low, a_high, a_nodeLow, a_nodeHigh, a_begins, a_ends, a_lefts, a_order, a_sorted, a_bestOrder, a_suffix, bl, bh, a_from, a_way, sk, a_listed, a_listTop, a_listBottom)) : ∀ (m : Nat) (st : List Nat) (sp : Nat) (x1 x2 x3 et eb lt lb : Int32) (bl bh sk : Nat → Int32), tv_sz bg en st < m → tv_I n N bg en sk st sp → tB n a_low a_high a_from a_way (fun x => tv_in bg en od x st) x1 x2 x3 → wX_trace_19 post m x1 x2 x3 (nI st.length) (nI sp) f_count f_nodes f_built et eb lt lb f_hitCount a_low a_high a_nodeLow a_nodeHigh a_begins a_ends a_lefts a_order a_sorted a_bestOrder a_suffix bl bh a_from a_way sk a_listed a_listTop a_listBottom := by
  have hbg := tr_bg T
  have hN := T.1
  have hn := T.2.1
  have F : ∀ x1 x2 x3, tB n a_low a_high a_from a_way (fun x => tv_in bg en od x []) x1 x2 x3 → fS n a_low a_high a_from a_way x1 := by
    intro x1 x2 x3 h
    have ne : ∀ x, ¬ tv_in bg en od x [] := fun x ⟨i, hi, _⟩ => absurd hi List.not_mem_nil
    rcases h with ⟨e1, e2, e3, h⟩ | ⟨b, hb, e1, hP, e2, h⟩
    · exact Or.inl ⟨e1, fun x hx hPx => ne x (h x hx hPx)⟩
    · exact Or.inr ⟨b, hb, e1, hP, fun x hx hPx => (h x hx hPx).resolve_left (ne x)⟩
  intro m
  induction m with
  | zero => intro st sp x1 x2 x3 et eb lt lb bl bh sk hm; omega
  | succ m ih =>
    intro st sp x1 x2 x3 et eb lt lb bl bh sk hm I Tb
    cases st with
    | nil =>
      have q := hp x1 et eb lt lb bl bh sk (F _ _ _ Tb)
      exact br_c (fun _ => q) (fun _ => br_t (nI_le (a := 0) (b := 0) (by omega) (by omega)) q)
    | cons i t =>
      obtain ⟨hi, hsk, htl, hsp, It⟩ := tv_pop hbg I
      have hI2 := hbg i hi
      have nd := T.2.2.2.2 i hi
      have hen : en i ≤ n := nd.1.2.1
      have esk : sk (nI t.length).toNatClampNeg = nI i := by rw [nI_clamp (by omega)]; exact hsk
      have szp := tv_szp (t := t) hbg hi
      refine br_f (nI_ge (b := 27) (by omega) (by decide)) (br_f (nI_nle (Nat.succ_pos _) (by show t.length + 1 < 2 ^ 31; omega)) (nm_r (pk_m1 t.length) ⟨vp_in_nI (by omega) (by omega), nm_r esk (xn (by omega) (tr_g hr hB T hi) hr.2 (fun r et' eb' lt' lb' bl' bh' hR => nm_e ?_))⟩))
      rcases hR with ⟨rfl, hnP⟩ | ⟨rfl, hPi, ⟨het, heb⟩, hlt, hlb⟩
      · refine br_t rfl (nm_r (nI_1 sp) (ih t (sp + 1) _ _ _ _ _ _ _ _ _ _ (by omega) It ?_))
        have K : ∀ x, sP a_low a_high a_from a_way x → tv_in bg en od x (i :: t) → tv_in bg en od x t := fun x hPx hin => (tv_inp hin).resolve_left (fun hm => hnP (tr_P hr nd.2.2 hm hPx))
        rcases Tb with ⟨e1, e2, e3, h⟩ | ⟨b, hb, e1, hP, e2, h⟩
        · exact Or.inl ⟨e1, e2, e3, fun x hx hPx => K x hPx (h x hx hPx)⟩
        · exact Or.inr ⟨b, hb, e1, hP, e2, fun x hx hPx => (h x hx hPx).imp (K x hPx) id⟩
      · have het' : et'.toInt = sT a_nodeLow a_nodeHigh a_from a_way i := het
        have heb' : eb'.toInt = sQ a_nodeLow a_nodeHigh a_from a_way i := heb
        have bi := sTb (tr_g hr hB T hi)
        have qi := sQp a_nodeLow a_nodeHigh a_from a_way i
        have ti := sTp a_nodeLow a_nodeHigh a_from a_way i
        refine br_f n10 ?_
        have inn : ∀ hne : bg i + 1 ≠ en i, ∀ x8 : Int32, wX_trace_81 post (wX_trace_19 post m) x1 x2 x3 (nI t.length) (nI sp) (nI i) x8 f_count f_nodes f_built et' eb' lt' lb' f_hitCount a_low a_high a_nodeLow a_nodeHigh a_begins a_ends a_lefts a_order a_sorted a_bestOrder a_suffix bl' bh' a_from a_way sk a_listed a_listTop a_listBottom := by
          intro hne x8
          obtain ⟨hc, hal⟩ := tr_in T hi hne
          refine xt_81i (c := lf i) (by omega) (by omega) (by omega) (fun z => hne ((tr_1 T hi).mp z)) hal (tr_g hr hB T (by omega)) (tr_g hr hB T hc.1) hr.2 (fun et2 eb2 lt2 lb2 bl2 bh2 x y hxy => ?_)
          have szc := tv_szc (t := t) hbg hc hxy
          rw [nI_1 sp]
          refine ih (y :: x :: t) (sp + 1) _ _ _ _ _ _ _ _ _ _ (by omega) (tv_push hbg I hc hxy) ?_
          have K : ∀ z, tv_in bg en od z (i :: t) → tv_in bg en od z (y :: x :: t) := fun z hz => tv_inc (hbg _ (by omega)) (hbg _ hc.1) hc.2 hxy hz
          rcases Tb with ⟨e1, e2, e3, h⟩ | ⟨b, hb, e1, hP, e2, h⟩
          · exact Or.inl ⟨e1, e2, e3, fun x hx hPx => K x (h x hx hPx)⟩
          · exact Or.inr ⟨b, hb, e1, hP, e2, fun x hx hPx => (h x hx hPx).imp (K x) id⟩
        rcases Tb with ⟨e1, e2, e3, h⟩ | ⟨b, hb, e1, hP, ⟨e2, e3⟩, h⟩
        · refine br_t e1 ?_
          by_cases hl : bg i + 1 = en i
          · have lP := tr_lP a_from a_way nd.2.2 hl
            have hx : od (bg i) < n := pm_lt T.2.2.2.1 (by omega)
            refine xt_81l (b := bg i) (x := od (bg i)) (by omega) (by omega) ((tr_1 T hi).mpr hl) nd.2.1.1 (T.2.2.1 _ (by omega)) (fun _ => ?_) (fun c => absurd e1 c)
            rw [nI_1 sp]
            refine ih t (sp + 1) _ _ _ _ _ _ _ _ _ _ (by omega) It (Or.inr ⟨od (bg i), hx, rfl, lP.1.mp hPi, ⟨?_, ?_⟩, fun z hz hPz => ?_⟩)
            · rw [het', lP.2.1]
            · rw [heb', lP.2.2]
            · rcases tv_inp (h z hz hPz) with hm | hm
              · exact Or.inr (Or.inl (me_one hl hm))
              · exact Or.inl hm
          · exact inn hl _
        · have b14 : b < 14 := by omega
          have gb := sTb (bx_gb hr hB hb)
          have qb := sQp a_low a_high a_from a_way b
          have tb := sTp a_low a_high a_from a_way b
          have m1 := qm het' e3 (by omega) (by omega) (by omega) (by omega)
          have m2 := qm e2 heb' (by omega) (by omega) (by omega) (by omega)
          have mb1 := gb_m (x := sT a_nodeLow a_nodeHigh a_from a_way i) (y := sQ a_low a_high a_from a_way b) (by omega) (by omega) (by omega) (by omega)
          have mb2 := gb_m (x := sT a_low a_high a_from a_way b) (y := sQ a_nodeLow a_nodeHigh a_from a_way i) (by omega) (by omega) (by omega) (by omega)
          have gn : (et' * x3 - x2 * eb').toInt = sT a_nodeLow a_nodeHigh a_from a_way i * sQ a_low a_high a_from a_way b - sT a_low a_high a_from a_way b * sQ a_nodeLow a_nodeHigh a_from a_way i := by
            rw [qn_sub (by rw [m1, m2]; omega) (by rw [m1, m2]; omega), m1, m2]
          refine br_f (by rw [e1]; exact qn_n1 (by omega)) (br_c (fun cg => ?_) (fun cg => ?_))
          · have cg' := Int32.lt_iff_toInt_lt.mp cg
            rw [gn, qn_0] at cg'
            refine nm_r (nI_1 sp) (ih t (sp + 1) _ _ _ _ _ _ _ _ _ _ (by omega) It (Or.inr ⟨b, hb, e1, hP, ⟨e2, e3⟩, fun z hz hPz => ?_⟩))
            rcases h z hz hPz with hm | hm
            · rcases tv_inp hm with hm | hm
              · right; right; left
                refine Classical.byContradiction fun hcon => ?_
                have q1 := tr_E a_from a_way nd.2.2 hm
                have q2 := gf_tr qi (sQp a_low a_high a_from a_way z) qb q1 (Int.not_lt.mp hcon)
                omega
              · exact Or.inl hm
            · exact Or.inr hm
          · have cg' : ¬ (0 : Int32).toInt < (et' * x3 - x2 * eb').toInt := fun z => cg (Int32.lt_iff_toInt_lt.mpr z)
            rw [gn, qn_0] at cg'
            by_cases hl : bg i + 1 = en i
            · have lP := tr_lP a_from a_way nd.2.2 hl
              have hx : od (bg i) < n := pm_lt T.2.2.2.1 (by omega)
              rw [lP.2.1, lP.2.2] at cg' gn
              refine xt_81l (b := bg i) (x := od (bg i)) (by omega) (by omega) ((tr_1 T hi).mpr hl) nd.2.1.1 (T.2.2.1 _ (by omega)) (fun c => ?_) (fun _ c2 c3 => ?_)
              · have kx : od (bg i) = b ∨ kb (sT a_low a_high a_from a_way) (sQ a_low a_high a_from a_way) (od (bg i)) b := by
                  rcases c with c | ⟨_, c | ⟨c, c3⟩⟩
                  · rw [e1] at c; exact absurd c (qn_n1 (by omega))
                  · have c' := Int32.lt_iff_toInt_lt.mp c
                    rw [gn, qn_0] at c'
                    exact Or.inr (Or.inl (by omega))
                  · rw [e1] at c3
                    have c3' : ¬ b ≤ od (bg i) := fun z => c3 (nI_le z (by omega))
                    by_cases hlt : sT a_low a_high a_from a_way (od (bg i)) * sQ a_low a_high a_from a_way b < sT a_low a_high a_from a_way b * sQ a_low a_high a_from a_way (od (bg i))
                    · exact Or.inr (Or.inl hlt)
                    · have c' : ¬ (et' * x3 - x2 * eb').toInt < (0 : Int32).toInt := fun z => c (Int32.lt_iff_toInt_lt.mpr z)
                      rw [gn, qn_0] at c'
                      exact Or.inr (Or.inr ⟨by omega, by omega⟩)
                rw [nI_1 sp]
                refine ih t (sp + 1) _ _ _ _ _ _ _ _ _ _ (by omega) It (Or.inr ⟨od (bg i), hx, rfl, lP.1.mp hPi, ⟨?_, ?_⟩, fun z hz hPz => ?_⟩)
                · rw [het', lP.2.1]
                · rw [heb', lP.2.2]
                · rcases h z hz hPz with hm | hm | hm
                  · rcases tv_inp hm with hm | hm
                    · exact Or.inr (Or.inl (me_one hl hm))
                    · exact Or.inl hm
                  · rw [hm]
                    rcases kx with kx | kx
                    · exact Or.inr (Or.inl kx.symm)
                    · exact Or.inr (Or.inr kx)
                  · rcases kx with kx | kx
                    · rw [kx]; exact Or.inr (Or.inr hm)
                    · exact Or.inr (Or.inr (kb_tr (sQp _ _ _ _ _) (sQp _ _ _ _ _) (sQp _ _ _ _ _) kx hm))
              · rw [nI_1 sp]
                refine ih t (sp + 1) _ _ _ _ _ _ _ _ _ _ (by omega) It (Or.inr ⟨b, hb, e1, hP, ⟨e2, e3⟩, fun z hz hPz => ?_⟩)
                rcases h z hz hPz with hm | hm
                · rcases tv_inp hm with hm | hm
                  · have ez := me_one hl hm
                    rw [e1] at c3
                    have c3' := (nI_leI (by omega) (by omega)).mp c3
                    have c' : ¬ (et' * x3 - x2 * eb').toInt < (0 : Int32).toInt := fun z => c2 (Int32.lt_iff_toInt_lt.mpr z)
                    rw [gn, qn_0] at c'
                    rw [ez]
                    by_cases eb0 : od (bg i) = b
                    · exact Or.inr (Or.inl eb0)
                    · exact Or.inr (Or.inr (Or.inr ⟨by omega, by omega⟩))
                  · exact Or.inl hm
                · exact Or.inr hm
            · exact inn hl _
/-- what stands behind build and start -/
theorem xt {n : Nat} (hn : n ≤ 14) (hr : ry a_from a_way) (hB : bB n a_low a_high) (ht : f_built = 0 ∨ (f_built = 1 ∧ tr_OK n f_nodes a_low a_high a_nodeLow a_nodeHigh a_begins a_ends a_lefts a_order)) {post : Int32 → SX → Prop} (hp : ∀ (r : Int32) (u : SX), sX n a_low a_high a_from a_way u → fS n a_low a_high a_from a_way r → post r u) : wpX_trace post (nI n, f_nodes, f_built, f_enterTop, f_enterBottom, f_leaveTop, f_leaveBottom, f_hitCount, a_low, a_high, a_nodeLow, a_nodeHigh, a_begins, a_ends, a_lefts, a_order, a_sorted, a_bestOrder, a_suffix, a_boundLow, a_boundHigh, a_from, a_way, a_stack, a_listed, a_listTop, a_listBottom) := by
  unfold wpX_trace
  refine xu hn hB ht (fun fn nl nh ab ae al ao s bo sf bl bh hT => ?_)
  obtain ⟨N, bg, en, lf, od, rfl, h0, h1, T⟩ := id hT
  obtain ⟨I0, I1, I2⟩ := tS_I (a := a_stack) h0 h1 T
  refine xw T.1 ⟨tv_sz bg en (tS N) + 1, xt_19 hr hB T (fun r et eb lt lb bl bh sk hs => hp r _ ⟨rfl, rfl, rfl, rfl, rfl, Or.inr ⟨rfl, hT⟩⟩ hs) _ (tS N) 0 (-1) 0 1 _ _ _ _ _ _ _ (Nat.lt_succ_self _) I0 (Or.inl ⟨rfl, rfl, rfl, fun x hx _ => I1 x hx⟩)⟩
end TR
end
section
/-! the list of hits: pure -/
theorem cq_sh {p : Nat → Prop} (b l : Nat) : cq (fun j => p (j - 1)) (b + 1) l = cq p b l := by
  induction l with
  | zero => rfl
  | succ l ih =>
    rw [cq_s, cq_s, ih]
    have e : b + 1 + l - 1 = b + l := by omega
    show cq p b l + tN (p (b + 1 + l - 1)) = _
    rw [e]
def sf {α : Type} (f : Nat → α) (c h : Nat) : Nat → α := fun j => if c < j ∧ j ≤ h then f (j - 1) else f j
theorem sf_0 {α : Type} {f : Nat → α} {h : Nat} : sf f h h = f := by
  funext j
  exact if_neg (by omega)
theorem sf_lo {α : Type} {f : Nat → α} {c h j : Nat} (hj : j ≤ c) : sf f c h j = f j := if_neg (by omega)
theorem sf_hi {α : Type} {f : Nat → α} {c h j : Nat} (h1 : c < j) (h2 : j ≤ h) : sf f c h j = f (j - 1) := if_pos ⟨h1, h2⟩
theorem sf_s {f : Nat → Int32} {c h : Nat} (hc : c + 1 ≤ h) : upd (sf f (c + 1) h) (c + 1) (sf f (c + 1) h c) = sf f c h := by
  funext j
  by_cases e : j = c + 1
  · subst e
    rw [pk_us, sf_lo (by omega), sf_hi (by omega) hc]
    rfl
  · rw [pk_un e]
    by_cases h1 : j ≤ c
    · rw [sf_lo (by omega), sf_lo h1]
    · by_cases h2 : j ≤ h
      · rw [sf_hi (by omega) h2, sf_hi (by omega) h2]
      · show (if _ then _ else _) = (if _ then _ else _)
        rw [if_neg (by omega), if_neg (by omega)]
def nl' (ls : Nat → Nat) (c h x : Nat) : Nat → Nat := fun j => if j = c then x else sf ls c h j
theorem nl_lo {ls : Nat → Nat} {c h x j : Nat} (hj : j < c) : nl' ls c h x j = ls j := by
  unfold nl'
  rw [if_neg (by omega), sf_lo (by omega)]
theorem nl_eq {ls : Nat → Nat} {c h x : Nat} : nl' ls c h x c = x := if_pos rfl
theorem nl_hi {ls : Nat → Nat} {c h x j : Nat} (h1 : c < j) (h2 : j ≤ h) : nl' ls c h x j = ls (j - 1) := by
  unfold nl'
  rw [if_neg (by omega), sf_hi h1 h2]
theorem nl_cq {ls : Nat → Nat} {c h x : Nat} (hc : c ≤ h) (Q : Nat → Prop) : cq (fun j => Q (nl' ls c h x j)) 0 (h + 1) = cq (fun j => Q (ls j)) 0 h + tN (Q x) := by
  have e1 : h + 1 = c + (h - c + 1) := by omega
  have e2 : cq (fun j => Q (ls j)) 0 h = cq (fun j => Q (ls j)) 0 c + cq (fun j => Q (ls j)) c (h - c) := by
    have := cq_add (p := fun j => Q (ls j)) 0 c (h - c)
    rw [show c + (h - c) = h from by omega, Nat.zero_add] at this
    exact this
  have e3 : cq (fun j => Q (nl' ls c h x j)) 0 c = cq (fun j => Q (ls j)) 0 c := cq_congr 0 c (fun j _ hj => by rw [nl_lo (by omega)])
  have e4 : cq (fun j => Q (nl' ls c h x j)) (c + 1) (h - c) = cq (fun j => Q (ls (j - 1))) (c + 1) (h - c) := cq_congr (c + 1) (h - c) (fun j h1 h2 => by rw [nl_hi (by omega) (by omega)])
  rw [e2, e1, cq_add, Nat.zero_add, cq_cons, nl_eq, e3, e4, cq_sh (p := fun j => Q (ls j))]
  omega
/-- the list's places: boxes, entries, in order -/
def lI (n : Nat) (lo hi fr wy : Nat → Int32) (ls : Nat → Nat) (hc : Nat) (L T B : Nat → Int32) : Prop := (∀ j, j < hc → L j = nI (ls j) ∧ (T j).toInt = sT lo hi fr wy (ls j) ∧ (B j).toInt = sQ lo hi fr wy (ls j) ∧ ls j < n) ∧ ∀ i j, i < j → j < hc → kb (sT lo hi fr wy) (sQ lo hi fr wy) (ls i) (ls j)
theorem lI_ins {n : Nat} {lo hi fr wy : Nat → Int32} {ls : Nat → Nat} {hc : Nat} {L T B : Nat → Int32} {c x : Nat} {et eb : Int32} (h : lI n lo hi fr wy ls hc L T B) (hcc : c ≤ hc) (hx : x < n) (h1 : et.toInt = sT lo hi fr wy x) (h2 : eb.toInt = sQ lo hi fr wy x) (hlo : ∀ i, i < c → kb (sT lo hi fr wy) (sQ lo hi fr wy) (ls i) x) (hhi : ∀ i, c ≤ i → i < hc → kb (sT lo hi fr wy) (sQ lo hi fr wy) x (ls i)) : lI n lo hi fr wy (nl' ls c hc x) (hc + 1) (upd (sf L c hc) c (nI x)) (upd (sf T c hc) c et) (upd (sf B c hc) c eb) := by
  refine ⟨fun j hj => ?_, fun i j hij hj => ?_⟩
  · by_cases e : j = c
    · subst e
      rw [nl_eq, pk_us, pk_us, pk_us]
      exact ⟨rfl, h1, h2, hx⟩
    · rw [pk_un e, pk_un e, pk_un e]
      by_cases h3 : j < c
      · rw [nl_lo h3, sf_lo (by omega), sf_lo (by omega), sf_lo (by omega)]
        exact h.1 j (by omega)
      · rw [nl_hi (by omega) (by omega), sf_hi (by omega) (by omega), sf_hi (by omega) (by omega), sf_hi (by omega) (by omega)]
        exact h.1 (j - 1) (by omega)
  · by_cases a1 : j < c
    · rw [nl_lo (show i < c by omega), nl_lo a1]
      exact h.2 i j hij (by omega)
    · by_cases a2 : j = c
      · subst a2
        rw [nl_lo hij, nl_eq]
        exact hlo i hij
      · rw [nl_hi (show c < j by omega) (by omega)]
        by_cases a3 : i < c
        · rw [nl_lo a3]
          exact h.2 i (j - 1) (by omega) (by omega)
        · by_cases a4 : i = c
          · subst a4
            rw [nl_eq]
            exact hhi (j - 1) (by omega) (by omega)
          · rw [nl_hi (show c < i by omega) (by omega)]
            exact h.2 (i - 1) (j - 1) (by omega) (by omega)
/-- the list holds all boxes that are hit -/
def lS (n : Nat) (lo hi fr wy : Nat → Int32) (hc : Nat) (L T B : Nat → Int32) : Prop := ∃ ls : Nat → Nat, lI n lo hi fr wy ls hc L T B ∧ ∀ Q : Nat → Prop, cq (fun j => Q (ls j)) 0 hc = cq (fun x => sP lo hi fr wy x ∧ Q x) 0 n
section LI
variable {f_count f_nodes f_built f_enterTop f_enterBottom f_leaveTop f_leaveBottom f_hitCount : Int32} {a_low a_high a_nodeLow a_nodeHigh a_begins a_ends a_lefts a_order a_sorted a_bestOrder a_suffix a_boundLow a_boundHigh a_from a_way a_stack a_listed a_listTop a_listBottom : Nat → Int32}
theorem xcb {x y j : Nat} {t q : Nat → Int} (hj : j < 14) (hx : x < 14) (hy : y < 14) (h1 : f_enterTop.toInt = t x) (h2 : f_enterBottom.toInt = q x) (h3 : a_listed j = nI y) (h4 : (a_listTop j).toInt = t y) (h5 : (a_listBottom j).toInt = q y) (bx : (0 ≤ t x ∧ t x ≤ 162) ∧ 0 < q x ∧ q x ≤ 20) (by' : (0 ≤ t y ∧ t y ≤ 162) ∧ 0 < q y ∧ q y ≤ 20) {post : Int32 → Prop} (hp1 : kb t q x y → post 1) (hp0 : ¬ kb t q x y → post 0) : wpX_comesBefore post (f_count, f_nodes, f_built, f_enterTop, f_enterBottom, f_leaveTop, f_leaveBottom, f_hitCount, a_low, a_high, a_nodeLow, a_nodeHigh, a_begins, a_ends, a_lefts, a_order, a_sorted, a_bestOrder, a_suffix, a_boundLow, a_boundHigh, a_from, a_way, a_stack, a_listed, a_listTop, a_listBottom) (nI x) (nI j) := by
  have v : vp_in (nI j) 14 := vp_in_nI hj (by omega)
  have ej : (nI j).toNatClampNeg = j := nI_clamp (by omega)
  have m1 := qm h1 h5 (by omega) (by omega) (by omega) (by omega)
  have m2 := qm h4 h2 (by omega) (by omega) (by omega) (by omega)
  have b1 := gb_m (x := t x) (y := q y) (by omega) (by omega) (by omega) (by omega)
  have b2 := gb_m (x := t y) (y := q x) (by omega) (by omega) (by omega) (by omega)
  have g : (f_enterTop * a_listBottom j - a_listTop j * f_enterBottom).toInt = t x * q y - t y * q x := by
    rw [qn_sub (by rw [m1, m2]; omega) (by rw [m1, m2]; omega), m1, m2]
  have e1 : f_enterTop * a_listBottom (nI j).toNatClampNeg - a_listTop (nI j).toNatClampNeg * f_enterBottom = f_enterTop * a_listBottom j - a_listTop j * f_enterBottom := by rw [ej]
  have e2 : a_listed (nI j).toNatClampNeg = nI y := by rw [ej]; exact h3
  refine And.intro v ⟨v, nm_r e1 (br_c (fun c => hp1 ?_) (fun c => br_c (fun c2 => ⟨v, br_c (fun c3 => hp0 ?_) (fun c3 => hp1 ?_)⟩) (fun c2 => hp0 ?_)))⟩
  · have c' := Int32.lt_iff_toInt_lt.mp c
    rw [g, qn_0] at c'
    exact Or.inl (by omega)
  · rw [e2] at c3
    have c3' := (nI_leI (by omega) (by omega)).mp c3
    have c2' := congrArg Int32.toInt c2
    rw [g, qn_0] at c2'
    unfold kb
    omega
  · rw [e2] at c3
    have c3' : ¬ y ≤ x := fun z => c3 (nI_le z (by omega))
    have c2' := congrArg Int32.toInt c2
    rw [g, qn_0] at c2'
    unfold kb
    omega
  · have c' : ¬ (f_enterTop * a_listBottom j - a_listTop j * f_enterBottom).toInt < (0 : Int32).toInt := fun z => c (Int32.lt_iff_toInt_lt.mpr z)
    have c2' : ¬ (f_enterTop * a_listBottom j - a_listTop j * f_enterBottom).toInt = (0 : Int32).toInt := fun z => c2 (Int32.toInt_inj.mp z)
    rw [g, qn_0] at c' c2'
    unfold kb
    omega
theorem xl_5 {n hc x : Nat} {lo hi fr wy : Nat → Int32} {ls : Nat → Nat} (hn : n ≤ 14) (hr : ry fr wy) (hB : bB n lo hi) (hI : lI n lo hi fr wy ls hc a_listed a_listTop a_listBottom) (hh : hc < 14) (hx : x < n) (h1 : f_enterTop.toInt = sT lo hi fr wy x) (h2 : f_enterBottom.toInt = sQ lo hi fr wy x) (hne : ∀ j, j < hc → ls j ≠ x) {post : SX → Prop} (hp : ∀ L T B : Nat → Int32, (∃ c, c ≤ hc ∧ lI n lo hi fr wy (nl' ls c hc x) (hc + 1) L T B) → post (f_count, f_nodes, f_built, f_enterTop, f_enterBottom, f_leaveTop, f_leaveBottom, nI (hc + 1), a_low, a_high, a_nodeLow, a_nodeHigh, a_begins, a_ends, a_lefts, a_order, a_sorted, a_bestOrder, a_suffix, a_boundLow, a_boundHigh, a_from, a_way, a_stack, L, T, B)) : ∀ c : Nat, c ≤ hc → (∀ i, c ≤ i → i < hc → kb (sT lo hi fr wy) (sQ lo hi fr wy) x (ls i)) → wX_enlist_5 post (nI x) f_count f_nodes f_built f_enterTop f_enterBottom f_leaveTop f_leaveBottom (nI hc) (c + 1) (nI c) a_low a_high a_nodeLow a_nodeHigh a_begins a_ends a_lefts a_order a_sorted a_bestOrder a_suffix a_boundLow a_boundHigh a_from a_way a_stack (sf a_listed c hc) (sf a_listTop c hc) (sf a_listBottom c hc) := by
  have bx := sTb (bx_gb hr hB hx)
  have tx := sTp lo hi fr wy x
  have qx := sQp lo hi fr wy x
  have X : ∀ c : Nat, c ≤ hc → (∀ i, c ≤ i → i < hc → kb (sT lo hi fr wy) (sQ lo hi fr wy) x (ls i)) → (∀ i, i < c → kb (sT lo hi fr wy) (sQ lo hi fr wy) (ls i) x) → wX_enlist_68 post (nI x) (nI c) f_count f_nodes f_built f_enterTop f_enterBottom f_leaveTop f_leaveBottom (nI hc) a_low a_high a_nodeLow a_nodeHigh a_begins a_ends a_lefts a_order a_sorted a_bestOrder a_suffix a_boundLow a_boundHigh a_from a_way a_stack (sf a_listed c hc) (sf a_listTop c hc) (sf a_listBottom c hc) := by
    intro c hc1 hhi hlo
    have v : vp_in (nI c) 14 := vp_in_nI (by omega) (by omega)
    have e : ∀ (g : Nat → Int32) (y : Int32), upd g (nI c).toNatClampNeg y = upd g c y := fun g y => by rw [nI_clamp (by omega)]
    exact And.intro v (nm_r (e _ _) ⟨v, nm_r (e _ _) ⟨v, nm_r (e _ _) (nm_r (nI_1 hc) (hp _ _ _ ⟨c, hc1, lI_ins hI hc1 hx h1 h2 hlo hhi⟩))⟩⟩)
  intro c
  induction c with
  | zero =>
    intro hc1 hhi
    exact br_t (nI_le (a := 0) (b := 0) (by omega) (by omega)) (X 0 hc1 hhi (fun i hi => by omega))
  | succ c ih =>
    intro hc1 hhi
    have hc' : c < hc := by omega
    obtain ⟨g1, g2, g3, g4⟩ := hI.1 c hc'
    have by' := sTb (bx_gb hr hB g4)
    have ty := sTp lo hi fr wy (ls c)
    have qy := sQp lo hi fr wy (ls c)
    have es : nI (c + 1) - 1 = nI c := nI_pred c
    refine br_f (nI_nle (by omega) (by omega)) ?_
    rw [es]
    refine xcb (x := x) (y := ls c) (t := sT lo hi fr wy) (q := sQ lo hi fr wy) (by omega) (by omega) (by omega) h1 h2 ?_ ?_ ?_ ⟨⟨by omega, by omega⟩, by omega, by omega⟩ ⟨⟨by omega, by omega⟩, by omega, by omega⟩ (fun k1 => br_f n10 ?_) (fun k0 => br_t rfl (X (c + 1) hc1 hhi (fun i hic => ?_)))
    · rw [sf_lo (by omega)]; exact g1
    · rw [sf_lo (by omega)]; exact g2
    · rw [sf_lo (by omega)]; exact g3
    · have v : vp_in (nI c) 14 := vp_in_nI (by omega) (by omega)
      have v1 : vp_in (nI (c + 1)) 14 := vp_in_nI (by omega) (by omega)
      have e : ∀ f : Nat → Int32, upd (sf f (c + 1) hc) (nI (c + 1)).toNatClampNeg (sf f (c + 1) hc (nI c).toNatClampNeg) = sf f c hc := fun f => by
        rw [nI_clamp (by omega), nI_clamp (by omega)]; exact sf_s (by omega)
      refine ⟨v, v1, nm_r (e _) ⟨v, v1, nm_r (e _) ⟨v, v1, nm_r (e _) (nm_r (pk_m1 c) (ih (by omega) (fun i i1 i2 => ?_)))⟩⟩⟩
      by_cases ei : i = c
      · subst ei; exact k1
      · exact hhi i (by omega) i2
    · have kc := (kb_tot (t := sT lo hi fr wy) (q := sQ lo hi fr wy) (hne c hc')).resolve_right k0
      by_cases ei : i = c
      · subst ei; exact kc
      · exact kb_tr (sQp _ _ _ _ _) (sQp _ _ _ _ _) (sQp _ _ _ _ _) (hI.2 i c (by omega) hc') kc
theorem xl {n hc x : Nat} {lo hi fr wy : Nat → Int32} {ls : Nat → Nat} (hn : n ≤ 14) (hr : ry fr wy) (hB : bB n lo hi) (hI : lI n lo hi fr wy ls hc a_listed a_listTop a_listBottom) (hh : hc < 14) (hx : x < n) (h1 : f_enterTop.toInt = sT lo hi fr wy x) (h2 : f_enterBottom.toInt = sQ lo hi fr wy x) (hne : ∀ j, j < hc → ls j ≠ x) {post : SX → Prop} (hp : ∀ L T B : Nat → Int32, (∃ c, c ≤ hc ∧ lI n lo hi fr wy (nl' ls c hc x) (hc + 1) L T B) → post (f_count, f_nodes, f_built, f_enterTop, f_enterBottom, f_leaveTop, f_leaveBottom, nI (hc + 1), a_low, a_high, a_nodeLow, a_nodeHigh, a_begins, a_ends, a_lefts, a_order, a_sorted, a_bestOrder, a_suffix, a_boundLow, a_boundHigh, a_from, a_way, a_stack, L, T, B)) : wpX_enlist post (f_count, f_nodes, f_built, f_enterTop, f_enterBottom, f_leaveTop, f_leaveBottom, nI hc, a_low, a_high, a_nodeLow, a_nodeHigh, a_begins, a_ends, a_lefts, a_order, a_sorted, a_bestOrder, a_suffix, a_boundLow, a_boundHigh, a_from, a_way, a_stack, a_listed, a_listTop, a_listBottom) (nI x) := by
  have K := xl_5 hn hr hB hI hh hx h1 h2 hne hp hc (Nat.le_refl hc) (fun i i1 i2 => by omega)
  rw [sf_0, sf_0, sf_0] at K
  exact Exists.intro _ K
/-! all boxes that are hit -/
def lJ (n : Nat) (bg en od : Nat → Nat) (lo hi fr wy : Nat → Int32) (st : List Nat) (hc : Nat) (L T B : Nat → Int32) : Prop := ∃ ls : Nat → Nat, lI n lo hi fr wy ls hc L T B ∧ ∀ Q : Nat → Prop, cq (fun j => Q (ls j)) 0 hc + tv_pd bg en (fun k => sP lo hi fr wy (od k) ∧ Q (od k)) st = cq (fun x => sP lo hi fr wy x ∧ Q x) 0 n
theorem xL_16 {n N : Nat} {bg en lf od : Nat → Nat} (hr : ry a_from a_way) (hB : bB n a_low a_high) (T : tr_T n N bg en lf od a_low a_high a_nodeLow a_nodeHigh a_begins a_ends a_lefts a_order) {post : SX → Prop} (hp : ∀ (et eb lt lb : Int32) (hc : Nat) (bl bh sk L TT B : Nat → Int32), lS n a_low a_high a_from a_way hc L TT B → post (f_count, f_nodes, f_built, et, eb, lt, lb, nI hc, a_low, a_high, a_nodeLow, a_nodeHigh, a_begins, a_ends, a_lefts, a_order, a_sorted, a_bestOrder, a_suffix, bl, bh, a_from, a_way, sk, L, TT, B)) : ∀ (m : Nat) (st : List Nat) (sp : Nat) (et eb lt lb : Int32) (hc : Nat) (bl bh sk L TT B : Nat → Int32), tv_sz bg en st < m → tv_I n N bg en sk st sp → lJ n bg en od a_low a_high a_from a_way st hc L TT B → wX_listHits_16 post m (nI st.length) (nI sp) f_count f_nodes f_built et eb lt lb (nI hc) a_low a_high a_nodeLow a_nodeHigh a_begins a_ends a_lefts a_order a_sorted a_bestOrder a_suffix bl bh a_from a_way sk L TT B := by
  have hbg := tr_bg T
  have hN := T.1
  have hn := T.2.1
  intro m
  induction m with
  | zero => intro st sp et eb lt lb hc bl bh sk L TT B hm; omega
  | succ m ih =>
    intro st sp et eb lt lb hc bl bh sk L TT B hm I J
    obtain ⟨ls, hI, hJ⟩ := J
    cases st with
    | nil =>
      have q := hp et eb lt lb hc bl bh sk L TT B ⟨ls, hI, fun Q => hJ Q⟩
      exact br_c (fun _ => q) (fun _ => br_t (nI_le (a := 0) (b := 0) (by omega) (by omega)) q)
    | cons i t =>
      obtain ⟨hi, hsk, htl, hsp, It⟩ := tv_pop hbg I
      have hI2 := hbg i hi
      have nd := T.2.2.2.2 i hi
      have hen : en i ≤ n := nd.1.2.1
      have esk : sk (nI t.length).toNatClampNeg = nI i := by rw [nI_clamp (by omega)]; exact hsk
      have szp := tv_szp (t := t) hbg hi
      have v : vp_in (nI i) 27 := vp_in_nI (by omega) (by omega)
      have ei : (nI i).toNatClampNeg = i := nI_clamp (by omega)
      refine br_f (nI_ge (b := 27) (by omega) (by decide)) (br_f (nI_nle (Nat.succ_pos _) (by show t.length + 1 < 2 ^ 31; omega)) (nm_r (pk_m1 t.length) ⟨vp_in_nI (by omega) (by omega), nm_r esk (xn (by omega) (tr_g hr hB T hi) hr.2 (fun r et' eb' lt' lb' bl' bh' hR => ?_))⟩))
      rcases hR with ⟨rfl, hnP⟩ | ⟨rfl, hPi, ⟨het, heb⟩, hlt, hlb⟩
      · refine br_t rfl (br_t rfl (nm_r (nI_1 sp) (ih t (sp + 1) _ _ _ _ _ _ _ _ _ _ _ (by omega) It ⟨ls, hI, fun Q => ?_⟩)))
        have e0 : cq (fun k => sP a_low a_high a_from a_way (od k) ∧ Q (od k)) (bg i) (en i - bg i) = 0 := cq_0 _ _ (fun j j1 j2 hj => hnP (tr_P hr nd.2.2 ⟨j, j1, by omega, rfl⟩ hj.1))
        have := hJ Q
        rw [show tv_pd bg en (fun k => sP a_low a_high a_from a_way (od k) ∧ Q (od k)) (i :: t) = cq (fun k => sP a_low a_high a_from a_way (od k) ∧ Q (od k)) (bg i) (en i - bg i) + tv_pd bg en (fun k => sP a_low a_high a_from a_way (od k) ∧ Q (od k)) t from rfl, e0, Nat.zero_add] at this
        exact this
      · by_cases hl : bg i + 1 = en i
        · have lP := tr_lP a_from a_way nd.2.2 hl
          have hx : od (bg i) < n := pm_lt T.2.2.2.1 (by omega)
          have hPx := lP.1.mp hPi
          have e1 : a_begins (nI i).toNatClampNeg = nI (bg i) := by rw [ei]; exact nd.2.1.1
          have v2 : vp_in (a_begins (nI i).toNatClampNeg) 14 := by rw [e1]; exact vp_in_nI (by omega) (by omega)
          have e2 : a_order (a_begins (nI i).toNatClampNeg).toNatClampNeg = nI (od (bg i)) := by rw [e1, nI_clamp (by omega)]; exact T.2.2.1 _ (by omega)
          have hJ' : ∀ Q : Nat → Prop, cq (fun j => Q (ls j)) 0 hc + (tN (Q (od (bg i))) + tv_pd bg en (fun k => sP a_low a_high a_from a_way (od k) ∧ Q (od k)) t) = cq (fun x => sP a_low a_high a_from a_way x ∧ Q x) 0 n := by
            intro Q
            have := hJ Q
            rw [show tv_pd bg en (fun k => sP a_low a_high a_from a_way (od k) ∧ Q (od k)) (i :: t) = cq (fun k => sP a_low a_high a_from a_way (od k) ∧ Q (od k)) (bg i) (en i - bg i) + tv_pd bg en (fun k => sP a_low a_high a_from a_way (od k) ∧ Q (od k)) t from rfl, show en i - bg i = 0 + 1 from by omega, cq_s, tN_c (q := Q (od (bg i))) ⟨fun z => z.2, fun z => ⟨hPx, z⟩⟩] at this
            rw [← this]
            show _ = _ + (0 + _ + _)
            omega
          have hne : ∀ j, j < hc → ls j ≠ od (bg i) := by
            have h1 := hJ' (fun y => y = od (bg i))
            have h2 := cq_le1 (p := fun x => sP a_low a_high a_from a_way x ∧ x = od (bg i)) 0 n (fun a b ha hb => ha.2.trans hb.2.symm)
            rw [tN_t rfl] at h1
            intro j hj hjx
            exact cq_z (p := fun j => ls j = od (bg i)) (b := 0) (l := hc) (by omega) j (by omega) (by omega) hjx
          have hh : hc < 14 := by
            have h1 := hJ' (fun _ => True)
            have h2 := cq_le (p := fun x => sP a_low a_high a_from a_way x ∧ True) 0 n
            rw [tN_t trivial, cq_all (p := fun _ => True) 0 hc (fun _ _ _ => trivial)] at h1
            omega
          refine br_f n10 ⟨v, v, br_t ((tr_1 T hi).mpr hl) ⟨v, v2, ?_⟩⟩
          rw [e2]
          refine xl hn hr hB hI hh hx (by rw [het]; exact lP.2.1) (by rw [heb]; exact lP.2.2) hne (fun L' T' B' hL => nm_r (nI_1 sp) ?_)
          obtain ⟨c, hc1, hI'⟩ := hL
          refine ih t (sp + 1) _ _ _ _ _ _ _ _ _ _ _ (by omega) It ⟨_, hI', fun Q => ?_⟩
          rw [nl_cq hc1 Q]
          have := hJ' Q
          omega
        · obtain ⟨hc1, hal⟩ := tr_in T hi hl
          have el : a_lefts (nI i).toNatClampNeg = nI (lf i) := by rw [ei]; exact hal
          have vw : vp_in (nI t.length) 32 := vp_in_nI (by omega) (by omega)
          have vw1 : vp_in (nI t.length + 1) 32 := by rw [nI_1]; exact vp_in_nI (by omega) (by omega)
          have s1 : upd sk (nI t.length).toNatClampNeg (a_lefts (nI i).toNatClampNeg) = upd sk t.length (nI (lf i)) := by rw [el, nI_clamp (by omega)]
          have s2 : upd (upd sk t.length (nI (lf i))) (nI t.length + 1).toNatClampNeg (a_lefts (nI i).toNatClampNeg + 1) = upd (upd sk t.length (nI (lf i))) (t.length + 1) (nI (lf i + 1)) := by rw [el, nI_1, nI_1, nI_clamp (by omega)]
          have hxy : (lf i = lf i ∧ lf i + 1 = lf i + 1) ∨ (lf i = lf i + 1 ∧ lf i + 1 = lf i) := Or.inl ⟨rfl, rfl⟩
          have szc := tv_szc (t := t) hbg hc1 hxy
          refine br_f n10 ⟨v, v, br_f (fun z => hl ((tr_1 T hi).mp z)) (br_f n10 ⟨v, vw, nm_r s1 ⟨v, vw1, nm_r s2 (nm_r (qn_2 t.length) (nm_r (nI_1 sp) (ih ((lf i + 1) :: lf i :: t) (sp + 1) _ _ _ _ _ _ _ _ _ _ _ (by omega) (tv_push hbg I hc1 hxy) ⟨ls, hI, fun Q => ?_⟩)))⟩⟩)⟩
          rw [tv_pdc (hbg _ (by omega)) (hbg _ hc1.1) hc1.2 hxy]
          exact hJ Q
theorem xL {n : Nat} (hn : n ≤ 14) (hr : ry a_from a_way) (hB : bB n a_low a_high) (ht : f_built = 0 ∨ (f_built = 1 ∧ tr_OK n f_nodes a_low a_high a_nodeLow a_nodeHigh a_begins a_ends a_lefts a_order)) {post : SX → Prop} (hp : ∀ (fn et eb lt lb : Int32) (hc : Nat) (nl nh ab ae al ao s bo sf bl bh sk L TT B : Nat → Int32), tr_OK n fn a_low a_high nl nh ab ae al ao → lS n a_low a_high a_from a_way hc L TT B → post (nI n, fn, 1, et, eb, lt, lb, nI hc, a_low, a_high, nl, nh, ab, ae, al, ao, s, bo, sf, bl, bh, a_from, a_way, sk, L, TT, B)) : wpX_listHits post (nI n, f_nodes, f_built, f_enterTop, f_enterBottom, f_leaveTop, f_leaveBottom, f_hitCount, a_low, a_high, a_nodeLow, a_nodeHigh, a_begins, a_ends, a_lefts, a_order, a_sorted, a_bestOrder, a_suffix, a_boundLow, a_boundHigh, a_from, a_way, a_stack, a_listed, a_listTop, a_listBottom) := by
  unfold wpX_listHits
  refine xu hn hB ht (fun fn nl nh ab ae al ao s bo sf bl bh hT => ?_)
  obtain ⟨N, bg, en, lf, od, rfl, h0, h1, T⟩ := id hT
  obtain ⟨I0, I1, I2⟩ := tS_I (a := a_stack) h0 h1 T
  refine xw T.1 ⟨tv_sz bg en (tS N) + 1, xL_16 hr hB T (fun et eb lt lb hc bl bh sk L TT B hs => hp (nI N) et eb lt lb hc nl nh ab ae al ao s bo sf bl bh sk L TT B hT hs) _ (tS N) 0 _ _ _ _ 0 _ _ _ _ _ _ (Nat.lt_succ_self _) I0 ⟨fun _ => 0, ⟨fun j hj => by omega, fun i j _ hj => by omega⟩, fun Q => ?_⟩⟩
  rw [I2]
  show 0 + _ = _
  rw [Nat.zero_add]
  exact T.2.2.2.1 (fun x => sP a_low a_high a_from a_way x ∧ Q x)
end LI
end
section
/-! boxes that meet a bound -/
def mt (lo hi bl bh : Nat → Int32) (x : Nat) : Prop := ∀ a, a < 3 → lo (3 * x + a) ≤ bh a ∧ bl a ≤ hi (3 * x + a)
theorem mt_n {b e i x : Nat} {od : Nat → Nat} {lo hi nl nh bl bh : Nat → Int32} (h : tr_fit od lo hi nl nh b e i) (hx : me od b e x) (hm : mt lo hi bl bh x) : mt nl nh bl bh i := fun a ha => ⟨Int32.le_trans ((h a ha).1 x hx).1 (hm a ha).1, Int32.le_trans (hm a ha).2 ((h a ha).1 x hx).2⟩
theorem mt_l {b e i : Nat} {od : Nat → Nat} {lo hi nl nh : Nat → Int32} (bl bh : Nat → Int32) (h : tr_fit od lo hi nl nh b e i) (hl : b + 1 = e) : mt nl nh bl bh i ↔ mt lo hi bl bh (od b) := by
  constructor
  · intro hm a ha
    have := hm a ha
    rw [(tr_lf h hl a ha).1, (tr_lf h hl a ha).2] at this
    exact this
  · intro hm
    exact mt_n h (tr_lm hl) hm
theorem mt_c {lo hi bl bh bl' bh' : Nat → Int32} (h : ∀ a, a < 3 → bl' a = bl a ∧ bh' a = bh a) (x : Nat) : mt lo hi bl' bh' x ↔ mt lo hi bl bh x := by
  constructor
  · intro hm a ha
    have := hm a ha
    rw [(h a ha).1, (h a ha).2] at this
    exact this
  · intro hm a ha
    rw [(h a ha).1, (h a ha).2]
    exact hm a ha
section CM
variable {f_count f_nodes f_built f_enterTop f_enterBottom f_leaveTop f_leaveBottom f_hitCount : Int32} {a_low a_high a_nodeLow a_nodeHigh a_begins a_ends a_lefts a_order a_sorted a_bestOrder a_suffix a_boundLow a_boundHigh a_from a_way a_stack a_listed a_listTop a_listBottom : Nat → Int32}
theorem xsb_s {a m : Nat} (ha : a < 3) {post : SX → Prop} (h : wX_setBound_24 post 0 f_count f_nodes f_built f_enterTop f_enterBottom f_leaveTop f_leaveBottom f_hitCount m (nI (a + 1)) a_low a_high a_nodeLow a_nodeHigh a_begins a_ends a_lefts a_order a_sorted a_bestOrder a_suffix a_boundLow (upd a_boundHigh a (a_boundLow a)) a_from a_way a_stack a_listed a_listTop a_listBottom) : wX_setBound_24 post 0 f_count f_nodes f_built f_enterTop f_enterBottom f_leaveTop f_leaveBottom f_hitCount (m + 1) (nI a) a_low a_high a_nodeLow a_nodeHigh a_begins a_ends a_lefts a_order a_sorted a_bestOrder a_suffix a_boundLow a_boundHigh a_from a_way a_stack a_listed a_listTop a_listBottom := by
  have v : vp_in (nI a) 3 := vp_in_nI ha (by omega)
  have e1 : upd a_boundHigh (nI a).toNatClampNeg (a_boundLow (nI a).toNatClampNeg + 0) = upd a_boundHigh a (a_boundLow a) := by rw [nI_clamp (by omega), Int32.add_zero]
  exact br_f (nI_ge (b := 3) ha (by decide)) ⟨v, v, nm_r e1 (nm_r (nI_1 a) h)⟩
theorem xsb {p0 p1 p2 : Int32} {post : SX → Prop} (h : ∀ bl bh : Nat → Int32, (bl 0 = p0 ∧ bl 1 = p1 ∧ bl 2 = p2) → (∀ a, a < 3 → bh a = bl a) → post (f_count, f_nodes, f_built, f_enterTop, f_enterBottom, f_leaveTop, f_leaveBottom, f_hitCount, a_low, a_high, a_nodeLow, a_nodeHigh, a_begins, a_ends, a_lefts, a_order, a_sorted, a_bestOrder, a_suffix, bl, bh, a_from, a_way, a_stack, a_listed, a_listTop, a_listBottom)) : wpX_setBound post (f_count, f_nodes, f_built, f_enterTop, f_enterBottom, f_leaveTop, f_leaveBottom, f_hitCount, a_low, a_high, a_nodeLow, a_nodeHigh, a_begins, a_ends, a_lefts, a_order, a_sorted, a_bestOrder, a_suffix, a_boundLow, a_boundHigh, a_from, a_way, a_stack, a_listed, a_listTop, a_listBottom) p0 p1 p2 0 := by
  refine nm_e (nm_e (nm_e ⟨4, xsb_s (a := 0) (by omega) (xsb_s (a := 1) (by omega) (xsb_s (a := 2) (by omega) (br_t (nI_le (a := 3) (b := 3) (by omega) (by decide)) (h _ _ ⟨rfl, rfl, rfl⟩ ?_))))⟩))
  intro a ha
  obtain rfl | rfl | rfl : a = 0 ∨ a = 1 ∨ a = 2 := by omega
  all_goals rfl
theorem xmn_2 {i : Nat} (hi : i < 27) {post : Int32 → Prop} (h1 : mt a_nodeLow a_nodeHigh a_boundLow a_boundHigh i → post 1) (h0 : ¬ mt a_nodeLow a_nodeHigh a_boundLow a_boundHigh i → post 0) : ∀ d k : Nat, k + d = 3 → (∀ a, a < k → a_nodeLow (3 * i + a) ≤ a_boundHigh a ∧ a_boundLow a ≤ a_nodeHigh (3 * i + a)) → wX_meetsNode_2 post (nI i) f_count f_nodes f_built f_enterTop f_enterBottom f_leaveTop f_leaveBottom f_hitCount a_low a_high a_nodeLow a_nodeHigh a_begins a_ends a_lefts a_order a_sorted a_bestOrder a_suffix a_boundLow a_boundHigh a_from a_way a_stack a_listed a_listTop a_listBottom (d + 1) (nI k) := by
  intro d
  induction d with
  | zero =>
    intro k hk hm
    have ek : k = 3 := by omega
    subst ek
    exact br_t (nI_le (a := 3) (b := 3) (by omega) (by decide)) (h1 hm)
  | succ d ih =>
    intro k hk hm
    have hk3 : k < 3 := by omega
    have v : vp_in (3 * nI i + nI k) 81 := qn_i3 hk3 hi (by omega)
    have v3 : vp_in (nI k) 3 := vp_in_nI hk3 (by omega)
    have e1 : (3 * nI i + nI k).toNatClampNeg = 3 * i + k := qn_c3 hk3 (by omega)
    have e2 : (nI k).toNatClampNeg = k := nI_clamp (by omega)
    refine br_f (nI_ge (b := 3) hk3 (by decide)) ⟨v, v3, br_c (fun c => h0 (fun z => ?_)) (fun c => ⟨v, v3, br_c (fun c2 => nm_r (nI_1 k) (ih (k + 1) (by omega) (lt_s hm ⟨?_, ?_⟩))) (fun c2 => h0 (fun z => ?_))⟩)⟩
    · rw [e1, e2] at c
      exact absurd c (Int32.not_lt.mpr (z k hk3).1)
    · rw [e1, e2] at c
      exact Int32.not_lt.mp c
    · rw [e1, e2] at c2
      exact c2
    · rw [e1, e2] at c2
      exact c2 (z k hk3).2
theorem xmn {i : Nat} (hi : i < 27) {post : Int32 → Prop} (h1 : mt a_nodeLow a_nodeHigh a_boundLow a_boundHigh i → post 1) (h0 : ¬ mt a_nodeLow a_nodeHigh a_boundLow a_boundHigh i → post 0) : wpX_meetsNode post (f_count, f_nodes, f_built, f_enterTop, f_enterBottom, f_leaveTop, f_leaveBottom, f_hitCount, a_low, a_high, a_nodeLow, a_nodeHigh, a_begins, a_ends, a_lefts, a_order, a_sorted, a_bestOrder, a_suffix, a_boundLow, a_boundHigh, a_from, a_way, a_stack, a_listed, a_listTop, a_listBottom) (nI i) :=
  Exists.intro 4 (xmn_2 hi h1 h0 3 0 (by omega) (fun a ha => absurd ha (Nat.not_lt_zero a)))
theorem xcm_93 {n N : Nat} {bg en lf od : Nat → Nat} (T : tr_T n N bg en lf od a_low a_high a_nodeLow a_nodeHigh a_begins a_ends a_lefts a_order) {post : Int32 → SX → Prop} (hp : ∀ sk : Nat → Int32, post (nI (cq (mt a_low a_high a_boundLow a_boundHigh) 0 n)) (f_count, f_nodes, f_built, f_enterTop, f_enterBottom, f_leaveTop, f_leaveBottom, f_hitCount, a_low, a_high, a_nodeLow, a_nodeHigh, a_begins, a_ends, a_lefts, a_order, a_sorted, a_bestOrder, a_suffix, a_boundLow, a_boundHigh, a_from, a_way, sk, a_listed, a_listTop, a_listBottom)) : ∀ (m : Nat) (st : List Nat) (sp sum : Nat) (sk : Nat → Int32), tv_sz bg en st < m → tv_I n N bg en sk st sp → sum + tv_pd bg en (fun k => mt a_low a_high a_boundLow a_boundHigh (od k)) st = cq (mt a_low a_high a_boundLow a_boundHigh) 0 n → wX_countMeeting_93 post f_count f_nodes f_built f_enterTop f_enterBottom f_leaveTop f_leaveBottom f_hitCount m (nI sum) (nI st.length) (nI sp) a_low a_high a_nodeLow a_nodeHigh a_begins a_ends a_lefts a_order a_sorted a_bestOrder a_suffix a_boundLow a_boundHigh a_from a_way sk a_listed a_listTop a_listBottom := by
  have hbg := tr_bg T
  have hN := T.1
  have hn := T.2.1
  intro m
  induction m with
  | zero => intro st sp sum sk hm; omega
  | succ m ih =>
    intro st sp sum sk hm I J
    cases st with
    | nil =>
      have q := hp sk
      rw [← J] at q
      exact br_c (fun _ => q) (fun _ => br_t (nI_le (a := 0) (b := 0) (by omega) (by omega)) q)
    | cons i t =>
      obtain ⟨hi, hsk, htl, hsp, It⟩ := tv_pop hbg I
      have hI2 := hbg i hi
      have nd := T.2.2.2.2 i hi
      have hen : en i ≤ n := nd.1.2.1
      have esk : sk (nI t.length).toNatClampNeg = nI i := by rw [nI_clamp (by omega)]; exact hsk
      have szp := tv_szp (t := t) hbg hi
      have v : vp_in (nI i) 27 := vp_in_nI (by omega) (by omega)
      have ei : (nI i).toNatClampNeg = i := nI_clamp (by omega)
      have J' : sum + (cq (fun k => mt a_low a_high a_boundLow a_boundHigh (od k)) (bg i) (en i - bg i) + tv_pd bg en (fun k => mt a_low a_high a_boundLow a_boundHigh (od k)) t) = cq (mt a_low a_high a_boundLow a_boundHigh) 0 n := J
      refine br_f (nI_ge (b := 27) (by omega) (by decide)) (br_f (nI_nle (Nat.succ_pos _) (by show t.length + 1 < 2 ^ 31; omega)) (nm_r (pk_m1 t.length) ⟨vp_in_nI (by omega) (by omega), nm_r esk (xmn (by omega) (fun hm1 => br_f n10 ⟨v, v, ?_⟩) (fun hm0 => br_t rfl (br_t rfl (nm_r (nI_1 sp) (ih t (sp + 1) sum _ (by omega) It ?_)))))⟩))
      · by_cases hl : bg i + 1 = en i
        · refine br_t ((tr_1 T hi).mpr hl) (nm_r (nI_1 sum) (nm_r (nI_1 sp) (ih t (sp + 1) (sum + 1) _ (by omega) It ?_)))
          rw [show en i - bg i = 0 + 1 from by omega, cq_s, Nat.add_zero, tN_t ((mt_l _ _ nd.2.2 hl).mp hm1)] at J'
          rw [← J']
          show _ = _ + (0 + _ + _)
          omega
        · obtain ⟨hc1, hal⟩ := tr_in T hi hl
          have el : a_lefts (nI i).toNatClampNeg = nI (lf i) := by rw [ei]; exact hal
          have vw : vp_in (nI t.length) 32 := vp_in_nI (by omega) (by omega)
          have vw1 : vp_in (nI t.length + 1) 32 := by rw [nI_1]; exact vp_in_nI (by omega) (by omega)
          have s1 : upd sk (nI t.length).toNatClampNeg (a_lefts (nI i).toNatClampNeg) = upd sk t.length (nI (lf i)) := by rw [el, nI_clamp (by omega)]
          have s2 : upd (upd sk t.length (nI (lf i))) (nI t.length + 1).toNatClampNeg (a_lefts (nI i).toNatClampNeg + 1) = upd (upd sk t.length (nI (lf i))) (t.length + 1) (nI (lf i + 1)) := by rw [el, nI_1, nI_1, nI_clamp (by omega)]
          have hxy : (lf i = lf i ∧ lf i + 1 = lf i + 1) ∨ (lf i = lf i + 1 ∧ lf i + 1 = lf i) := Or.inl ⟨rfl, rfl⟩
          have szc := tv_szc (t := t) hbg hc1 hxy
          refine br_f (fun z => hl ((tr_1 T hi).mp z)) (br_f n10 ⟨v, vw, nm_r s1 ⟨v, vw1, nm_r s2 (nm_r (qn_2 t.length) (nm_r (nI_1 sp) (ih ((lf i + 1) :: lf i :: t) (sp + 1) sum _ (by omega) (tv_push hbg I hc1 hxy) ?_)))⟩⟩)
          rw [tv_pdc (hbg _ (by omega)) (hbg _ hc1.1) hc1.2 hxy]
          exact J
      · have e0 : cq (fun k => mt a_low a_high a_boundLow a_boundHigh (od k)) (bg i) (en i - bg i) = 0 := cq_0 _ _ (fun j j1 j2 hj => hm0 (mt_n nd.2.2 ⟨j, j1, by omega, rfl⟩ hj))
        rw [e0, Nat.zero_add] at J'
        exact J'
theorem xcm {n : Nat} (hn : n ≤ 14) (hB : bB n a_low a_high) (ht : f_built = 0 ∨ (f_built = 1 ∧ tr_OK n f_nodes a_low a_high a_nodeLow a_nodeHigh a_begins a_ends a_lefts a_order)) {post : Int32 → SX → Prop} (hp : ∀ (fn : Int32) (nl nh ab ae al ao s bo sf bl bh sk : Nat → Int32), tr_OK n fn a_low a_high nl nh ab ae al ao → post (nI (cq (mt a_low a_high a_boundLow a_boundHigh) 0 n)) (nI n, fn, 1, f_enterTop, f_enterBottom, f_leaveTop, f_leaveBottom, f_hitCount, a_low, a_high, nl, nh, ab, ae, al, ao, s, bo, sf, bl, bh, a_from, a_way, sk, a_listed, a_listTop, a_listBottom)) : wpX_countMeeting post (nI n, f_nodes, f_built, f_enterTop, f_enterBottom, f_leaveTop, f_leaveBottom, f_hitCount, a_low, a_high, a_nodeLow, a_nodeHigh, a_begins, a_ends, a_lefts, a_order, a_sorted, a_bestOrder, a_suffix, a_boundLow, a_boundHigh, a_from, a_way, a_stack, a_listed, a_listTop, a_listBottom) := by
  refine nm_e (nm_e (nm_e (nm_e (nm_e (nm_e ?_)))))
  refine xu hn hB ht (fun fn nl nh ab ae al ao s bo sf bl bh hT => ?_)
  obtain ⟨N, bg, en, lf, od, rfl, h0, h1, T⟩ := id hT
  obtain ⟨I0, I1, I2⟩ := tS_I (a := a_stack) h0 h1 T
  refine xsb (fun bl1 bh1 hb1 _ => nm_e (nm_e (nm_e ?_)))
  refine xw T.1 ⟨tv_sz bg en (tS N) + 1, xcm_93 T (fun sk => ?_) _ (tS N) 0 0 _ (Nat.lt_succ_self _) I0 ?_⟩
  · have e : cq (mt a_low a_high bl1 (upd (upd (upd bh1 0 (a_boundHigh 0)) 1 (a_boundHigh 1)) 2 (a_boundHigh 2))) 0 n = cq (mt a_low a_high a_boundLow a_boundHigh) 0 n := by
      refine cq_congr 0 n (fun x _ _ => mt_c (fun a ha => ?_) x)
      obtain rfl | rfl | rfl : a = 0 ∨ a = 1 ∨ a = 2 := by omega
      · exact ⟨hb1.1, rfl⟩
      · exact ⟨hb1.2.1, rfl⟩
      · exact ⟨hb1.2.2, rfl⟩
    rw [e]
    exact hp _ _ _ _ _ _ _ _ _ _ _ _ _ hT
  · rw [I2, Nat.zero_add]
    exact T.2.2.2.1 _
/-! around, meeting, touching: the component -/
def v3 (x y z : Int32) : Nat → Int32 := fun a => if a = 0 then x else if a = 1 then y else z
theorem xar {n : Nat} {p0 p1 p2 : Int32} (hn : n ≤ 14) (hB : bB n a_low a_high) (ht : f_built = 0 ∨ (f_built = 1 ∧ tr_OK n f_nodes a_low a_high a_nodeLow a_nodeHigh a_begins a_ends a_lefts a_order)) {post : Int32 → SX → Prop} (hp : ∀ (fn : Int32) (nl nh ab ae al ao s bo sf bl bh sk : Nat → Int32), tr_OK n fn a_low a_high nl nh ab ae al ao → post (nI (cq (mt a_low a_high (v3 p0 p1 p2) (v3 p0 p1 p2)) 0 n)) (nI n, fn, 1, f_enterTop, f_enterBottom, f_leaveTop, f_leaveBottom, f_hitCount, a_low, a_high, nl, nh, ab, ae, al, ao, s, bo, sf, bl, bh, a_from, a_way, sk, a_listed, a_listTop, a_listBottom)) : wpX_around post (nI n, f_nodes, f_built, f_enterTop, f_enterBottom, f_leaveTop, f_leaveBottom, f_hitCount, a_low, a_high, a_nodeLow, a_nodeHigh, a_begins, a_ends, a_lefts, a_order, a_sorted, a_bestOrder, a_suffix, a_boundLow, a_boundHigh, a_from, a_way, a_stack, a_listed, a_listTop, a_listBottom) p0 p1 p2 := by
  unfold wpX_around
  refine xsb (fun bl1 bh1 hb1 hb2 => ?_)
  refine xcm hn hB ht (fun fn nl nh ab ae al ao s bo sf bl bh sk hT => ?_)
  have e : cq (mt a_low a_high bl1 bh1) 0 n = cq (mt a_low a_high (v3 p0 p1 p2) (v3 p0 p1 p2)) 0 n := by
    refine cq_congr 0 n (fun x _ _ => mt_c (fun a ha => ?_) x)
    rw [hb2 a ha]
    obtain rfl | rfl | rfl : a = 0 ∨ a = 1 ∨ a = 2 := by omega
    · exact ⟨hb1.1, hb1.1⟩
    · exact ⟨hb1.2.1, hb1.2.1⟩
    · exact ⟨hb1.2.2, hb1.2.2⟩
  rw [e]
  exact hp _ _ _ _ _ _ _ _ _ _ _ _ _ hT
theorem xme_s {c e a m : Nat} (ha : a < 3) (hc : c < 32768) (he : e < 32768) {post : Int32 → SX → Prop} (h : wX_meeting_21 post (nI c) (nI e) f_count f_nodes f_built f_enterTop f_enterBottom f_leaveTop f_leaveBottom f_hitCount m (nI (a + 1)) a_low a_high a_nodeLow a_nodeHigh a_begins a_ends a_lefts a_order a_sorted a_bestOrder a_suffix (upd a_boundLow a (nI (pt c a))) (upd a_boundHigh a (nI (pt c a + pt e a))) a_from a_way a_stack a_listed a_listTop a_listBottom) : wX_meeting_21 post (nI c) (nI e) f_count f_nodes f_built f_enterTop f_enterBottom f_leaveTop f_leaveBottom f_hitCount (m + 1) (nI a) a_low a_high a_nodeLow a_nodeHigh a_begins a_ends a_lefts a_order a_sorted a_bestOrder a_suffix a_boundLow a_boundHigh a_from a_way a_stack a_listed a_listTop a_listBottom := by
  have v : vp_in (nI a) 3 := vp_in_nI ha (by omega)
  have e1 : upd a_boundLow (nI a).toNatClampNeg (nI (pt c a)) = upd a_boundLow a (nI (pt c a)) := by rw [nI_clamp (by omega)]
  have e2 : upd a_boundHigh (nI a).toNatClampNeg (nI (pt c a) + nI (pt e a)) = upd a_boundHigh a (nI (pt c a + pt e a)) := by rw [nI_clamp (by omega), nI_add]
  exact br_f (nI_ge (b := 3) ha (by decide)) (xp hc ha ⟨v, nm_r e1 (xp hc ha (xp he ha ⟨v, nm_r e2 (nm_r (nI_1 a) h)⟩))⟩)
theorem xme {n c e : Nat} (hn : n ≤ 14) (hB : bB n a_low a_high) (hc : c < 32768) (he : e < 32768) (ht : f_built = 0 ∨ (f_built = 1 ∧ tr_OK n f_nodes a_low a_high a_nodeLow a_nodeHigh a_begins a_ends a_lefts a_order)) {post : Int32 → SX → Prop} (hp : ∀ (fn : Int32) (nl nh ab ae al ao s bo sf bl bh sk : Nat → Int32), tr_OK n fn a_low a_high nl nh ab ae al ao → post (nI (cq (mt a_low a_high (fun a => nI (pt c a)) (fun a => nI (pt c a + pt e a))) 0 n)) (nI n, fn, 1, f_enterTop, f_enterBottom, f_leaveTop, f_leaveBottom, f_hitCount, a_low, a_high, nl, nh, ab, ae, al, ao, s, bo, sf, bl, bh, a_from, a_way, sk, a_listed, a_listTop, a_listBottom)) : wpX_meeting post (nI n, f_nodes, f_built, f_enterTop, f_enterBottom, f_leaveTop, f_leaveBottom, f_hitCount, a_low, a_high, a_nodeLow, a_nodeHigh, a_begins, a_ends, a_lefts, a_order, a_sorted, a_bestOrder, a_suffix, a_boundLow, a_boundHigh, a_from, a_way, a_stack, a_listed, a_listTop, a_listBottom) (nI c) (nI e) := by
  unfold wpX_meeting
  refine xT_t hc (br_f n10 (xT_t he (br_f n10 ⟨4, xme_s (a := 0) (by omega) hc he (xme_s (a := 1) (by omega) hc he (xme_s (a := 2) (by omega) hc he (br_t (nI_le (a := 3) (b := 3) (by omega) (by decide)) (xcm hn hB ht (fun fn nl nh ab ae al ao s bo sf bl bh sk hT => ?_)))))⟩)))
  have e : cq (mt a_low a_high (upd (upd (upd a_boundLow 0 (nI (pt c 0))) 1 (nI (pt c 1))) 2 (nI (pt c 2))) (upd (upd (upd a_boundHigh 0 (nI (pt c 0 + pt e 0))) 1 (nI (pt c 1 + pt e 1))) 2 (nI (pt c 2 + pt e 2)))) 0 n = cq (mt a_low a_high (fun a => nI (pt c a)) (fun a => nI (pt c a + pt e a))) 0 n := by
    refine cq_congr 0 n (fun x _ _ => mt_c (fun a ha => ?_) x)
    obtain rfl | rfl | rfl : a = 0 ∨ a = 1 ∨ a = 2 := by omega
    all_goals exact ⟨rfl, rfl⟩
  have := hp fn nl nh ab ae al ao s bo sf bl bh sk hT
  rw [← e] at this
  exact this
theorem xme_1 {p0 p1 : Int32} (h0 : ¬ isT p0) {post : Int32 → SX → Prop} (h : post (-1) (f_count, f_nodes, f_built, f_enterTop, f_enterBottom, f_leaveTop, f_leaveBottom, f_hitCount, a_low, a_high, a_nodeLow, a_nodeHigh, a_begins, a_ends, a_lefts, a_order, a_sorted, a_bestOrder, a_suffix, a_boundLow, a_boundHigh, a_from, a_way, a_stack, a_listed, a_listTop, a_listBottom)) : wpX_meeting post (f_count, f_nodes, f_built, f_enterTop, f_enterBottom, f_leaveTop, f_leaveBottom, f_hitCount, a_low, a_high, a_nodeLow, a_nodeHigh, a_begins, a_ends, a_lefts, a_order, a_sorted, a_bestOrder, a_suffix, a_boundLow, a_boundHigh, a_from, a_way, a_stack, a_listed, a_listTop, a_listBottom) p0 p1 := by
  unfold wpX_meeting
  exact xT_f h0 (br_t rfl h)
theorem xme_2 {c : Nat} {p1 : Int32} (hc : c < 32768) (h0 : ¬ isT p1) {post : Int32 → SX → Prop} (h : post (-2) (f_count, f_nodes, f_built, f_enterTop, f_enterBottom, f_leaveTop, f_leaveBottom, f_hitCount, a_low, a_high, a_nodeLow, a_nodeHigh, a_begins, a_ends, a_lefts, a_order, a_sorted, a_bestOrder, a_suffix, a_boundLow, a_boundHigh, a_from, a_way, a_stack, a_listed, a_listTop, a_listBottom)) : wpX_meeting post (f_count, f_nodes, f_built, f_enterTop, f_enterBottom, f_leaveTop, f_leaveBottom, f_hitCount, a_low, a_high, a_nodeLow, a_nodeHigh, a_begins, a_ends, a_lefts, a_order, a_sorted, a_bestOrder, a_suffix, a_boundLow, a_boundHigh, a_from, a_way, a_stack, a_listed, a_listTop, a_listBottom) (nI c) p1 := by
  unfold wpX_meeting
  exact xT_t hc (br_f n10 (xT_f h0 (br_t rfl h)))
/-- how many boxes meet box b -/
noncomputable def tcn (n : Nat) (lo hi : Nat → Int32) (b : Nat) : Nat := cq (mt lo hi (fun a => lo (3 * b + a)) (fun a => hi (3 * b + a))) 0 n
noncomputable def tsm (n : Nat) (lo hi : Nat → Int32) : Nat → Nat
  | 0 => 0
  | k + 1 => tsm n lo hi k + (tcn n lo hi k - 1)
theorem tcn_1 {n b : Nat} {lo hi : Nat → Int32} (hB : bB n lo hi) (hb : b < n) : 1 ≤ tcn n lo hi b := by
  refine cq_pos (j := b) (Nat.zero_le b) (by omega) (fun a ha => ?_)
  have := (hB b hb a ha).2.1
  exact ⟨Int32.le_iff_toInt_le.mpr this, Int32.le_iff_toInt_le.mpr this⟩
theorem tsm_b {n : Nat} {lo hi : Nat → Int32} (hn : n ≤ 14) : ∀ k, tsm n lo hi k ≤ 14 * k := by
  intro k
  induction k with
  | zero => exact Nat.le_refl 0
  | succ k ih =>
    have : tcn n lo hi k ≤ n := cq_le 0 n
    show tsm n lo hi k + (tcn n lo hi k - 1) ≤ _
    omega
theorem xto_s {b a m : Nat} {x1 : Int32} (ha : a < 3) (hb : b < 14) {post : Int32 → SX → Prop} {J4 : Int32 → Int32 → Int32 → Int32 → Int32 → Int32 → Int32 → Int32 → Int32 → Int32 → (Nat → Int32) → (Nat → Int32) → (Nat → Int32) → (Nat → Int32) → (Nat → Int32) → (Nat → Int32) → (Nat → Int32) → (Nat → Int32) → (Nat → Int32) → (Nat → Int32) → (Nat → Int32) → (Nat → Int32) → (Nat → Int32) → (Nat → Int32) → (Nat → Int32) → (Nat → Int32) → (Nat → Int32) → (Nat → Int32) → (Nat → Int32) → Prop} (h : wX_touching_14 post J4 x1 (nI b) f_count f_nodes f_built f_enterTop f_enterBottom f_leaveTop f_leaveBottom f_hitCount m (nI (a + 1)) a_low a_high a_nodeLow a_nodeHigh a_begins a_ends a_lefts a_order a_sorted a_bestOrder a_suffix (upd a_boundLow a (a_low (3 * b + a))) (upd a_boundHigh a (a_high (3 * b + a))) a_from a_way a_stack a_listed a_listTop a_listBottom) : wX_touching_14 post J4 x1 (nI b) f_count f_nodes f_built f_enterTop f_enterBottom f_leaveTop f_leaveBottom f_hitCount (m + 1) (nI a) a_low a_high a_nodeLow a_nodeHigh a_begins a_ends a_lefts a_order a_sorted a_bestOrder a_suffix a_boundLow a_boundHigh a_from a_way a_stack a_listed a_listTop a_listBottom := by
  have v : vp_in (3 * nI b + nI a) 42 := qn_i3 ha hb (by omega)
  have v3 : vp_in (nI a) 3 := vp_in_nI ha (by omega)
  have e1 : upd a_boundLow (nI a).toNatClampNeg (a_low (3 * nI b + nI a).toNatClampNeg) = upd a_boundLow a (a_low (3 * b + a)) := by rw [qn_c3 ha (by omega), nI_clamp (by omega)]
  have e2 : upd a_boundHigh (nI a).toNatClampNeg (a_high (3 * nI b + nI a).toNatClampNeg) = upd a_boundHigh a (a_high (3 * b + a)) := by rw [qn_c3 ha (by omega), nI_clamp (by omega)]
  exact br_f (nI_ge (b := 3) ha (by decide)) ⟨v, v3, nm_r e1 ⟨v, v3, nm_r e2 (nm_r (nI_1 a) h)⟩⟩
theorem xto_4 {n : Nat} (hn : n ≤ 14) (hB : bB n a_low a_high) {post : Int32 → SX → Prop} (hp : ∀ (fn fb : Int32) (nl nh ab ae al ao s bo sf bl bh sk : Nat → Int32), (fb = 0 ∨ (fb = 1 ∧ tr_OK n fn a_low a_high nl nh ab ae al ao)) → post (nI (tsm n a_low a_high n / 2)) (nI n, fn, fb, f_enterTop, f_enterBottom, f_leaveTop, f_leaveBottom, f_hitCount, a_low, a_high, nl, nh, ab, ae, al, ao, s, bo, sf, bl, bh, a_from, a_way, sk, a_listed, a_listTop, a_listBottom)) : ∀ (d b : Nat) (fn fb : Int32) (nl nh ab ae al ao s bo sf bl bh sk : Nat → Int32), b + d = n → (fb = 0 ∨ (fb = 1 ∧ tr_OK n fn a_low a_high nl nh ab ae al ao)) → wX_touching_4 post (d + 1) (nI (tsm n a_low a_high b)) (nI b) (nI n) fn fb f_enterTop f_enterBottom f_leaveTop f_leaveBottom f_hitCount a_low a_high nl nh ab ae al ao s bo sf bl bh a_from a_way sk a_listed a_listTop a_listBottom := by
  intro d
  induction d with
  | zero =>
    intro b fn fb nl nh ab ae al ao s bo sf bl bh sk hb ht
    have eb : b = n := by omega
    subst eb
    refine br_t (nI_le (Nat.le_refl _) (by omega)) ?_
    have hb := tsm_b (lo := a_low) (hi := a_high) hn b
    rw [pk_shrN (by omega) _ 1 (by decide +kernel)]
    exact hp fn fb nl nh ab ae al ao s bo sf bl bh sk ht
  | succ d ih =>
    intro b fn fb nl nh ab ae al ao s bo sf bl bh sk hb ht
    refine br_f (nI_ge (by omega) (by omega)) ⟨4, xto_s (a := 0) (by omega) (by omega) (xto_s (a := 1) (by omega) (by omega) (xto_s (a := 2) (by omega) (by omega) (br_t (nI_le (a := 3) (b := 3) (by omega) (by decide)) (xcm hn hB ht (fun fn' nl' nh' ab' ae' al' ao' s' bo' sf' bl' bh' sk' hT => nm_r (e' := nI (tsm n a_low a_high (b + 1))) ?_ (nm_r (nI_1 b) (ih (b + 1) fn' 1 nl' nh' ab' ae' al' ao' s' bo' sf' bl' bh' sk' (by omega) (Or.inr ⟨rfl, hT⟩))))))))⟩
    have e : cq (mt a_low a_high (upd (upd (upd bl 0 (a_low (3 * b + 0))) 1 (a_low (3 * b + 1))) 2 (a_low (3 * b + 2))) (upd (upd (upd bh 0 (a_high (3 * b + 0))) 1 (a_high (3 * b + 1))) 2 (a_high (3 * b + 2)))) 0 n = tcn n a_low a_high b := by
      refine cq_congr 0 n (fun x _ _ => mt_c (fun a ha => ?_) x)
      obtain rfl | rfl | rfl : a = 0 ∨ a = 1 ∨ a = 2 := by omega
      all_goals exact ⟨rfl, rfl⟩
    have h1 := tcn_1 hB (show b < n by omega)
    show nI (tsm n a_low a_high b) + (nI (cq (mt a_low a_high (upd (upd (upd bl 0 (a_low (3 * b + 0))) 1 (a_low (3 * b + 1))) 2 (a_low (3 * b + 2))) (upd (upd (upd bh 0 (a_high (3 * b + 0))) 1 (a_high (3 * b + 1))) 2 (a_high (3 * b + 2)))) 0 n) - 1) = nI (tsm n a_low a_high b + (tcn n a_low a_high b - 1))
    rw [e, qn_s h1, nI_add]
theorem xto {n : Nat} (hn : n ≤ 14) (hB : bB n a_low a_high) (ht : f_built = 0 ∨ (f_built = 1 ∧ tr_OK n f_nodes a_low a_high a_nodeLow a_nodeHigh a_begins a_ends a_lefts a_order)) {post : Int32 → SX → Prop} (hp : ∀ (fn fb : Int32) (nl nh ab ae al ao s bo sf bl bh sk : Nat → Int32), (fb = 0 ∨ (fb = 1 ∧ tr_OK n fn a_low a_high nl nh ab ae al ao)) → post (nI (tsm n a_low a_high n / 2)) (nI n, fn, fb, f_enterTop, f_enterBottom, f_leaveTop, f_leaveBottom, f_hitCount, a_low, a_high, nl, nh, ab, ae, al, ao, s, bo, sf, bl, bh, a_from, a_way, sk, a_listed, a_listTop, a_listBottom)) : wpX_touching post (nI n, f_nodes, f_built, f_enterTop, f_enterBottom, f_leaveTop, f_leaveBottom, f_hitCount, a_low, a_high, a_nodeLow, a_nodeHigh, a_begins, a_ends, a_lefts, a_order, a_sorted, a_bestOrder, a_suffix, a_boundLow, a_boundHigh, a_from, a_way, a_stack, a_listed, a_listTop, a_listBottom) :=
  Exists.intro (n + 1) (xto_4 hn hB hp n 0 _ _ _ _ _ _ _ _ _ _ _ _ _ _ (by omega) ht)
end CM
end
section
/-! the square of a distance -/
def gp (l h v : Int) : Int := if h < v then v - h else if v < l then l - v else 0
def dst (lo hi : Nat → Int32) (w : Nat → Int) (x : Nat) : Int := gp (sl lo x 0) (sl hi x 0) (w 0) * gp (sl lo x 0) (sl hi x 0) (w 0) + gp (sl lo x 1) (sl hi x 1) (w 1) * gp (sl lo x 1) (sl hi x 1) (w 1) + gp (sl lo x 2) (sl hi x 2) (w 2) * gp (sl lo x 2) (sl hi x 2) (w 2)
theorem gp_0 (l h v : Int) (hlh : l ≤ h) : 0 ≤ gp l h v := by
  unfold gp
  split
  · omega
  · split <;> omega
theorem gp_m {l h v l' h' : Int} (h0 : l ≤ h) (h1 : l' ≤ l) (h2 : h ≤ h') : gp l' h' v ≤ gp l h v := by
  unfold gp
  split <;> split <;> (try split) <;> (try split) <;> omega
theorem sq_m {x y : Int} (h0 : 0 ≤ x) (h : x ≤ y) : x * x ≤ y * y :=
  Int.le_trans (Int.mul_le_mul_of_nonneg_left h h0) (Int.mul_le_mul_of_nonneg_right h (Int.le_trans h0 h))
theorem dst_m {lo hi nl nh : Nat → Int32} {w : Nat → Int} {x i : Nat} (h0 : ∀ a, a < 3 → sl lo x a ≤ sl hi x a) (h1 : ∀ a, a < 3 → sl nl i a ≤ sl lo x a) (h2 : ∀ a, a < 3 → sl hi x a ≤ sl nh i a) : dst nl nh w i ≤ dst lo hi w x := by
  have k : ∀ a, a < 3 → gp (sl nl i a) (sl nh i a) (w a) * gp (sl nl i a) (sl nh i a) (w a) ≤ gp (sl lo x a) (sl hi x a) (w a) * gp (sl lo x a) (sl hi x a) (w a) := fun a ha =>
    sq_m (gp_0 _ _ _ (Int.le_trans (h1 a ha) (Int.le_trans (h0 a ha) (h2 a ha)))) (gp_m (h0 a ha) (h1 a ha) (h2 a ha))
  have k0 := k 0 (by omega)
  have k1 := k 1 (by omega)
  have k2 := k 2 (by omega)
  unfold dst
  omega
theorem gp_b {l h v : Int} (h1 : 0 ≤ l ∧ l ≤ 31) (h2 : 0 ≤ h ∧ h ≤ 62) (h3 : -100 ≤ v ∧ v ≤ 100) : 0 ≤ gp l h v ∧ gp l h v ≤ 131 := by
  unfold gp
  split
  · omega
  · split <;> omega
theorem sq_b {x : Int} (h0 : 0 ≤ x) (h : x ≤ 131) : 0 ≤ x * x ∧ x * x ≤ 17161 := by
  have := sq_m h0 h
  have := Int.mul_nonneg h0 h0
  omega
theorem dst_0 {lo hi : Nat → Int32} {w : Nat → Int} {x : Nat} (hb : ∀ a, a < 3 → (0 ≤ sl lo x a ∧ sl lo x a ≤ 31) ∧ (0 ≤ sl hi x a ∧ sl hi x a ≤ 62)) (hw : ∀ a, a < 3 → -100 ≤ w a ∧ w a ≤ 100) : 0 ≤ dst lo hi w x := by
  have k : ∀ a, a < 3 → 0 ≤ gp (sl lo x a) (sl hi x a) (w a) * gp (sl lo x a) (sl hi x a) (w a) := fun a ha => (sq_b (gp_b (hb a ha).1 (hb a ha).2 (hw a ha)).1 (gp_b (hb a ha).1 (hb a ha).2 (hw a ha)).2).1
  have k0 := k 0 (by omega)
  have k1 := k 1 (by omega)
  have k2 := k 2 (by omega)
  unfold dst
  omega
/-- the sum over the first k axes -/
def dsk (lo hi : Nat → Int32) (w : Nat → Int) (x : Nat) : Nat → Int
  | 0 => 0
  | k + 1 => dsk lo hi w x k + gp (sl lo x k) (sl hi x k) (w k) * gp (sl lo x k) (sl hi x k) (w k)
theorem dsk_3 {lo hi : Nat → Int32} {w : Nat → Int} {x : Nat} : dsk lo hi w x 3 = dst lo hi w x := by
  show 0 + _ + _ + _ = _
  rw [Int.zero_add]
  rfl
theorem dsk_b {lo hi : Nat → Int32} {w : Nat → Int} {x : Nat} (hb : ∀ a, a < 3 → (0 ≤ sl lo x a ∧ sl lo x a ≤ 31) ∧ (0 ≤ sl hi x a ∧ sl hi x a ≤ 62)) (hw : ∀ a, a < 3 → -100 ≤ w a ∧ w a ≤ 100) : ∀ k : Nat, k ≤ 3 → 0 ≤ dsk lo hi w x k ∧ dsk lo hi w x k ≤ 17161 * k := by
  intro k
  induction k with
  | zero => intro _; exact ⟨Int.le_refl 0, by show (0 : Int) ≤ 17161 * 0; omega⟩
  | succ k ih =>
    intro hk
    have h1 := ih (by omega)
    have g := gp_b (hb k (by omega)).1 (hb k (by omega)).2 (hw k (by omega))
    have s := sq_b g.1 g.2
    show 0 ≤ dsk lo hi w x k + _ ∧ dsk lo hi w x k + _ ≤ 17161 * ((k + 1 : Nat) : Int)
    omega
section NE
variable {f_count f_nodes f_built f_enterTop f_enterBottom f_leaveTop f_leaveBottom f_hitCount : Int32} {a_low a_high a_nodeLow a_nodeHigh a_begins a_ends a_lefts a_order a_sorted a_bestOrder a_suffix a_boundLow a_boundHigh a_from a_way a_stack a_listed a_listTop a_listBottom : Nat → Int32}
theorem xdi_4 {i : Nat} (hi : i < 27) (hb : ∀ a, a < 3 → (0 ≤ sl a_nodeLow i a ∧ sl a_nodeLow i a ≤ 31) ∧ (0 ≤ sl a_nodeHigh i a ∧ sl a_nodeHigh i a ≤ 62)) (hw : ∀ a, a < 3 → -100 ≤ wI a_boundLow a ∧ wI a_boundLow a ≤ 100) {post : Int32 → Prop} (hp : ∀ r : Int32, r.toInt = dst a_nodeLow a_nodeHigh (wI a_boundLow) i → post r) : ∀ (d k : Nat) (s : Int32), k + d = 3 → s.toInt = dsk a_nodeLow a_nodeHigh (wI a_boundLow) i k → wX_distance_4 post (nI i) f_count f_nodes f_built f_enterTop f_enterBottom f_leaveTop f_leaveBottom f_hitCount a_low a_high a_nodeLow a_nodeHigh a_begins a_ends a_lefts a_order a_sorted a_bestOrder a_suffix a_boundLow a_boundHigh a_from a_way a_stack a_listed a_listTop a_listBottom (d + 1) s (nI k) := by
  intro d
  induction d with
  | zero =>
    intro k s hk hs
    have ek : k = 3 := by omega
    subst ek
    exact br_t (nI_le (a := 3) (b := 3) (by omega) (by decide)) (hp s (by rw [hs, dsk_3]))
  | succ d ih =>
    intro k s hk hs
    have hk3 : k < 3 := by omega
    have v : vp_in (3 * nI i + nI k) 81 := qn_i3 hk3 hi (by omega)
    have v3 : vp_in (nI k) 3 := vp_in_nI hk3 (by omega)
    have e1 : (3 * nI i + nI k).toNatClampNeg = 3 * i + k := qn_c3 hk3 (by omega)
    have e2 : (nI k).toNatClampNeg = k := nI_clamp (by omega)
    have b1 := hb k hk3
    have b2 := hw k hk3
    have t1 : (a_nodeLow (3 * i + k)).toInt = sl a_nodeLow i k := rfl
    have t2 : (a_nodeHigh (3 * i + k)).toInt = sl a_nodeHigh i k := rfl
    have t3 : (a_boundLow k).toInt = wI a_boundLow k := rfl
    have g1 : (a_nodeLow (3 * i + k) - a_boundLow k).toInt = sl a_nodeLow i k - wI a_boundLow k := by
      rw [qn_sub (by rw [t1, t3]; omega) (by rw [t1, t3]; omega), t1, t3]
    have g2 : (a_boundLow k - a_nodeHigh (3 * i + k)).toInt = wI a_boundLow k - sl a_nodeHigh i k := by
      rw [qn_sub (by rw [t2, t3]; omega) (by rw [t2, t3]; omega), t2, t3]
    have n1 : a_boundLow (nI k).toNatClampNeg = a_boundLow k := by rw [e2]
    have n2 : a_nodeLow (3 * nI i + nI k).toNatClampNeg - a_boundLow k = a_nodeLow (3 * i + k) - a_boundLow k := by rw [e1]
    have n3 : a_boundLow k - a_nodeHigh (3 * nI i + nI k).toNatClampNeg = a_boundLow k - a_nodeHigh (3 * i + k) := by rw [e1]
    have F : ∀ z : Int32, z.toInt = gp (sl a_nodeLow i k) (sl a_nodeHigh i k) (wI a_boundLow k) → wX_distance_72 post (wX_distance_4 post (nI i) f_count f_nodes f_built f_enterTop f_enterBottom f_leaveTop f_leaveBottom f_hitCount a_low a_high a_nodeLow a_nodeHigh a_begins a_ends a_lefts a_order a_sorted a_bestOrder a_suffix a_boundLow a_boundHigh a_from a_way a_stack a_listed a_listTop a_listBottom (d + 1)) (nI i) s (nI k) z f_count f_nodes f_built f_enterTop f_enterBottom f_leaveTop f_leaveBottom f_hitCount a_low a_high a_nodeLow a_nodeHigh a_begins a_ends a_lefts a_order a_sorted a_bestOrder a_suffix a_boundLow a_boundHigh a_from a_way a_stack a_listed a_listTop a_listBottom := by
      intro z hz
      have gb := gp_b b1.1 b1.2 b2
      have sb := sq_b gb.1 gb.2
      have db := dsk_b hb hw k (by omega)
      have m : (z * z).toInt = gp (sl a_nodeLow i k) (sl a_nodeHigh i k) (wI a_boundLow k) * gp (sl a_nodeLow i k) (sl a_nodeHigh i k) (wI a_boundLow k) := by
        rw [qn_mul (by rw [hz]; omega) (by rw [hz]; omega), hz]
      refine nm_e (nm_r (nI_1 k) (ih (k + 1) _ (by omega) ?_))
      rw [qn_add (by rw [m, hs]; omega) (by rw [m, hs]; omega), m, hs]
      rfl
    have G : ∀ z : Int32, z.toInt = (if wI a_boundLow k < sl a_nodeLow i k then sl a_nodeLow i k - wI a_boundLow k else 0) → wX_distance_58 post (wX_distance_4 post (nI i) f_count f_nodes f_built f_enterTop f_enterBottom f_leaveTop f_leaveBottom f_hitCount a_low a_high a_nodeLow a_nodeHigh a_begins a_ends a_lefts a_order a_sorted a_bestOrder a_suffix a_boundLow a_boundHigh a_from a_way a_stack a_listed a_listTop a_listBottom (d + 1)) (nI i) s (nI k) (a_boundLow k - a_nodeHigh (3 * i + k)) z f_count f_nodes f_built f_enterTop f_enterBottom f_leaveTop f_leaveBottom f_hitCount a_low a_high a_nodeLow a_nodeHigh a_begins a_ends a_lefts a_order a_sorted a_bestOrder a_suffix a_boundLow a_boundHigh a_from a_way a_stack a_listed a_listTop a_listBottom := by
      intro z hz
      refine br_c (fun c => F z ?_) (fun c => F _ ?_)
      · have c' := Int32.le_iff_toInt_le.mp c
        rw [g2, qn_0] at c'
        rw [hz]
        unfold gp
        rw [if_neg (show ¬ sl a_nodeHigh i k < wI a_boundLow k by omega)]
      · have c' : ¬ (a_boundLow k - a_nodeHigh (3 * i + k)).toInt ≤ (0 : Int32).toInt := fun y => c (Int32.le_iff_toInt_le.mpr y)
        rw [g2, qn_0] at c'
        rw [g2]
        unfold gp
        rw [if_pos (show sl a_nodeHigh i k < wI a_boundLow k by omega)]
    refine br_f (nI_ge (b := 3) hk3 (by decide)) ⟨v3, nm_r n1 ⟨v, nm_r n2 ⟨v, nm_r n3 (br_c (fun c => G _ ?_) (fun c => G _ ?_))⟩⟩⟩
    · have c' := Int32.le_iff_toInt_le.mp c
      rw [g1, qn_0] at c'
      rw [if_neg (show ¬ wI a_boundLow k < sl a_nodeLow i k by omega)]
      exact qn_0
    · have c' : ¬ (a_nodeLow (3 * i + k) - a_boundLow k).toInt ≤ (0 : Int32).toInt := fun y => c (Int32.le_iff_toInt_le.mpr y)
      rw [g1, qn_0] at c'
      rw [if_pos (show wI a_boundLow k < sl a_nodeLow i k by omega)]
      exact g1
theorem xdi {i : Nat} (hi : i < 27) (hb : ∀ a, a < 3 → (0 ≤ sl a_nodeLow i a ∧ sl a_nodeLow i a ≤ 31) ∧ (0 ≤ sl a_nodeHigh i a ∧ sl a_nodeHigh i a ≤ 62)) (hw : ∀ a, a < 3 → -100 ≤ wI a_boundLow a ∧ wI a_boundLow a ≤ 100) {post : Int32 → Prop} (hp : ∀ r : Int32, r.toInt = dst a_nodeLow a_nodeHigh (wI a_boundLow) i → post r) : wpX_distance post (f_count, f_nodes, f_built, f_enterTop, f_enterBottom, f_leaveTop, f_leaveBottom, f_hitCount, a_low, a_high, a_nodeLow, a_nodeHigh, a_begins, a_ends, a_lefts, a_order, a_sorted, a_bestOrder, a_suffix, a_boundLow, a_boundHigh, a_from, a_way, a_stack, a_listed, a_listTop, a_listBottom) (nI i) :=
  Exists.intro 4 (xdi_4 hi hb hw hp 3 0 0 (by omega) qn_0)
def nS (n : Nat) (lo hi : Nat → Int32) (w : Nat → Int) (r : Int32) : Prop := ∃ b : Nat, b < n ∧ r.toInt = dst lo hi w b ∧ ∀ x, x < n → dst lo hi w b ≤ dst lo hi w x
def nB (n : Nat) (lo hi : Nat → Int32) (w : Nat → Int) (todo : Nat → Prop) (r : Int32) : Prop := (r = -1 ∧ ∀ x, x < n → todo x) ∨ ∃ b : Nat, b < n ∧ r.toInt = dst lo hi w b ∧ ∀ x, x < n → todo x ∨ dst lo hi w b ≤ dst lo hi w x
theorem xne_57 {n N : Nat} {bg en lf od : Nat → Nat} (h0 : 0 < n) (hB : bB n a_low a_high) (hw : ∀ a, a < 3 → -100 ≤ wI a_boundLow a ∧ wI a_boundLow a ≤ 100) (T : tr_T n N bg en lf od a_low a_high a_nodeLow a_nodeHigh a_begins a_ends a_lefts a_order) {post : Int32 → SX → Prop} (hp : ∀ (r : Int32) (sk : Nat → Int32), nS n a_low a_high (wI a_boundLow) r → post r (f_count, f_nodes, f_built, f_enterTop, f_enterBottom, f_leaveTop, f_leaveBottom, f_hitCount, a_low, a_high, a_nodeLow, a_nodeHigh, a_begins, a_ends, a_lefts, a_order, a_sorted, a_bestOrder, a_suffix, a_boundLow, a_boundHigh, a_from, a_way, sk, a_listed, a_listTop, a_listBottom)) : ∀ (m : Nat) (st : List Nat) (sp : Nat) (x4 : Int32) (sk : Nat → Int32), tv_sz bg en st < m → tv_I n N bg en sk st sp → nB n a_low a_high (wI a_boundLow) (fun x => tv_in bg en od x st) x4 → wX_nearest_57 post f_count f_nodes f_built f_enterTop f_enterBottom f_leaveTop f_leaveBottom f_hitCount m x4 (nI st.length) (nI sp) a_low a_high a_nodeLow a_nodeHigh a_begins a_ends a_lefts a_order a_sorted a_bestOrder a_suffix a_boundLow a_boundHigh a_from a_way sk a_listed a_listTop a_listBottom := by
  have hbg := tr_bg T
  have hN := T.1
  have hn := T.2.1
  have nb : ∀ i, i < N → ∀ a, a < 3 → (0 ≤ sl a_nodeLow i a ∧ sl a_nodeLow i a ≤ 31) ∧ (0 ≤ sl a_nodeHigh i a ∧ sl a_nodeHigh i a ≤ 62) := fun i hi => tr_bd hB T.2.2.2.1 (T.2.2.2.2 i hi).1.2.1 (T.2.2.2.2 i hi).2.2
  have xb' : ∀ x, x < n → ∀ a, a < 3 → (0 ≤ sl a_low x a ∧ sl a_low x a ≤ 31) ∧ (0 ≤ sl a_high x a ∧ sl a_high x a ≤ 62) := fun x hx a ha => by
    have := hB x hx a ha
    show (0 ≤ (a_low (3 * x + a)).toInt ∧ (a_low (3 * x + a)).toInt ≤ 31) ∧ (0 ≤ (a_high (3 * x + a)).toInt ∧ (a_high (3 * x + a)).toInt ≤ 62)
    omega
  have dm : ∀ i, i < N → ∀ x, me od (bg i) (en i) x → dst a_nodeLow a_nodeHigh (wI a_boundLow) i ≤ dst a_low a_high (wI a_boundLow) x := fun i hi x hx => by
    have nd := T.2.2.2.2 i hi
    have hx' := tr_me T.2.2.2.1 nd.1.2.1 hx
    exact dst_m (fun a ha => (hB x hx' a ha).2.1) (tr_con nd.2.2 hx).1 (tr_con nd.2.2 hx).2
  have dl : ∀ i, i < N → bg i + 1 = en i → dst a_nodeLow a_nodeHigh (wI a_boundLow) i = dst a_low a_high (wI a_boundLow) (od (bg i)) := fun i hi hl => by
    have f := tr_lf (T.2.2.2.2 i hi).2.2 hl
    have f1 : ∀ a, a < 3 → sl a_nodeLow i a = sl a_low (od (bg i)) a := fun a ha => congrArg Int32.toInt (f a ha).1
    have f2 : ∀ a, a < 3 → sl a_nodeHigh i a = sl a_high (od (bg i)) a := fun a ha => congrArg Int32.toInt (f a ha).2
    unfold dst
    rw [f1 0 (by omega), f1 1 (by omega), f1 2 (by omega), f2 0 (by omega), f2 1 (by omega), f2 2 (by omega)]
  intro m
  induction m with
  | zero => intro st sp x4 sk hm; omega
  | succ m ih =>
    intro st sp x4 sk hm I J
    cases st with
    | nil =>
      have ne : ∀ x, ¬ tv_in bg en od x [] := fun x ⟨i, hi, _⟩ => absurd hi List.not_mem_nil
      have q := hp x4 sk (by
        rcases J with ⟨_, h⟩ | ⟨b, hb, e, h⟩
        · exact absurd (h 0 h0) (ne 0)
        · exact ⟨b, hb, e, fun x hx => (h x hx).resolve_left (ne x)⟩)
      exact br_c (fun _ => q) (fun _ => br_t (nI_le (a := 0) (b := 0) (by omega) (by omega)) q)
    | cons i t =>
      obtain ⟨hi, hsk, htl, hsp, It⟩ := tv_pop hbg I
      have hI2 := hbg i hi
      have nd := T.2.2.2.2 i hi
      have hen : en i ≤ n := nd.1.2.1
      have esk : sk (nI t.length).toNatClampNeg = nI i := by rw [nI_clamp (by omega)]; exact hsk
      have szp := tv_szp (t := t) hbg hi
      have v : vp_in (nI i) 27 := vp_in_nI (by omega) (by omega)
      have ei : (nI i).toNatClampNeg = i := nI_clamp (by omega)
      refine br_f (nI_ge (b := 27) (by omega) (by decide)) (br_f (nI_nle (Nat.succ_pos _) (by show t.length + 1 < 2 ^ 31; omega)) (nm_r (pk_m1 t.length) ⟨vp_in_nI (by omega) (by omega), nm_r esk (xdi (by omega) (nb i hi) hw (fun r hr => ?_))⟩))
      have inn : ∀ hl : bg i + 1 ≠ en i, wX_nearest_101 post (wX_nearest_57 post f_count f_nodes f_built f_enterTop f_enterBottom f_leaveTop f_leaveBottom f_hitCount m) x4 (nI t.length) (nI sp) (nI i) r f_count f_nodes f_built f_enterTop f_enterBottom f_leaveTop f_leaveBottom f_hitCount a_low a_high a_nodeLow a_nodeHigh a_begins a_ends a_lefts a_order a_sorted a_bestOrder a_suffix a_boundLow a_boundHigh a_from a_way sk a_listed a_listTop a_listBottom := by
        intro hl
        obtain ⟨hc1, hal⟩ := tr_in T hi hl
        have el : a_lefts (nI i).toNatClampNeg = nI (lf i) := by rw [ei]; exact hal
        have vw : vp_in (nI t.length) 32 := vp_in_nI (by omega) (by omega)
        have vw1 : vp_in (nI t.length + 1) 32 := by rw [nI_1]; exact vp_in_nI (by omega) (by omega)
        have s0 : ∀ z : Int32, upd sk (nI t.length).toNatClampNeg z = upd sk t.length z := fun z => by rw [nI_clamp (by omega)]
        have s1 : ∀ (g : Nat → Int32) (z : Int32), upd g (nI t.length + 1).toNatClampNeg z = upd g (t.length + 1) z := fun g z => by rw [nI_1, nI_clamp (by omega)]
        have push : ∀ x y : Nat, ((x = lf i ∧ y = lf i + 1) ∨ (x = lf i + 1 ∧ y = lf i)) → wX_nearest_57 post f_count f_nodes f_built f_enterTop f_enterBottom f_leaveTop f_leaveBottom f_hitCount m x4 (nI (t.length + 2)) (nI (sp + 1)) a_low a_high a_nodeLow a_nodeHigh a_begins a_ends a_lefts a_order a_sorted a_bestOrder a_suffix a_boundLow a_boundHigh a_from a_way (upd (upd sk t.length (nI x)) (t.length + 1) (nI y)) a_listed a_listTop a_listBottom := by
          intro x y hxy
          have szc := tv_szc (t := t) hbg hc1 hxy
          refine ih (y :: x :: t) (sp + 1) x4 _ (by omega) (tv_push hbg I hc1 hxy) ?_
          have K : ∀ z, tv_in bg en od z (i :: t) → tv_in bg en od z (y :: x :: t) := fun z hz => tv_inc (hbg _ (by omega)) (hbg _ hc1.1) hc1.2 hxy hz
          rcases J with ⟨e1, h⟩ | ⟨b, hb, e, h⟩
          · exact Or.inl ⟨e1, fun x hx => K x (h x hx)⟩
          · exact Or.inr ⟨b, hb, e, fun x hx => (h x hx).imp (K x) id⟩
        have p1 := push (lf i) (lf i + 1) (Or.inl ⟨rfl, rfl⟩)
        have p2 := push (lf i + 1) (lf i) (Or.inr ⟨rfl, rfl⟩)
        rw [← nI_1 (lf i)] at p1 p2
        have W : ∀ z : Int32, wX_nearest_158 post (wX_nearest_57 post f_count f_nodes f_built f_enterTop f_enterBottom f_leaveTop f_leaveBottom f_hitCount m) x4 (nI t.length) (nI sp) (nI (lf i)) z f_count f_nodes f_built f_enterTop f_enterBottom f_leaveTop f_leaveBottom f_hitCount a_low a_high a_nodeLow a_nodeHigh a_begins a_ends a_lefts a_order a_sorted a_bestOrder a_suffix a_boundLow a_boundHigh a_from a_way sk a_listed a_listTop a_listBottom := by
          intro z
          by_cases hz : z = 0
          · exact br_t hz (And.intro vw (nm_r (s0 _) (br_t hz ⟨vw1, nm_r (s1 _ _) (nm_r (qn_2 t.length) (nm_r (nI_1 sp) p1))⟩)))
          · exact br_f hz (And.intro vw (nm_r (s0 _) (br_f hz ⟨vw1, nm_r (s1 _ _) (nm_r (qn_2 t.length) (nm_r (nI_1 sp) p2))⟩)))
        refine And.intro v ⟨v, br_f (fun z => hl ((tr_1 T hi).mp z)) ⟨v, nm_r el (xdi (by omega) (nb _ (by omega)) hw (fun r1 _ => ?_))⟩⟩
        have D : wpX_distance (fun r_159 => (((r_159 < r1 → (wX_nearest_158 post (wX_nearest_57 post f_count f_nodes f_built f_enterTop f_enterBottom f_leaveTop f_leaveBottom f_hitCount m) x4 (nI t.length) (nI sp) (nI (lf i)) 0 f_count f_nodes f_built f_enterTop f_enterBottom f_leaveTop f_leaveBottom f_hitCount a_low a_high a_nodeLow a_nodeHigh a_begins a_ends a_lefts a_order a_sorted a_bestOrder a_suffix a_boundLow a_boundHigh a_from a_way sk a_listed a_listTop a_listBottom)) ∧ (¬ r_159 < r1 → (wX_nearest_158 post (wX_nearest_57 post f_count f_nodes f_built f_enterTop f_enterBottom f_leaveTop f_leaveBottom f_hitCount m) x4 (nI t.length) (nI sp) (nI (lf i)) 1 f_count f_nodes f_built f_enterTop f_enterBottom f_leaveTop f_leaveBottom f_hitCount a_low a_high a_nodeLow a_nodeHigh a_begins a_ends a_lefts a_order a_sorted a_bestOrder a_suffix a_boundLow a_boundHigh a_from a_way sk a_listed a_listTop a_listBottom))))) (f_count, f_nodes, f_built, f_enterTop, f_enterBottom, f_leaveTop, f_leaveBottom, f_hitCount, a_low, a_high, a_nodeLow, a_nodeHigh, a_begins, a_ends, a_lefts, a_order, a_sorted, a_bestOrder, a_suffix, a_boundLow, a_boundHigh, a_from, a_way, sk, a_listed, a_listTop, a_listBottom) (nI (lf i + 1)) := xdi (by omega) (nb _ hc1.1) hw (fun r2 _ => br_c (fun _ => W 0) (fun _ => W 1))
        rw [← nI_1 (lf i)] at D
        exact D
      have leaf : ∀ hl : bg i + 1 = en i, (∀ x, x < n → tv_in bg en od x (i :: t) ∨ dst a_nodeLow a_nodeHigh (wI a_boundLow) i ≤ dst a_low a_high (wI a_boundLow) x) → wX_nearest_101 post (wX_nearest_57 post f_count f_nodes f_built f_enterTop f_enterBottom f_leaveTop f_leaveBottom f_hitCount m) x4 (nI t.length) (nI sp) (nI i) r f_count f_nodes f_built f_enterTop f_enterBottom f_leaveTop f_leaveBottom f_hitCount a_low a_high a_nodeLow a_nodeHigh a_begins a_ends a_lefts a_order a_sorted a_bestOrder a_suffix a_boundLow a_boundHigh a_from a_way sk a_listed a_listTop a_listBottom := by
        intro hl h
        refine And.intro v ⟨v, br_t ((tr_1 T hi).mpr hl) (nm_r (nI_1 sp) (ih t (sp + 1) r sk (by omega) It (Or.inr ⟨od (bg i), pm_lt T.2.2.2.1 (by omega), by rw [hr, dl i hi hl], fun x hx => ?_⟩)))⟩
        rcases h x hx with hm | hm
        · rcases tv_inp hm with hm | hm
          · rw [me_one hl hm]; exact Or.inr (Int.le_refl _)
          · exact Or.inl hm
        · rw [← dl i hi hl]; exact Or.inr hm
      rcases J with ⟨e1, h⟩ | ⟨b, hb, e, h⟩
      · refine br_t (by rw [e1]; decide) ?_
        by_cases hl : bg i + 1 = en i
        · exact leaf hl (fun x hx => Or.inl (h x hx))
        · exact inn hl
      · have d0 := dst_0 (xb' b hb) hw
        have c0 : ¬ x4 < 0 := fun z => by
          have := Int32.lt_iff_toInt_lt.mp z
          rw [e, qn_0] at this; omega
        refine br_f c0 (br_c (fun c => nm_r (nI_1 sp) (ih t (sp + 1) x4 sk (by omega) It (Or.inr ⟨b, hb, e, fun x hx => ?_⟩))) (fun c => ?_))
        · have c' := Int32.le_iff_toInt_le.mp c
          rw [e, hr] at c'
          rcases h x hx with hm | hm
          · rcases tv_inp hm with hm | hm
            · exact Or.inr (Int.le_trans c' (dm i hi x hm))
            · exact Or.inl hm
          · exact Or.inr hm
        · have c' : ¬ x4.toInt ≤ r.toInt := fun z => c (Int32.le_iff_toInt_le.mpr z)
          rw [e, hr] at c'
          by_cases hl : bg i + 1 = en i
          · exact leaf hl (fun x hx => (h x hx).imp id (fun z => by omega))
          · exact inn hl
theorem xne {n : Nat} {p0 p1 p2 : Int32} (h0 : 0 < n) (hn : n ≤ 14) (hB : bB n a_low a_high) (ht : f_built = 0 ∨ (f_built = 1 ∧ tr_OK n f_nodes a_low a_high a_nodeLow a_nodeHigh a_begins a_ends a_lefts a_order)) (hp0 : nr 100 p0) (hp1 : nr 100 p1) (hp2 : nr 100 p2) {post : Int32 → SX → Prop} (hp : ∀ (r fn : Int32) (nl nh ab ae al ao s bo sf bl bh sk : Nat → Int32), tr_OK n fn a_low a_high nl nh ab ae al ao → nS n a_low a_high (wI (v3 p0 p1 p2)) r → post r (nI n, fn, 1, f_enterTop, f_enterBottom, f_leaveTop, f_leaveBottom, f_hitCount, a_low, a_high, nl, nh, ab, ae, al, ao, s, bo, sf, bl, bh, a_from, a_way, sk, a_listed, a_listTop, a_listBottom)) : wpX_nearest post (nI n, f_nodes, f_built, f_enterTop, f_enterBottom, f_leaveTop, f_leaveBottom, f_hitCount, a_low, a_high, a_nodeLow, a_nodeHigh, a_begins, a_ends, a_lefts, a_order, a_sorted, a_bestOrder, a_suffix, a_boundLow, a_boundHigh, a_from, a_way, a_stack, a_listed, a_listTop, a_listBottom) p0 p1 p2 := by
  unfold wpX_nearest
  refine xN_t hp0 (br_f n10 (xN_t hp1 (br_f n10 (xN_t hp2 (br_f n10 (br_f (nI_ne0 h0 (by omega)) ?_))))))
  refine xu hn hB ht (fun fn nl nh ab ae al ao s bo sf bl bh hT => ?_)
  obtain ⟨N, bg, en, lf, od, rfl, h00, h1, T⟩ := id hT
  obtain ⟨I0, I1, I2⟩ := tS_I (a := a_stack) h00 h1 T
  refine xsb (fun bl1 bh1 hb1 _ => ?_)
  have hv : ∀ a, a < 3 → wI bl1 a = wI (v3 p0 p1 p2) a := by
    intro a ha
    obtain rfl | rfl | rfl : a = 0 ∨ a = 1 ∨ a = 2 := by omega
    · exact congrArg Int32.toInt hb1.1
    · exact congrArg Int32.toInt hb1.2.1
    · exact congrArg Int32.toInt hb1.2.2
  have hw : ∀ a, a < 3 → -100 ≤ wI bl1 a ∧ wI bl1 a ≤ 100 := by
    intro a ha
    rw [hv a ha]
    obtain rfl | rfl | rfl : a = 0 ∨ a = 1 ∨ a = 2 := by omega
    · exact nr_100 hp0
    · exact nr_100 hp1
    · exact nr_100 hp2
  have hd : ∀ x, dst a_low a_high (wI bl1) x = dst a_low a_high (wI (v3 p0 p1 p2)) x := by
    intro x
    unfold dst
    rw [hv 0 (by omega), hv 1 (by omega), hv 2 (by omega)]
  refine xw T.1 ⟨tv_sz bg en (tS N) + 1, xne_57 h0 hB hw T (fun r sk hs => hp r _ _ _ _ _ _ _ _ _ _ _ _ _ hT ?_) _ (tS N) 0 (-1) _ (Nat.lt_succ_self _) I0 (Or.inl ⟨rfl, fun x hx => I1 x hx⟩)⟩
  obtain ⟨b, hb, e, h⟩ := hs
  refine ⟨b, hb, by rw [e, hd], fun x hx => ?_⟩
  rw [← hd, ← hd]
  exact h x hx
theorem xne_0 {p0 p1 p2 : Int32} (hp0 : nr 100 p0) (hp1 : nr 100 p1) (hp2 : nr 100 p2) {post : Int32 → SX → Prop} (h : post (-2) (nI 0, f_nodes, f_built, f_enterTop, f_enterBottom, f_leaveTop, f_leaveBottom, f_hitCount, a_low, a_high, a_nodeLow, a_nodeHigh, a_begins, a_ends, a_lefts, a_order, a_sorted, a_bestOrder, a_suffix, a_boundLow, a_boundHigh, a_from, a_way, a_stack, a_listed, a_listTop, a_listBottom)) : wpX_nearest post (nI 0, f_nodes, f_built, f_enterTop, f_enterBottom, f_leaveTop, f_leaveBottom, f_hitCount, a_low, a_high, a_nodeLow, a_nodeHigh, a_begins, a_ends, a_lefts, a_order, a_sorted, a_bestOrder, a_suffix, a_boundLow, a_boundHigh, a_from, a_way, a_stack, a_listed, a_listTop, a_listBottom) p0 p1 p2 := by
  unfold wpX_nearest
  exact xN_t hp0 (br_f n10 (xN_t hp1 (br_f n10 (xN_t hp2 (br_f n10 (br_t nI_0 h))))))
theorem xne_f {p0 p1 p2 : Int32} (hn : ¬ (nr 100 p0 ∧ nr 100 p1 ∧ nr 100 p2)) {post : Int32 → SX → Prop} (h : post (-1) (f_count, f_nodes, f_built, f_enterTop, f_enterBottom, f_leaveTop, f_leaveBottom, f_hitCount, a_low, a_high, a_nodeLow, a_nodeHigh, a_begins, a_ends, a_lefts, a_order, a_sorted, a_bestOrder, a_suffix, a_boundLow, a_boundHigh, a_from, a_way, a_stack, a_listed, a_listTop, a_listBottom)) : wpX_nearest post (f_count, f_nodes, f_built, f_enterTop, f_enterBottom, f_leaveTop, f_leaveBottom, f_hitCount, a_low, a_high, a_nodeLow, a_nodeHigh, a_begins, a_ends, a_lefts, a_order, a_sorted, a_bestOrder, a_suffix, a_boundLow, a_boundHigh, a_from, a_way, a_stack, a_listed, a_listTop, a_listBottom) p0 p1 p2 := by
  unfold wpX_nearest
  by_cases h1 : nr 100 p0
  · by_cases h2 : nr 100 p1
    · by_cases h3 : nr 100 p2
      · exact absurd ⟨h1, h2, h3⟩ hn
      · exact xN_t h1 (br_f n10 (xN_t h2 (br_f n10 (xN_f h3 (br_t rfl h)))))
    · exact xN_t h1 (br_f n10 (xN_f h2 (br_t rfl h)))
  · exact xN_f h1 (br_t rfl h)
end NE
end
section
/-! within a limit -/
theorem gb_p {x y : Int} (h1 : 0 ≤ x) (h2 : x ≤ 1000) (h3 : 0 ≤ y) (h4 : y ≤ 100) : 0 ≤ x * y ∧ x * y ≤ 100000 := by
  have e1 := Int.mul_nonneg h1 h3
  have e2 := Int.mul_le_mul_of_nonneg_right h2 h3
  omega
theorem qp {x y : Int32} {X Y : Int} (hx : x.toInt = X) (hy : y.toInt = Y) (h1 : 0 ≤ X) (h2 : X ≤ 1000) (h3 : 0 ≤ Y) (h4 : Y ≤ 100) : (x * y).toInt = X * Y := by
  have := gb_p h1 h2 h3 h4
  rw [qn_mul (by rw [hx, hy]; omega) (by rw [hx, hy]; omega), hx, hy]
def wQ (lo hi fr wy : Nat → Int32) (A B : Nat) (x : Nat) : Prop := sT lo hi fr wy x * B ≤ A * sQ lo hi fr wy x
section QU
variable {f_count f_nodes f_built f_enterTop f_enterBottom f_leaveTop f_leaveBottom f_hitCount : Int32} {a_low a_high a_nodeLow a_nodeHigh a_begins a_ends a_lefts a_order a_sorted a_bestOrder a_suffix a_boundLow a_boundHigh a_from a_way a_stack a_listed a_listTop a_listBottom : Nat → Int32}
theorem xbl_39 {n N A B : Nat} {bg en lf od : Nat → Nat} (hA : A ≤ 1000) (hB1 : 1 ≤ B) (hB2 : B ≤ 100) (hr : ry a_from a_way) (hB : bB n a_low a_high) (T : tr_T n N bg en lf od a_low a_high a_nodeLow a_nodeHigh a_begins a_ends a_lefts a_order) {post : Int32 → SX → Prop} (hp : ∀ (r et eb lt lb : Int32) (bl bh sk : Nat → Int32), ((r = 1 ∧ ∃ x, x < n ∧ sP a_low a_high a_from a_way x ∧ wQ a_low a_high a_from a_way A B x) ∨ (r = 0 ∧ ∀ x, x < n → sP a_low a_high a_from a_way x → ¬ wQ a_low a_high a_from a_way A B x)) → post r (f_count, f_nodes, f_built, et, eb, lt, lb, f_hitCount, a_low, a_high, a_nodeLow, a_nodeHigh, a_begins, a_ends, a_lefts, a_order, a_sorted, a_bestOrder, a_suffix, bl, bh, a_from, a_way, sk, a_listed, a_listTop, a_listBottom)) : ∀ (m : Nat) (st : List Nat) (sp : Nat) (et eb lt lb : Int32) (bl bh sk : Nat → Int32), tv_sz bg en st < m → tv_I n N bg en sk st sp → (∀ x, x < n → sP a_low a_high a_from a_way x → wQ a_low a_high a_from a_way A B x → tv_in bg en od x st) → wX_blocked_39 post (nI A) (nI B) m (nI st.length) (nI sp) f_count f_nodes f_built et eb lt lb f_hitCount a_low a_high a_nodeLow a_nodeHigh a_begins a_ends a_lefts a_order a_sorted a_bestOrder a_suffix bl bh a_from a_way sk a_listed a_listTop a_listBottom := by
  have hbg := tr_bg T
  have hN := T.1
  have hn := T.2.1
  intro m
  induction m with
  | zero => intro st sp et eb lt lb bl bh sk hm; omega
  | succ m ih =>
    intro st sp et eb lt lb bl bh sk hm I J
    cases st with
    | nil =>
      have ne : ∀ x, ¬ tv_in bg en od x [] := fun x ⟨i, hi, _⟩ => absurd hi List.not_mem_nil
      have q := hp 0 et eb lt lb bl bh sk (Or.inr ⟨rfl, fun x hx hP hQ => ne x (J x hx hP hQ)⟩)
      exact br_c (fun _ => q) (fun _ => br_t (nI_le (a := 0) (b := 0) (by omega) (by omega)) q)
    | cons i t =>
      obtain ⟨hi, hsk, htl, hsp, It⟩ := tv_pop hbg I
      have hI2 := hbg i hi
      have nd := T.2.2.2.2 i hi
      have hen : en i ≤ n := nd.1.2.1
      have esk : sk (nI t.length).toNatClampNeg = nI i := by rw [nI_clamp (by omega)]; exact hsk
      have szp := tv_szp (t := t) hbg hi
      have v : vp_in (nI i) 27 := vp_in_nI (by omega) (by omega)
      have ei : (nI i).toNatClampNeg = i := nI_clamp (by omega)
      refine br_f (nI_ge (b := 27) (by omega) (by decide)) (br_f (nI_nle (Nat.succ_pos _) (by show t.length + 1 < 2 ^ 31; omega)) (nm_r (pk_m1 t.length) ⟨vp_in_nI (by omega) (by omega), nm_r esk (xn (by omega) (tr_g hr hB T hi) hr.2 (fun r et' eb' lt' lb' bl' bh' hR => ?_))⟩))
      have skip : (∀ x, x < n → sP a_low a_high a_from a_way x → wQ a_low a_high a_from a_way A B x → ¬ me od (bg i) (en i) x) → wX_blocked_89 post (wX_blocked_39 post (nI A) (nI B) m) (nI A) (nI B) (nI t.length) (nI sp) (nI i) f_count f_nodes f_built et' eb' lt' lb' f_hitCount a_low a_high a_nodeLow a_nodeHigh a_begins a_ends a_lefts a_order a_sorted a_bestOrder a_suffix bl' bh' a_from a_way sk a_listed a_listTop a_listBottom := by
        intro hno
        have K := ih t (sp + 1) et' eb' lt' lb' bl' bh' sk (by omega) It (fun x hx hP hQ => (tv_inp (J x hx hP hQ)).resolve_left (hno x hx hP hQ))
        exact br_t rfl (br_t rfl (nm_r (nI_1 sp) K))
      rcases hR with ⟨rfl, hnP⟩ | ⟨rfl, hPi, ⟨het, heb⟩, hlt, hlb⟩
      · exact br_t rfl (skip (fun x hx hP _ hm => hnP (tr_P hr nd.2.2 hm hP)))
      · have het' : et'.toInt = sT a_nodeLow a_nodeHigh a_from a_way i := het
        have heb' : eb'.toInt = sQ a_nodeLow a_nodeHigh a_from a_way i := heb
        have bi := sTb (tr_g hr hB T hi)
        have qi := sQp a_nodeLow a_nodeHigh a_from a_way i
        have ti := sTp a_nodeLow a_nodeHigh a_from a_way i
        have m1 := qp (nI_toInt (n := A) (by omega)) heb' (by omega) (by omega) (by omega) (by omega)
        have m2 := qp het' (nI_toInt (n := B) (by omega)) (by omega) (by omega) (by omega) (by omega)
        refine br_f n10 (br_c (fun c => skip (fun x hx hP hQ hm => ?_)) (fun c => ?_))
        · have c' := Int32.lt_iff_toInt_lt.mp c
          rw [m1, m2] at c'
          have q1 := tr_E a_from a_way nd.2.2 hm
          have q2 := gf_tr qi (sQp a_low a_high a_from a_way x) (show (0 : Int) < (B : Int) by omega) q1 hQ
          omega
        · have c' : ¬ (nI A * eb').toInt < (et' * nI B).toInt := fun z => c (Int32.lt_iff_toInt_lt.mpr z)
          rw [m1, m2] at c'
          refine br_f n10 ⟨v, v, ?_⟩
          by_cases hl : bg i + 1 = en i
          · have lP := tr_lP a_from a_way nd.2.2 hl
            rw [lP.2.1, lP.2.2] at c'
            exact br_t ((tr_1 T hi).mpr hl) (hp 1 _ _ _ _ _ _ _ (Or.inl ⟨rfl, od (bg i), pm_lt T.2.2.2.1 (by omega), lP.1.mp hPi, by unfold wQ; omega⟩))
          · obtain ⟨hc1, hal⟩ := tr_in T hi hl
            have el : a_lefts (nI i).toNatClampNeg = nI (lf i) := by rw [ei]; exact hal
            have vw : vp_in (nI t.length) 32 := vp_in_nI (by omega) (by omega)
            have vw1 : vp_in (nI t.length + 1) 32 := by rw [nI_1]; exact vp_in_nI (by omega) (by omega)
            have s1 : upd sk (nI t.length).toNatClampNeg (a_lefts (nI i).toNatClampNeg) = upd sk t.length (nI (lf i)) := by rw [el, nI_clamp (by omega)]
            have s2 : upd (upd sk t.length (nI (lf i))) (nI t.length + 1).toNatClampNeg (a_lefts (nI i).toNatClampNeg + 1) = upd (upd sk t.length (nI (lf i))) (t.length + 1) (nI (lf i + 1)) := by rw [el, nI_1, nI_1, nI_clamp (by omega)]
            have hxy : (lf i = lf i ∧ lf i + 1 = lf i + 1) ∨ (lf i = lf i + 1 ∧ lf i + 1 = lf i) := Or.inl ⟨rfl, rfl⟩
            have szc := tv_szc (t := t) hbg hc1 hxy
            exact br_f (fun z => hl ((tr_1 T hi).mp z)) (br_f n10 ⟨v, vw, nm_r s1 ⟨v, vw1, nm_r s2 (nm_r (qn_2 t.length) (nm_r (nI_1 sp) (ih ((lf i + 1) :: lf i :: t) (sp + 1) _ _ _ _ _ _ _ (by omega) (tv_push hbg I hc1 hxy) (fun x hx hP hQ => tv_inc (hbg _ (by omega)) (hbg _ hc1.1) hc1.2 hxy (J x hx hP hQ)))))⟩⟩)
/-! limits as arguments -/
def lmA (p : Int32) : Prop := ∃ A : Nat, A ≤ 1000 ∧ p = nI A
def lmB (p : Int32) : Prop := ∃ B : Nat, 1 ≤ B ∧ B ≤ 100 ∧ p = nI B
theorem lmA_i {p : Int32} (h0 : ¬ p < 0) (h1 : p ≤ 1000) : lmA p := nI_of2 (M := 1000) (n := 1000) (by decide) h0 h1
theorem lmB_i {p : Int32} (h0 : ¬ p < 1) (h1 : p ≤ 100) : lmB p := by
  have c0 : ¬ p < 0 := fun z => h0 (Int32.lt_iff_toInt_lt.mpr (by have := Int32.lt_iff_toInt_lt.mp z; rw [qn_0] at this; rw [qn_1]; omega))
  obtain ⟨B, hB, rfl⟩ := nI_of2 (M := 100) (n := 100) (by decide) c0 h1
  refine ⟨B, ?_, hB, rfl⟩
  refine Nat.pos_of_ne_zero (fun z => ?_)
  subst z
  exact h0 (by decide)
theorem lm_A {A : Nat} (h : A ≤ 1000) : ¬ nI A < 0 ∧ nI A ≤ 1000 := ⟨nI_pos (by omega), nI_le (b := 1000) h (by decide)⟩
theorem lm_B {B : Nat} (h1 : 1 ≤ B) (h2 : B ≤ 100) : ¬ nI B < 1 ∧ nI B ≤ 100 := ⟨nI_nlt (b := 1) h1 (by omega), nI_le (b := 100) h2 (by decide)⟩
theorem xbl {n A B : Nat} (hA : A ≤ 1000) (hB1 : 1 ≤ B) (hB2 : B ≤ 100) (hn : n ≤ 14) (hr : ry a_from a_way) (hB : bB n a_low a_high) (ht : f_built = 0 ∨ (f_built = 1 ∧ tr_OK n f_nodes a_low a_high a_nodeLow a_nodeHigh a_begins a_ends a_lefts a_order)) {post : Int32 → SX → Prop} (hp : ∀ (r : Int32) (u : SX), sX n a_low a_high a_from a_way u → ((r = 1 ∧ ∃ x, x < n ∧ sP a_low a_high a_from a_way x ∧ wQ a_low a_high a_from a_way A B x) ∨ (r = 0 ∧ ∀ x, x < n → sP a_low a_high a_from a_way x → ¬ wQ a_low a_high a_from a_way A B x)) → post r u) : wpX_blocked post (nI n, f_nodes, f_built, f_enterTop, f_enterBottom, f_leaveTop, f_leaveBottom, f_hitCount, a_low, a_high, a_nodeLow, a_nodeHigh, a_begins, a_ends, a_lefts, a_order, a_sorted, a_bestOrder, a_suffix, a_boundLow, a_boundHigh, a_from, a_way, a_stack, a_listed, a_listTop, a_listBottom) (nI A) (nI B) := by
  refine br_f (lm_A hA).1 (br_t (lm_A hA).2 (br_f (lm_B hB1 hB2).1 (br_t (lm_B hB1 hB2).2 ?_)))
  refine xu hn hB ht (fun fn nl nh ab ae al ao s bo sf bl bh hT => ?_)
  obtain ⟨N, bg, en, lf, od, rfl, h0, h1, T⟩ := id hT
  obtain ⟨I0, I1, I2⟩ := tS_I (a := a_stack) h0 h1 T
  exact xw T.1 ⟨tv_sz bg en (tS N) + 1, xbl_39 hA hB1 hB2 hr hB T (fun r et eb lt lb bl bh sk hs => hp r _ ⟨rfl, rfl, rfl, rfl, rfl, Or.inr ⟨rfl, hT⟩⟩ hs) _ (tS N) 0 _ _ _ _ _ _ _ (Nat.lt_succ_self _) I0 (fun x hx _ _ => I1 x hx)⟩
theorem xbl_1 {p0 p1 : Int32} (h0 : ¬ lmA p0) {post : Int32 → SX → Prop} (h : post (-1) (f_count, f_nodes, f_built, f_enterTop, f_enterBottom, f_leaveTop, f_leaveBottom, f_hitCount, a_low, a_high, a_nodeLow, a_nodeHigh, a_begins, a_ends, a_lefts, a_order, a_sorted, a_bestOrder, a_suffix, a_boundLow, a_boundHigh, a_from, a_way, a_stack, a_listed, a_listTop, a_listBottom)) : wpX_blocked post (f_count, f_nodes, f_built, f_enterTop, f_enterBottom, f_leaveTop, f_leaveBottom, f_hitCount, a_low, a_high, a_nodeLow, a_nodeHigh, a_begins, a_ends, a_lefts, a_order, a_sorted, a_bestOrder, a_suffix, a_boundLow, a_boundHigh, a_from, a_way, a_stack, a_listed, a_listTop, a_listBottom) p0 p1 :=
  br_c (fun _ => h) fun c => br_c (fun c2 => absurd (lmA_i c c2) h0) fun _ => h
theorem xbl_2 {A : Nat} {p1 : Int32} (hA : A ≤ 1000) (h0 : ¬ lmB p1) {post : Int32 → SX → Prop} (h : post (-2) (f_count, f_nodes, f_built, f_enterTop, f_enterBottom, f_leaveTop, f_leaveBottom, f_hitCount, a_low, a_high, a_nodeLow, a_nodeHigh, a_begins, a_ends, a_lefts, a_order, a_sorted, a_bestOrder, a_suffix, a_boundLow, a_boundHigh, a_from, a_way, a_stack, a_listed, a_listTop, a_listBottom)) : wpX_blocked post (f_count, f_nodes, f_built, f_enterTop, f_enterBottom, f_leaveTop, f_leaveBottom, f_hitCount, a_low, a_high, a_nodeLow, a_nodeHigh, a_begins, a_ends, a_lefts, a_order, a_sorted, a_bestOrder, a_suffix, a_boundLow, a_boundHigh, a_from, a_way, a_stack, a_listed, a_listTop, a_listBottom) (nI A) p1 :=
  br_f (lm_A hA).1 (br_t (lm_A hA).2 (br_c (fun _ => h) fun c => br_c (fun c2 => absurd (lmB_i c c2) h0) fun _ => h))
/-! hits -/
theorem xhi {n : Nat} (hn : n ≤ 14) (hr : ry a_from a_way) (hB : bB n a_low a_high) (ht : f_built = 0 ∨ (f_built = 1 ∧ tr_OK n f_nodes a_low a_high a_nodeLow a_nodeHigh a_begins a_ends a_lefts a_order)) {post : Int32 → SX → Prop} (hp : ∀ (u : SX), sX n a_low a_high a_from a_way u → post (nI (cq (sP a_low a_high a_from a_way) 0 n)) u) : wpX_hits post (nI n, f_nodes, f_built, f_enterTop, f_enterBottom, f_leaveTop, f_leaveBottom, f_hitCount, a_low, a_high, a_nodeLow, a_nodeHigh, a_begins, a_ends, a_lefts, a_order, a_sorted, a_bestOrder, a_suffix, a_boundLow, a_boundHigh, a_from, a_way, a_stack, a_listed, a_listTop, a_listBottom) := by
  unfold wpX_hits
  refine xL hn hr hB ht (fun fn et eb lt lb hc nl nh ab ae al ao s bo sf bl bh sk L TT B hT hS => ?_)
  obtain ⟨ls, hI, hJ⟩ := hS
  have e := hJ (fun _ => True)
  rw [cq_all (p := fun _ => True) 0 hc (fun _ _ _ => trivial), cq_congr (q := sP a_low a_high a_from a_way) 0 n (fun j _ _ => ⟨fun z => z.1, fun z => ⟨z, trivial⟩⟩)] at e
  have q := hp (nI n, fn, 1, et, eb, lt, lb, nI hc, a_low, a_high, nl, nh, ab, ae, al, ao, s, bo, sf, bl, bh, a_from, a_way, sk, L, TT, B) ⟨rfl, rfl, rfl, rfl, rfl, Or.inr ⟨rfl, hT⟩⟩
  rw [← e] at q
  exact q
/-- how many hits come before b -/
noncomputable def rk (n : Nat) (lo hi fr wy : Nat → Int32) (b : Nat) : Nat := cq (fun c => sP lo hi fr wy c ∧ kb (sT lo hi fr wy) (sQ lo hi fr wy) c b) 0 n
def hS (n : Nat) (lo hi fr wy : Nat → Int32) (i r : Int32) : Prop := (r = -1 ∧ ∀ b, b < n → sP lo hi fr wy b → ¬ nI (rk n lo hi fr wy b) = i) ∨ ∃ b : Nat, b < n ∧ sP lo hi fr wy b ∧ r = nI b ∧ nI (rk n lo hi fr wy b) = i ∧ ∀ b', b' < n → sP lo hi fr wy b' → nI (rk n lo hi fr wy b') = i → b' = b
def yS (n : Nat) (lo hi fr wy : Nat → Int32) (i r : Int32) : Prop := (r = -1 ∧ ∀ b, b < n → sP lo hi fr wy b → ¬ nI (rk n lo hi fr wy b) = i) ∨ ∃ b : Nat, b < n ∧ sP lo hi fr wy b ∧ r = nI b ∧ nI (rk n lo hi fr wy b) = i
theorem hS_u {n : Nat} {lo hi fr wy : Nat → Int32} {i r r' : Int32} (h : hS n lo hi fr wy i r) (h' : yS n lo hi fr wy i r') : r' = r := by
  rcases h with ⟨e, h⟩ | ⟨b, hb, hP, e, hk, hu⟩
  · rcases h' with ⟨e', _⟩ | ⟨b', hb', hP', e', hk'⟩
    · rw [e, e']
    · exact absurd hk' (h b' hb' hP')
  · rcases h' with ⟨e', h'⟩ | ⟨b', hb', hP', e', hk'⟩
    · exact absurd hk (h' b hb hP)
    · rw [e, e', hu b' hb' hP' hk']
theorem rk_lt {n : Nat} {lo hi fr wy : Nat → Int32} (b : Nat) : rk n lo hi fr wy b ≤ n := cq_le 0 n
theorem lS_rk {n : Nat} {lo hi fr wy : Nat → Int32} {hc : Nat} {ls : Nat → Nat} {L T B : Nat → Int32} (hI : lI n lo hi fr wy ls hc L T B) (hJ : ∀ Q : Nat → Prop, cq (fun j => Q (ls j)) 0 hc = cq (fun x => sP lo hi fr wy x ∧ Q x) 0 n) : (∀ j, j < hc → rk n lo hi fr wy (ls j) = j ∧ sP lo hi fr wy (ls j)) ∧ ∀ b, b < n → sP lo hi fr wy b → ∃ j, j < hc ∧ ls j = b := by
  refine ⟨fun j hj => ⟨?_, ?_⟩, fun b hb hP => ?_⟩
  · unfold rk
    rw [← hJ (fun c => kb (sT lo hi fr wy) (sQ lo hi fr wy) c (ls j))]
    refine cq_cut (by omega) (fun i hi => hI.2 i j hi hj) (fun i i1 i2 hk => ?_)
    by_cases e : i = j
    · subst e; exact kb_asy hk hk
    · exact kb_asy hk (hI.2 j i (by omega) i2)
  · have h1 := hJ (fun y => y = ls j)
    have h2 := cq_pos (p := fun i => ls i = ls j) (b := 0) (l := hc) (j := j) (Nat.zero_le j) (by omega) rfl
    rw [h1] at h2
    obtain ⟨y, _, _, hy, e⟩ := cq_ex h2
    rw [← e]; exact hy
  · have h1 := hJ (fun y => y = b)
    have h2 := cq_pos (p := fun x => sP lo hi fr wy x ∧ x = b) (b := 0) (l := n) (j := b) (Nat.zero_le b) (by omega) ⟨hP, rfl⟩
    rw [← h1] at h2
    obtain ⟨j, _, hj, e⟩ := cq_ex h2
    exact ⟨j, by omega, e⟩
theorem lS_14 {n : Nat} {lo hi fr wy : Nat → Int32} {hc : Nat} {ls : Nat → Nat} (hn : n ≤ 14) (hJ : ∀ Q : Nat → Prop, cq (fun j => Q (ls j)) 0 hc = cq (fun x => sP lo hi fr wy x ∧ Q x) 0 n) : hc ≤ 14 := by
  have h1 := hJ (fun _ => True)
  have h2 := cq_le (p := fun x => sP lo hi fr wy x ∧ True) 0 n
  rw [cq_all (p := fun _ => True) 0 hc (fun _ _ _ => trivial)] at h1
  omega
theorem xht {n : Nat} {p0 : Int32} (hn : n ≤ 14) (hr : ry a_from a_way) (hB : bB n a_low a_high) (ht : f_built = 0 ∨ (f_built = 1 ∧ tr_OK n f_nodes a_low a_high a_nodeLow a_nodeHigh a_begins a_ends a_lefts a_order)) {post : Int32 → SX → Prop} (hp : ∀ (r : Int32) (u : SX), sX n a_low a_high a_from a_way u → hS n a_low a_high a_from a_way p0 r → post r u) : wpX_hit post (nI n, f_nodes, f_built, f_enterTop, f_enterBottom, f_leaveTop, f_leaveBottom, f_hitCount, a_low, a_high, a_nodeLow, a_nodeHigh, a_begins, a_ends, a_lefts, a_order, a_sorted, a_bestOrder, a_suffix, a_boundLow, a_boundHigh, a_from, a_way, a_stack, a_listed, a_listTop, a_listBottom) p0 := by
  unfold wpX_hit
  refine xL hn hr hB ht (fun fn et eb lt lb hc nl nh ab ae al ao s bo sf bl bh sk L TT B hT hS => ?_)
  obtain ⟨ls, hI, hJ⟩ := hS
  have h14 := lS_14 hn hJ
  have R := lS_rk hI hJ
  have q := fun r => hp r (nI n, fn, 1, et, eb, lt, lb, nI hc, a_low, a_high, nl, nh, ab, ae, al, ao, s, bo, sf, bl, bh, a_from, a_way, sk, L, TT, B) ⟨rfl, rfl, rfl, rfl, rfl, Or.inr ⟨rfl, hT⟩⟩
  rcases pk_ix p0 (n := hc) (by omega) with c | c | ⟨j, hj, rfl⟩
  · refine br_t c (q _ (Or.inl ⟨rfl, fun b hb hP z => ?_⟩))
    have := rk_lt (n := n) (lo := a_low) (hi := a_high) (fr := a_from) (wy := a_way) b
    exact nI_pos (by omega) (z ▸ c)
  · by_cases c0 : p0 < 0
    · refine br_t c0 (q _ (Or.inl ⟨rfl, fun b hb hP z => ?_⟩))
      have := rk_lt (n := n) (lo := a_low) (hi := a_high) (fr := a_from) (wy := a_way) b
      exact nI_pos (by omega) (z ▸ c0)
    · refine br_f c0 (br_t c (q _ (Or.inl ⟨rfl, fun b hb hP z => ?_⟩)))
      obtain ⟨j, hj, e⟩ := R.2 b hb hP
      have e2 := (R.1 j hj).1
      rw [e] at e2
      rw [e2] at z
      rw [← z] at c
      exact nI_ge hj (by omega) c
  · have h1 := hI.1 j hj
    have v : vp_in (nI j) 14 := vp_in_nI (by omega) (by omega)
    refine br_f (nI_pos (by omega)) (br_f (nI_ge hj (by omega)) ⟨v, ?_⟩)
    refine q _ (Or.inr ⟨ls j, h1.2.2.2, (R.1 j hj).2, by rw [nI_clamp (by omega)]; exact h1.1, by rw [(R.1 j hj).1], fun b' hb' hP' hk' => ?_⟩)
    obtain ⟨j', hj', e⟩ := R.2 b' hb' hP'
    rw [← e, (R.1 j' hj').1] at hk'
    have : j' = j := qn_inj hk' (by omega) (by omega)
    rw [← e, this]
theorem fS_h {n : Nat} {lo hi fr wy : Nat → Int32} {r : Int32} (hn : n ≤ 14) (h : fS n lo hi fr wy r) : hS n lo hi fr wy 0 r := by
  rcases h with ⟨e, h⟩ | ⟨b, hb, e, hP, h⟩
  · exact Or.inl ⟨e, fun b hb hP => absurd hP (h b hb)⟩
  · refine Or.inr ⟨b, hb, hP, e, ?_, fun b' hb' hP' hk' => ?_⟩
    · have : rk n lo hi fr wy b = 0 := cq_0 0 n (fun c _ hc hk => by
        rcases h c (by omega) hk.1 with z | z
        · rw [z] at hk; exact kb_asy hk.2 hk.2
        · exact kb_asy z hk.2)
      rw [this]; rfl
    · rcases h b' hb' hP' with z | z
      · exact z
      · have hl : rk n lo hi fr wy b' ≤ n := rk_lt b'
        have hz : 0 < rk n lo hi fr wy b' := cq_pos (j := b) (Nat.zero_le b) (by omega) ⟨hP, z⟩
        exact absurd hk' (nI_ne0 hz (by omega))
end QU
end
section
section QV
variable {f_count f_nodes f_built f_enterTop f_enterBottom f_leaveTop f_leaveBottom f_hitCount : Int32} {a_low a_high a_nodeLow a_nodeHigh a_begins a_ends a_lefts a_order a_sorted a_bestOrder a_suffix a_boundLow a_boundHigh a_from a_way a_stack a_listed a_listTop a_listBottom : Nat → Int32}
/-! hits within a limit -/
theorem xhb_33 {n A B hc : Nat} {lo hi fr wy : Nat → Int32} {ls : Nat → Nat} (hn : n ≤ 14) (hA : A ≤ 1000) (hB1 : 1 ≤ B) (hB2 : B ≤ 100) (hr : ry fr wy) (hB : bB n lo hi) (hI : lI n lo hi fr wy ls hc a_listed a_listTop a_listBottom) (h14 : hc ≤ 14) {post : Int32 → SX → Prop} (hp : post (nI (cq (fun j => wQ lo hi fr wy A B (ls j)) 0 hc)) (f_count, f_nodes, f_built, f_enterTop, f_enterBottom, f_leaveTop, f_leaveBottom, nI hc, a_low, a_high, a_nodeLow, a_nodeHigh, a_begins, a_ends, a_lefts, a_order, a_sorted, a_bestOrder, a_suffix, a_boundLow, a_boundHigh, a_from, a_way, a_stack, a_listed, a_listTop, a_listBottom)) : ∀ d k : Nat, k + d = hc → (∀ j, j < k → wQ lo hi fr wy A B (ls j)) → wX_hitsBefore_33 post (nI A) (nI B) f_count f_nodes f_built f_enterTop f_enterBottom f_leaveTop f_leaveBottom (nI hc) a_low a_high a_nodeLow a_nodeHigh a_begins a_ends a_lefts a_order a_sorted a_bestOrder a_suffix a_boundLow a_boundHigh a_from a_way a_stack a_listed a_listTop a_listBottom (d + 1) (nI k) := by
  intro d
  induction d with
  | zero =>
    intro k hk hq
    have ek : k = hc := by omega
    subst ek
    rw [cq_cut (Nat.le_refl k) hq (fun j j1 j2 => by omega)] at hp
    exact br_t (nI_le (Nat.le_refl _) (by omega)) hp
  | succ d ih =>
    intro k hk hq
    have v : vp_in (nI k) 14 := vp_in_nI (by omega) (by omega)
    have ek : (nI k).toNatClampNeg = k := nI_clamp (by omega)
    obtain ⟨g1, g2, g3, g4⟩ := hI.1 k (by omega)
    have by' := sTb (bx_gb hr hB g4)
    have ty := sTp lo hi fr wy (ls k)
    have qy := sQp lo hi fr wy (ls k)
    have m1 := qp (nI_toInt (n := A) (by omega)) g3 (by omega) (by omega) (by omega) (by omega)
    have m2 := qp g2 (nI_toInt (n := B) (by omega)) (by omega) (by omega) (by omega) (by omega)
    refine br_f (nI_ge (by omega) (by omega)) ⟨v, v, br_c (fun c => ?_) (fun c => nm_r (nI_1 k) (ih (k + 1) (by omega) (lt_s hq ?_)))⟩
    · rw [ek] at c
      have c' := Int32.lt_iff_toInt_lt.mp c
      rw [m1, m2] at c'
      rw [cq_cut (show k ≤ hc by omega) hq (fun j j1 j2 hj => ?_)] at hp
      · exact hp
      · by_cases e : j = k
        · subst e
          unfold wQ at hj
          omega
        · have q1 := kb_le (hI.2 k j (by omega) j2)
          have q2 := gf_tr qy (sQp lo hi fr wy (ls j)) (show (0 : Int) < (B : Int) by omega) q1 hj
          omega
    · rw [ek] at c
      have c' : ¬ (nI A * a_listBottom k).toInt < (a_listTop k * nI B).toInt := fun z => c (Int32.lt_iff_toInt_lt.mpr z)
      rw [m1, m2] at c'
      unfold wQ
      omega
theorem xhb {n A B : Nat} (hA : A ≤ 1000) (hB1 : 1 ≤ B) (hB2 : B ≤ 100) (hn : n ≤ 14) (hr : ry a_from a_way) (hB : bB n a_low a_high) (ht : f_built = 0 ∨ (f_built = 1 ∧ tr_OK n f_nodes a_low a_high a_nodeLow a_nodeHigh a_begins a_ends a_lefts a_order)) {post : Int32 → SX → Prop} (hp : ∀ (u : SX), sX n a_low a_high a_from a_way u → post (nI (cq (fun x => sP a_low a_high a_from a_way x ∧ wQ a_low a_high a_from a_way A B x) 0 n)) u) : wpX_hitsBefore post (nI n, f_nodes, f_built, f_enterTop, f_enterBottom, f_leaveTop, f_leaveBottom, f_hitCount, a_low, a_high, a_nodeLow, a_nodeHigh, a_begins, a_ends, a_lefts, a_order, a_sorted, a_bestOrder, a_suffix, a_boundLow, a_boundHigh, a_from, a_way, a_stack, a_listed, a_listTop, a_listBottom) (nI A) (nI B) := by
  refine br_f (lm_A hA).1 (br_t (lm_A hA).2 (br_f (lm_B hB1 hB2).1 (br_t (lm_B hB1 hB2).2 ?_)))
  refine xL hn hr hB ht (fun fn et eb lt lb hc nl nh ab ae al ao s bo sf bl bh sk L TT B' hT hS => ?_)
  obtain ⟨ls, hI, hJ⟩ := hS
  have h14 := lS_14 hn hJ
  refine ⟨hc + 1, xhb_33 hn hA hB1 hB2 hr hB hI h14 ?_ hc 0 (by omega) (fun j hj => by omega)⟩
  rw [hJ (fun x => wQ a_low a_high a_from a_way A B x)]
  exact hp _ ⟨rfl, rfl, rfl, rfl, rfl, Or.inr ⟨rfl, hT⟩⟩
theorem xhb_1 {p0 p1 : Int32} (h0 : ¬ lmA p0) {post : Int32 → SX → Prop} (h : post (-1) (f_count, f_nodes, f_built, f_enterTop, f_enterBottom, f_leaveTop, f_leaveBottom, f_hitCount, a_low, a_high, a_nodeLow, a_nodeHigh, a_begins, a_ends, a_lefts, a_order, a_sorted, a_bestOrder, a_suffix, a_boundLow, a_boundHigh, a_from, a_way, a_stack, a_listed, a_listTop, a_listBottom)) : wpX_hitsBefore post (f_count, f_nodes, f_built, f_enterTop, f_enterBottom, f_leaveTop, f_leaveBottom, f_hitCount, a_low, a_high, a_nodeLow, a_nodeHigh, a_begins, a_ends, a_lefts, a_order, a_sorted, a_bestOrder, a_suffix, a_boundLow, a_boundHigh, a_from, a_way, a_stack, a_listed, a_listTop, a_listBottom) p0 p1 :=
  br_c (fun _ => h) fun c => br_c (fun c2 => absurd (lmA_i c c2) h0) fun _ => h
theorem xhb_2 {A : Nat} {p1 : Int32} (hA : A ≤ 1000) (h0 : ¬ lmB p1) {post : Int32 → SX → Prop} (h : post (-2) (f_count, f_nodes, f_built, f_enterTop, f_enterBottom, f_leaveTop, f_leaveBottom, f_hitCount, a_low, a_high, a_nodeLow, a_nodeHigh, a_begins, a_ends, a_lefts, a_order, a_sorted, a_bestOrder, a_suffix, a_boundLow, a_boundHigh, a_from, a_way, a_stack, a_listed, a_listTop, a_listBottom)) : wpX_hitsBefore post (f_count, f_nodes, f_built, f_enterTop, f_enterBottom, f_leaveTop, f_leaveBottom, f_hitCount, a_low, a_high, a_nodeLow, a_nodeHigh, a_begins, a_ends, a_lefts, a_order, a_sorted, a_bestOrder, a_suffix, a_boundLow, a_boundHigh, a_from, a_way, a_stack, a_listed, a_listTop, a_listBottom) (nI A) p1 :=
  br_f (lm_A hA).1 (br_t (lm_A hA).2 (br_c (fun _ => h) fun c => br_c (fun c2 => absurd (lmB_i c c2) h0) fun _ => h))
/-! the greatest common divisor -/
theorem xdv_7 {post : Int32 → Prop} : ∀ (m a y k : Nat), a < m → k + a ≤ 63 → 0 < y → y < 1000 → post (nI (Nat.gcd a y)) → wX_divisor_7 post m (nI a) (nI y) (nI k) := by
  intro m
  induction m with
  | zero => intro a y k hm; omega
  | succ m ih =>
    intro a y k hm hk hy hy2 hp
    refine br_f (nI_ge (b := 64) (by omega) (by decide)) ?_
    by_cases h0 : a = 0
    · subst h0
      rw [Nat.gcd_zero_left] at hp
      exact br_t nI_0 (br_f (nI_nle hy (by omega)) hp)
    · have na : ¬ nI a = 0 := nI_ne0 (by omega) (by omega)
      have hlt := Nat.mod_lt y (show 0 < a by omega)
      refine br_f na ⟨na, nm_r (pk_rem (by omega) (by omega) (by omega)) (nm_r (nI_1 k) (ih (y % a) a (k + 1) (by omega) (by omega) (by omega) (by omega) ?_))⟩
      rw [← Nat.gcd_rec]
      exact hp
theorem xdv {post : Int32 → Prop} {a y : Nat} (ha : a ≤ 200) (hy : 0 < y) (hy2 : y ≤ 20) (hp : post (nI (Nat.gcd a y))) : wpX_divisor post (nI a) (nI y) := by
  by_cases h0 : a = 0
  · subst h0
    exact Exists.intro 1 (xdv_7 1 0 y 0 (by omega) (by omega) hy (by omega) hp)
  · have na : ¬ nI a = 0 := nI_ne0 (by omega) (by omega)
    have hle : y % a ≤ y := Nat.mod_le y a
    refine Exists.intro 101 (br_f (by decide) (br_f na ⟨na, nm_r (pk_rem (by omega) (by omega) (by omega)) (nm_r (e' := nI 1) (by decide) (xdv_7 100 (y % a) a 1 (by omega) (by omega) (by omega) (by omega) ?_))⟩))
    rw [← Nat.gcd_rec]
    exact hp
theorem gcd_ok {a y : Nat} (hy : 0 < y) (ha : a ≤ 200) (hy2 : y ≤ 20) : ¬ nI (Nat.gcd a y) = 0 ∧ nI a / nI (Nat.gcd a y) = nI (a / Nat.gcd a y) ∧ nI y / nI (Nat.gcd a y) = nI (y / Nat.gcd a y) := by
  have g0 : 0 < Nat.gcd a y := Nat.gcd_pos_of_pos_right a hy
  have g1 : Nat.gcd a y ≤ y := Nat.le_of_dvd hy (Nat.gcd_dvd_right a y)
  exact ⟨nI_ne0 g0 (by omega), pk_div (by omega) g0 (by omega), pk_div (by omega) g0 (by omega)⟩
theorem nI_i {x : Int32} {X : Int} (h : x.toInt = X) (h0 : 0 ≤ X) (h1 : X ≤ 1000) : x = nI X.toNat := by
  apply Int32.toInt_inj.mp
  rw [nI_toInt (by omega), h]; omega
/-- both numbers without their common divisor -/
def rT (T Q : Int) : Nat := T.toNat / Nat.gcd T.toNat Q.toNat
def rQ (T Q : Int) : Nat := Q.toNat / Nat.gcd T.toNat Q.toNat
/-- what a box gives of the first hit -/
def gT (n : Nat) (lo hi fr wy : Nat → Int32) (e0 : Int32) (val : Nat → Nat) (r : Int32) : Prop := ∃ r1 : Int32, fS n lo hi fr wy r1 ∧ ((r1 = -1 ∧ r = e0) ∨ ∃ b : Nat, b < n ∧ r1 = nI b ∧ r = nI (val b))
theorem xft {n : Nat} (hn : n ≤ 14) (hr : ry a_from a_way) (hB : bB n a_low a_high) (ht : f_built = 0 ∨ (f_built = 1 ∧ tr_OK n f_nodes a_low a_high a_nodeLow a_nodeHigh a_begins a_ends a_lefts a_order)) {post : Int32 → SX → Prop} (hp : ∀ (r : Int32) (u : SX), sX n a_low a_high a_from a_way u → gT n a_low a_high a_from a_way (-1) (fun b => rT (sT a_low a_high a_from a_way b) (sQ a_low a_high a_from a_way b)) r → post r u) : wpX_firstTop post (nI n, f_nodes, f_built, f_enterTop, f_enterBottom, f_leaveTop, f_leaveBottom, f_hitCount, a_low, a_high, a_nodeLow, a_nodeHigh, a_begins, a_ends, a_lefts, a_order, a_sorted, a_bestOrder, a_suffix, a_boundLow, a_boundHigh, a_from, a_way, a_stack, a_listed, a_listTop, a_listBottom) := by
  unfold wpX_firstTop
  refine xt hn hr hB ht (fun r u hX hf => ?_)
  obtain ⟨f_count, f_nodes, f_built, f_enterTop, f_enterBottom, f_leaveTop, f_leaveBottom, f_hitCount, c_low, c_high, a_nodeLow, a_nodeHigh, a_begins, a_ends, a_lefts, a_order, a_sorted, a_bestOrder, a_suffix, a_boundLow, a_boundHigh, c_from, c_way, a_stack, a_listed, a_listTop, a_listBottom⟩ := u
  obtain ⟨rfl, rfl, rfl, rfl, rfl, ht⟩ := id hX
  rcases id hf with ⟨rfl, _⟩ | ⟨b, hb, rfl, hP, _⟩
  · exact br_f (by decide) (hp _ _ hX ⟨_, hf, Or.inl ⟨rfl, rfl⟩⟩)
  · have bt := sTb (bx_gb hr hB hb)
    have t0 := sTp c_low c_high c_from c_way b
    have q0 := sQp c_low c_high c_from c_way b
    refine br_t (nI_pos' (by omega)) (xo (by omega) (bx_gb hr hB hb) hr.2 (fun r et eb lt lb bl bh hR => ?_))
    rcases hR with ⟨rfl, hnP⟩ | ⟨rfl, _, ⟨het, heb⟩, hlt, hlb⟩
    · exact absurd hP hnP
    · have e1 := nI_i (X := sT c_low c_high c_from c_way b) het (by omega) (by omega)
      have e2 := nI_i (X := sQ c_low c_high c_from c_way b) heb (by omega) (by omega)
      subst e1 e2
      have G := gcd_ok (a := (sT c_low c_high c_from c_way b).toNat) (y := (sQ c_low c_high c_from c_way b).toNat) (by omega) (by omega) (by omega)
      refine br_f n10 (xdv (by omega) (by omega) (by omega) ⟨G.1, ?_⟩)
      rw [G.2.1]
      exact hp _ _ ⟨rfl, rfl, rfl, rfl, rfl, ht⟩ ⟨_, hf, Or.inr ⟨b, hb, rfl, rfl⟩⟩
theorem xfb {n : Nat} (hn : n ≤ 14) (hr : ry a_from a_way) (hB : bB n a_low a_high) (ht : f_built = 0 ∨ (f_built = 1 ∧ tr_OK n f_nodes a_low a_high a_nodeLow a_nodeHigh a_begins a_ends a_lefts a_order)) {post : Int32 → SX → Prop} (hp : ∀ (r : Int32) (u : SX), sX n a_low a_high a_from a_way u → gT n a_low a_high a_from a_way 0 (fun b => rQ (sT a_low a_high a_from a_way b) (sQ a_low a_high a_from a_way b)) r → post r u) : wpX_firstBottom post (nI n, f_nodes, f_built, f_enterTop, f_enterBottom, f_leaveTop, f_leaveBottom, f_hitCount, a_low, a_high, a_nodeLow, a_nodeHigh, a_begins, a_ends, a_lefts, a_order, a_sorted, a_bestOrder, a_suffix, a_boundLow, a_boundHigh, a_from, a_way, a_stack, a_listed, a_listTop, a_listBottom) := by
  unfold wpX_firstBottom
  refine xt hn hr hB ht (fun r u hX hf => ?_)
  obtain ⟨f_count, f_nodes, f_built, f_enterTop, f_enterBottom, f_leaveTop, f_leaveBottom, f_hitCount, c_low, c_high, a_nodeLow, a_nodeHigh, a_begins, a_ends, a_lefts, a_order, a_sorted, a_bestOrder, a_suffix, a_boundLow, a_boundHigh, c_from, c_way, a_stack, a_listed, a_listTop, a_listBottom⟩ := u
  obtain ⟨rfl, rfl, rfl, rfl, rfl, ht⟩ := id hX
  rcases id hf with ⟨rfl, _⟩ | ⟨b, hb, rfl, hP, _⟩
  · exact br_f (by decide) (hp _ _ hX ⟨_, hf, Or.inl ⟨rfl, rfl⟩⟩)
  · have bt := sTb (bx_gb hr hB hb)
    have t0 := sTp c_low c_high c_from c_way b
    have q0 := sQp c_low c_high c_from c_way b
    refine br_t (nI_pos' (by omega)) (xo (by omega) (bx_gb hr hB hb) hr.2 (fun r et eb lt lb bl bh hR => ?_))
    rcases hR with ⟨rfl, hnP⟩ | ⟨rfl, _, ⟨het, heb⟩, hlt, hlb⟩
    · exact absurd hP hnP
    · have e1 := nI_i (X := sT c_low c_high c_from c_way b) het (by omega) (by omega)
      have e2 := nI_i (X := sQ c_low c_high c_from c_way b) heb (by omega) (by omega)
      subst e1 e2
      have G := gcd_ok (a := (sT c_low c_high c_from c_way b).toNat) (y := (sQ c_low c_high c_from c_way b).toNat) (by omega) (by omega) (by omega)
      refine br_f n10 (xdv (by omega) (by omega) (by omega) ⟨G.1, ?_⟩)
      rw [G.2.2]
      exact hp _ _ ⟨rfl, rfl, rfl, rfl, rfl, ht⟩ ⟨_, hf, Or.inr ⟨b, hb, rfl, rfl⟩⟩
/-! where the ray leaves a box -/
def lV (lo hi fr wy : Nat → Int32) (b : Nat) (val : Nat) (r : Int32) : Prop := (¬ sP lo hi fr wy b ∧ r = -2) ∨ (sP lo hi fr wy b ∧ r = nI val)
theorem sVb {lo hi fr wy : Nat → Int32} {x : Nat} (hr : ry fr wy) (h : ge_b (sl lo x) (sl hi x) (wI fr) (wI wy)) (hP : sP lo hi fr wy x) : (0 ≤ sVT lo hi fr wy x ∧ sVT lo hi fr wy x ≤ 162) ∧ 0 < sVQ lo hi fr wy x ∧ sVQ lo hi fr wy x ≤ 20 :=
  ⟨⟨ge_Pl hr.2 hP, (ge_Vb h 3 (by omega)).1.2⟩, ge_Pv hr.2, (ge_Vb h 3 (by omega)).2⟩
theorem xlt {n b : Nat} (hb : b < n) (hn : n ≤ 14) (hr : ry a_from a_way) (hB : bB n a_low a_high) (ht : f_built = 0 ∨ (f_built = 1 ∧ tr_OK n f_nodes a_low a_high a_nodeLow a_nodeHigh a_begins a_ends a_lefts a_order)) {post : Int32 → SX → Prop} (hp : ∀ (r : Int32) (u : SX), sX n a_low a_high a_from a_way u → lV a_low a_high a_from a_way b (rT (sVT a_low a_high a_from a_way b) (sVQ a_low a_high a_from a_way b)) r → post r u) : wpX_leaveTop post (nI n, f_nodes, f_built, f_enterTop, f_enterBottom, f_leaveTop, f_leaveBottom, f_hitCount, a_low, a_high, a_nodeLow, a_nodeHigh, a_begins, a_ends, a_lefts, a_order, a_sorted, a_bestOrder, a_suffix, a_boundLow, a_boundHigh, a_from, a_way, a_stack, a_listed, a_listTop, a_listBottom) (nI b) := by
  unfold wpX_leaveTop
  refine xB_t hb hn (br_f n10 (xo (by omega) (bx_gb hr hB hb) hr.2 (fun r et eb lt lb bl bh hR => ?_)))
  rcases hR with ⟨rfl, hnP⟩ | ⟨rfl, hP, ⟨het, heb⟩, hlt, hlb⟩
  · exact br_t rfl (hp _ _ ⟨rfl, rfl, rfl, rfl, rfl, ht⟩ (Or.inl ⟨hnP, rfl⟩))
  · have vb := sVb hr (bx_gb hr hB hb) hP
    have e1 := nI_i (X := sVT a_low a_high a_from a_way b) hlt (by omega) (by omega)
    have e2 := nI_i (X := sVQ a_low a_high a_from a_way b) hlb (by omega) (by omega)
    subst e1 e2
    have G := gcd_ok (a := (sVT a_low a_high a_from a_way b).toNat) (y := (sVQ a_low a_high a_from a_way b).toNat) (by omega) (by omega) (by omega)
    refine br_f n10 (xdv (by omega) (by omega) (by omega) ⟨G.1, ?_⟩)
    rw [G.2.1]
    exact hp _ _ ⟨rfl, rfl, rfl, rfl, rfl, ht⟩ (Or.inr ⟨hP, rfl⟩)
theorem xlb {n b : Nat} (hb : b < n) (hn : n ≤ 14) (hr : ry a_from a_way) (hB : bB n a_low a_high) (ht : f_built = 0 ∨ (f_built = 1 ∧ tr_OK n f_nodes a_low a_high a_nodeLow a_nodeHigh a_begins a_ends a_lefts a_order)) {post : Int32 → SX → Prop} (hp : ∀ (r : Int32) (u : SX), sX n a_low a_high a_from a_way u → lV a_low a_high a_from a_way b (rQ (sVT a_low a_high a_from a_way b) (sVQ a_low a_high a_from a_way b)) r → post r u) : wpX_leaveBottom post (nI n, f_nodes, f_built, f_enterTop, f_enterBottom, f_leaveTop, f_leaveBottom, f_hitCount, a_low, a_high, a_nodeLow, a_nodeHigh, a_begins, a_ends, a_lefts, a_order, a_sorted, a_bestOrder, a_suffix, a_boundLow, a_boundHigh, a_from, a_way, a_stack, a_listed, a_listTop, a_listBottom) (nI b) := by
  unfold wpX_leaveBottom
  refine xB_t hb hn (br_f n10 (xo (by omega) (bx_gb hr hB hb) hr.2 (fun r et eb lt lb bl bh hR => ?_)))
  rcases hR with ⟨rfl, hnP⟩ | ⟨rfl, hP, ⟨het, heb⟩, hlt, hlb⟩
  · exact br_t rfl (hp _ _ ⟨rfl, rfl, rfl, rfl, rfl, ht⟩ (Or.inl ⟨hnP, rfl⟩))
  · have vb := sVb hr (bx_gb hr hB hb) hP
    have e1 := nI_i (X := sVT a_low a_high a_from a_way b) hlt (by omega) (by omega)
    have e2 := nI_i (X := sVQ a_low a_high a_from a_way b) hlb (by omega) (by omega)
    subst e1 e2
    have G := gcd_ok (a := (sVT a_low a_high a_from a_way b).toNat) (y := (sVQ a_low a_high a_from a_way b).toNat) (by omega) (by omega) (by omega)
    refine br_f n10 (xdv (by omega) (by omega) (by omega) ⟨G.1, ?_⟩)
    rw [G.2.2]
    exact hp _ _ ⟨rfl, rfl, rfl, rfl, rfl, ht⟩ (Or.inr ⟨hP, rfl⟩)
theorem xlt_1 {n : Nat} {p0 : Int32} (hn : n ≤ 14) (h0 : ¬ isB n p0) {post : Int32 → SX → Prop} (h : post (-1) (nI n, f_nodes, f_built, f_enterTop, f_enterBottom, f_leaveTop, f_leaveBottom, f_hitCount, a_low, a_high, a_nodeLow, a_nodeHigh, a_begins, a_ends, a_lefts, a_order, a_sorted, a_bestOrder, a_suffix, a_boundLow, a_boundHigh, a_from, a_way, a_stack, a_listed, a_listTop, a_listBottom)) : wpX_leaveTop post (nI n, f_nodes, f_built, f_enterTop, f_enterBottom, f_leaveTop, f_leaveBottom, f_hitCount, a_low, a_high, a_nodeLow, a_nodeHigh, a_begins, a_ends, a_lefts, a_order, a_sorted, a_bestOrder, a_suffix, a_boundLow, a_boundHigh, a_from, a_way, a_stack, a_listed, a_listTop, a_listBottom) p0 := by
  unfold wpX_leaveTop
  exact xB_f h0 hn (br_t rfl h)
theorem xlb_1 {n : Nat} {p0 : Int32} (hn : n ≤ 14) (h0 : ¬ isB n p0) {post : Int32 → SX → Prop} (h : post (-1) (nI n, f_nodes, f_built, f_enterTop, f_enterBottom, f_leaveTop, f_leaveBottom, f_hitCount, a_low, a_high, a_nodeLow, a_nodeHigh, a_begins, a_ends, a_lefts, a_order, a_sorted, a_bestOrder, a_suffix, a_boundLow, a_boundHigh, a_from, a_way, a_stack, a_listed, a_listTop, a_listBottom)) : wpX_leaveBottom post (nI n, f_nodes, f_built, f_enterTop, f_enterBottom, f_leaveTop, f_leaveBottom, f_hitCount, a_low, a_high, a_nodeLow, a_nodeHigh, a_begins, a_ends, a_lefts, a_order, a_sorted, a_bestOrder, a_suffix, a_boundLow, a_boundHigh, a_from, a_way, a_stack, a_listed, a_listTop, a_listBottom) p0 := by
  unfold wpX_leaveBottom
  exact xB_f h0 hn (br_t rfl h)
end QV
end
section
/-! the reference: a ray through one box -/
def vR (l h f d : Nat → Int) (k : Nat) (ot ob : Int32) : Prop := ((ge_V l h f d k).2 = 0 ∧ ot = 1000000 ∧ ob = 1) ∨ (0 < (ge_V l h f d k).2 ∧ ot.toInt = (ge_V l h f d k).1 ∧ ob.toInt = (ge_V l h f d k).2)
section RF
variable {g_count g_inTop g_inBottom g_outTop g_outBottom : Int32} {b_corners b_extents b_from b_along b_tops b_bottoms : Nat → Int32}
variable {l h f d : Nat → Int}
theorem ym_133 {k : Nat} {x1 x3 x5 it ib ot ob : Int32} (hb : ge_b l h f d) (hk : k < 3) (hd : d k ≠ 0) (h3 : x3.toInt = ge_sz d k) (h5 : x5.toInt = ge_la l h f d k) (hv : vR l h f d k ot ob) {post : Int32 → SY → Prop} {J23 : Int32 → Int32 → Int32 → Int32 → Int32 → Prop} (hJ : ∀ ot' ob' : Int32, vR l h f d (k + 1) ot' ob' → J23 (nI (k + 1)) it ib ot' ob') : wY_meets_133 post J23 x1 (nI k) x3 x5 g_count it ib ot ob b_corners b_extents b_from b_along b_tops b_bottoms := by
  have bv := ge_Vb hb k (by omega)
  have vn := ge_Vn (l := l) (h := h) (f := f) (d := d) k
  have bf := ge_bf hb hk
  have sp := ge_sp hd
  have c3 : ¬ x3 ≤ 0 := fun z => by
    have := Int32.le_iff_toInt_le.mp z
    rw [h3, qn_0] at this; omega
  refine br_f c3 ?_
  rcases hv with ⟨v0, rfl, rfl⟩ | ⟨v0, hot, hob⟩
  · have m1 : ((1000000 : Int32) * x3).toInt = 1000000 * ge_sz d k := by
      have t : (1000000 : Int32).toInt = 1000000 := by decide
      rw [qn_mul (by rw [t, h3]; omega) (by rw [t, h3]; omega), t, h3]
    have m2 : (x5 * 1).toInt = ge_la l h f d k := by rw [Int32.mul_one]; exact h5
    refine br_f (fun z => ?_) (nm_r (nI_1 k) (hJ _ _ (Or.inr ?_)))
    · have := Int32.le_iff_toInt_le.mp z
      rw [m1, m2] at this; omega
    · rw [ge_Vs, if_neg hd, if_pos (Or.inl v0)]
      exact ⟨sp, h5, h3⟩
  · have m1 : (ot * x3).toInt = (ge_V l h f d k).1 * ge_sz d k := qm hot h3 (by omega) (by omega) (by omega) (by omega)
    have m2 : (x5 * ob).toInt = ge_la l h f d k * (ge_V l h f d k).2 := qm h5 hob (by omega) (by omega) (by omega) (by omega)
    refine br_c (fun c => nm_r (nI_1 k) (hJ _ _ (Or.inr ?_))) (fun c => nm_r (nI_1 k) (hJ _ _ (Or.inr ?_)))
    · have c' := Int32.le_iff_toInt_le.mp c
      rw [m1, m2] at c'
      have cn : ¬ ((ge_V l h f d k).2 = 0 ∨ ge_la l h f d k * (ge_V l h f d k).2 < (ge_V l h f d k).1 * ge_sz d k) := by
        rintro (z | z) <;> omega
      rw [ge_Vs, if_neg hd, if_neg cn]
      exact ⟨v0, hot, hob⟩
    · have c' : ¬ (ot * x3).toInt ≤ (x5 * ob).toInt := fun z => c (Int32.le_iff_toInt_le.mpr z)
      rw [m1, m2] at c'
      rw [ge_Vs, if_neg hd, if_pos (Or.inr (by omega))]
      exact ⟨sp, h5, h3⟩
theorem ym_102 {k : Nat} {x1 x3 x4 x5 it ib ot ob : Int32} (hb : ge_b l h f d) (hk : k < 3) (hd : d k ≠ 0) (h3 : x3.toInt = ge_sz d k) (h4 : x4.toInt = ge_fi l h f d k) (h5 : x5.toInt = ge_la l h f d k) (hit : it.toInt = (ge_E l h f d k).1) (hib : ib.toInt = (ge_E l h f d k).2) (hv : vR l h f d k ot ob) {post : Int32 → SY → Prop} {J23 : Int32 → Int32 → Int32 → Int32 → Int32 → Prop} (hJ : ∀ it' ib' ot' ob' : Int32, it'.toInt = (ge_E l h f d (k + 1)).1 → ib'.toInt = (ge_E l h f d (k + 1)).2 → vR l h f d (k + 1) ot' ob' → J23 (nI (k + 1)) it' ib' ot' ob') : wY_meets_102 post J23 x1 (nI k) x3 x4 x5 g_count it ib ot ob b_corners b_extents b_from b_along b_tops b_bottoms := by
  have be := ge_Eb hb k (by omega)
  have ep := ge_Ep (l := l) (h := h) (f := f) (d := d) k
  have bf := ge_bf hb hk
  have sp := ge_sp hd
  have c3 : ¬ x3 ≤ 0 := fun z => by
    have := Int32.le_iff_toInt_le.mp z
    rw [h3, qn_0] at this; omega
  have m1 : (x4 * ib).toInt = ge_fi l h f d k * (ge_E l h f d k).2 := qm h4 hib (by omega) (by omega) (by omega) (by omega)
  have m2 : (it * x3).toInt = (ge_E l h f d k).1 * ge_sz d k := qm hit h3 (by omega) (by omega) (by omega) (by omega)
  refine br_f c3 (br_c (fun c => ym_133 hb hk hd h3 h5 hv (fun ot' ob' a => hJ it ib ot' ob' ?_ ?_ a)) (fun c => ym_133 hb hk hd h3 h5 hv (fun ot' ob' a => hJ x4 x3 ot' ob' ?_ ?_ a)))
  all_goals have c' := (not_congr (Int32.le_iff_toInt_le (x := x4 * ib) (y := it * x3))); rw [m1, m2] at c'
  · rw [ge_Es, if_neg hd, if_neg (fun z => c'.mpr (by omega) c)]; exact hit
  · rw [ge_Es, if_neg hd, if_neg (fun z => c'.mpr (by omega) c)]; exact hib
  · rw [ge_Es, if_neg hd, if_pos (by have := c'.mp c; omega)]; exact h4
  · rw [ge_Es, if_neg hd, if_pos (by have := c'.mp c; omega)]; exact h3
theorem ym_23 {n b : Nat} {lo hi co ex : Nat → Int32} (hS : bS n lo hi co ex) (hn : n ≤ 14) (hbn : b < n) (hr : ry b_from b_along) {post : Int32 → SY → Prop} (hp : ∀ r it ib ot ob : Int32, pR (sl lo b) (sl hi b) (wI b_from) (wI b_along) r it ib ot ob → post r (g_count, it, ib, ot, ob, co, ex, b_from, b_along, b_tops, b_bottoms)) : ∀ (m k : Nat) (it ib ot ob : Int32), k + m = 3 → ge_F (sl lo b) (sl hi b) (wI b_from) (wI b_along) k → it.toInt = (ge_E (sl lo b) (sl hi b) (wI b_from) (wI b_along) k).1 → ib.toInt = (ge_E (sl lo b) (sl hi b) (wI b_from) (wI b_along) k).2 → vR (sl lo b) (sl hi b) (wI b_from) (wI b_along) k ot ob → wY_meets_23 post (nI b) g_count co ex b_from b_along b_tops b_bottoms (m + 1) (nI k) it ib ot ob := by
  have hb := bx_gb hr (bS_B hS) hbn
  have hz := hr.2
  intro m
  induction m with
  | zero =>
    intro k it ib ot ob hk hF hit hib hv
    have ek : k = 3 := by omega
    subst ek
    have be := ge_Eb hb 3 (by omega)
    have ep := ge_Ep (l := sl lo b) (h := sl hi b) (f := wI b_from) (d := wI b_along) 3
    have bv := ge_Vb hb 3 (by omega)
    have v0 := ge_Pv (l := sl lo b) (h := sl hi b) (f := wI b_from) (d := wI b_along) hz
    rcases hv with ⟨z, _⟩ | ⟨_, hot, hob⟩
    · omega
    · have m1 := qm hot hib (by omega) (by omega) (by omega) (by omega)
      have m2 := qm hit hob (by omega) (by omega) (by omega) (by omega)
      refine br_t (nI_le (a := 3) (b := 3) (by omega) (by decide)) (br_c (fun c => hp _ _ _ _ _ (Or.inl ⟨rfl, fun hP => ?_⟩)) (fun c => hp _ _ _ _ _ (Or.inr ⟨rfl, ⟨hF, ?_⟩, ⟨hit, hib⟩, hot, hob⟩)))
      · have c' := Int32.lt_iff_toInt_lt.mp c
        rw [m1, m2] at c'
        have := hP.2
        omega
      · have c' : ¬ (ot * ib).toInt < (it * ob).toInt := fun z => c (Int32.lt_iff_toInt_lt.mpr z)
        rw [m1, m2] at c'
        omega
  | succ m ih =>
    intro k it ib ot ob hk hF hit hib hv
    have hk3 : k < 3 := by omega
    have v : vp_in (nI k) 3 := vp_in_nI hk3 (by omega)
    have ek : (nI k).toNatClampNeg = k := nI_clamp (by omega)
    obtain ⟨b1, b2, b3, b4⟩ := hb k hk3
    have f1 : (lo (3 * b + k)).toInt = sl lo b k := rfl
    have f2 : (hi (3 * b + k)).toInt = sl hi b k := rfl
    have f3 : (b_from k).toInt = wI b_from k := rfl
    have f4 : (b_along k).toInt = wI b_along k := rfl
    have en : lo (3 * b + k) - b_from (nI k).toNatClampNeg = lo (3 * b + k) - b_from k := by rw [ek]
    have ef : hi (3 * b + k) - b_from (nI k).toNatClampNeg = hi (3 * b + k) - b_from k := by rw [ek]
    have ed : b_along (nI k).toNatClampNeg = b_along k := by rw [ek]
    have tn : (lo (3 * b + k) - b_from k).toInt = sl lo b k - wI b_from k := by
      rw [qn_sub (by rw [f1, f3]; omega) (by rw [f1, f3]; omega), f1, f3]
    have tf : (hi (3 * b + k) - b_from k).toInt = sl hi b k - wI b_from k := by
      rw [qn_sub (by rw [f2, f3]; omega) (by rw [f2, f3]; omega), f2, f3]
    refine br_f (nI_ge (b := 3) hk3 (by decide)) ⟨v, nm_r ed (yl hS hn hbn hk3 ⟨v, nm_r en (yh hS hn hbn hk3 ⟨v, nm_r ef ?_⟩)⟩)⟩
    by_cases hd : wI b_along k = 0
    · have hd' : b_along k = 0 := Int32.toInt_inj.mp (by rw [f4, hd, qn_0])
      have E1 : ge_E (sl lo b) (sl hi b) (wI b_from) (wI b_along) (k + 1) = ge_E (sl lo b) (sl hi b) (wI b_from) (wI b_along) k := by rw [ge_Es, if_pos hd]
      have V1 : ge_V (sl lo b) (sl hi b) (wI b_from) (wI b_along) (k + 1) = ge_V (sl lo b) (sl hi b) (wI b_from) (wI b_along) k := by rw [ge_Vs, if_pos hd]
      have z0 : (0 : Int32) ≤ b_along k := by rw [hd']; decide
      have z1 : b_along k ≤ 0 := by rw [hd']; decide
      refine br_t hd' (br_c (fun c => hp _ _ _ _ _ (Or.inl ⟨rfl, fun hP => ?_⟩)) (fun c => br_c (fun c2 => br_t z0 (br_t z1 (br_t z1 (nm_r (nI_1 k) (ih (k + 1) _ _ _ _ (by omega) (lt_s hF (fun _ => ?_)) ?_ ?_ ?_))))) (fun c2 => hp _ _ _ _ _ (Or.inl ⟨rfl, fun hP => ?_⟩))))
      · have c' := Int32.lt_iff_toInt_lt.mp c
        rw [tn, qn_0] at c'
        have := hP.1 k hk3 hd
        omega
      · have c' : ¬ (0 : Int32).toInt < (lo (3 * b + k) - b_from k).toInt := fun z => c (Int32.lt_iff_toInt_lt.mpr z)
        rw [tn, qn_0] at c'
        have c2' := Int32.le_iff_toInt_le.mp c2
        rw [tf, qn_0] at c2'
        constructor <;> omega
      · rw [E1]; exact hit
      · rw [E1]; exact hib
      · unfold vR; rw [V1]; exact hv
      · have c2' : ¬ (0 : Int32).toInt ≤ (hi (3 * b + k) - b_from k).toInt := fun z => c2 (Int32.le_iff_toInt_le.mpr z)
        rw [tf, qn_0] at c2'
        have := hP.1 k hk3 hd
        omega
    · have hd' : ¬ b_along k = 0 := fun z => hd (by rw [← f4, z]; exact qn_0)
      have nx : ∀ it' ib' ot' ob' : Int32, it'.toInt = (ge_E (sl lo b) (sl hi b) (wI b_from) (wI b_along) (k + 1)).1 → ib'.toInt = (ge_E (sl lo b) (sl hi b) (wI b_from) (wI b_along) (k + 1)).2 → vR (sl lo b) (sl hi b) (wI b_from) (wI b_along) (k + 1) ot' ob' → wY_meets_23 post (nI b) g_count co ex b_from b_along b_tops b_bottoms (m + 1) (nI (k + 1)) it' ib' ot' ob' := fun it' ib' ot' ob' a b c => ih (k + 1) it' ib' ot' ob' (by omega) (lt_s hF (fun z => absurd z hd)) a b c
      by_cases hs : 0 < wI b_along k
      · have c1 : (0 : Int32) ≤ b_along k := Int32.le_iff_toInt_le.mpr (by rw [f4, qn_0]; omega)
        refine br_f hd' (br_t c1 (ym_102 hb hk3 hd ?_ ?_ ?_ hit hib hv nx))
        · unfold ge_sz; rw [if_pos hs]; exact f4
        · unfold ge_fi; rw [if_pos hs]; exact tn
        · unfold ge_la; rw [if_pos hs]; exact tf
      · have c1 : ¬ (0 : Int32) ≤ b_along k := fun z => by
          have := Int32.le_iff_toInt_le.mp z
          rw [f4, qn_0] at this; omega
        refine br_f hd' (br_f c1 (nm_e (nm_e (nm_e (ym_102 hb hk3 hd ?_ ?_ ?_ hit hib hv nx)))))
        · unfold ge_sz; rw [if_neg hs, qn_neg (by rw [f4]; omega) (by rw [f4]; omega), f4]
        · unfold ge_fi; rw [if_neg hs, qn_neg (by rw [tf]; omega) (by rw [tf]; omega), tf]; omega
        · unfold ge_la; rw [if_neg hs, qn_neg (by rw [tn]; omega) (by rw [tn]; omega), tn]; omega
theorem ymt {n b : Nat} {lo hi co ex : Nat → Int32} (hS : bS n lo hi co ex) (hn : n ≤ 14) (hbn : b < n) (hr : ry b_from b_along) {post : Int32 → SY → Prop} (hp : ∀ r it ib ot ob : Int32, pR (sl lo b) (sl hi b) (wI b_from) (wI b_along) r it ib ot ob → post r (g_count, it, ib, ot, ob, co, ex, b_from, b_along, b_tops, b_bottoms)) : wpY_meets post (g_count, g_inTop, g_inBottom, g_outTop, g_outBottom, co, ex, b_from, b_along, b_tops, b_bottoms) (nI b) :=
  Exists.intro 4 (ym_23 hS hn hbn hr hp 3 0 0 1 1000000 1 (by omega) (fun a ha => absurd ha (Nat.not_lt_zero a)) qn_0 qn_1 (Or.inl ⟨rfl, rfl, rfl⟩))
/-! all boxes -/
def sh (n : Nat) (lo hi fr wy : Nat → Int32) (k : Nat) (tp bt : Nat → Int32) : Prop := ∀ b, b < k → ((b < n ∧ sP lo hi fr wy b) ∧ (tp b).toInt = sT lo hi fr wy b ∧ (bt b).toInt = sQ lo hi fr wy b) ∨ (¬ (b < n ∧ sP lo hi fr wy b) ∧ bt b = 0)
theorem ysh_2 {n : Nat} {lo hi co ex : Nat → Int32} (hS : bS n lo hi co ex) (hn : n ≤ 14) (hr : ry b_from b_along) {post : SY → Prop} (hp : ∀ (it ib ot ob : Int32) (tp bt : Nat → Int32), sh n lo hi b_from b_along 14 tp bt → post (nI n, it, ib, ot, ob, co, ex, b_from, b_along, tp, bt)) : ∀ (d k : Nat) (it ib ot ob : Int32) (tp bt : Nat → Int32), k + d = 14 → sh n lo hi b_from b_along k tp bt → wY_shoot_2 post (d + 1) (nI k) (nI n) it ib ot ob co ex b_from b_along tp bt := by
  intro d
  induction d with
  | zero =>
    intro k it ib ot ob tp bt hk hs
    have ek : k = 14 := by omega
    subst ek
    exact br_t (nI_le (a := 14) (b := 14) (by omega) (by decide)) (hp it ib ot ob tp bt hs)
  | succ d ih =>
    intro k it ib ot ob tp bt hk hs
    have v : vp_in (nI k) 14 := vp_in_nI (by omega) (by omega)
    have e : ∀ (g : Nat → Int32) (x : Int32), upd g (nI k).toNatClampNeg x = upd g k x := fun g x => by rw [nI_clamp (by omega)]
    have old : ∀ (x y : Int32) (b : Nat), b < k → ((b < n ∧ sP lo hi b_from b_along b) ∧ (upd tp k x b).toInt = sT lo hi b_from b_along b ∧ (upd bt k y b).toInt = sQ lo hi b_from b_along b) ∨ (¬ (b < n ∧ sP lo hi b_from b_along b) ∧ upd bt k y b = 0) := by
      intro x y b hb
      rw [pk_un (by omega), pk_un (by omega)]
      exact hs b hb
    have M : ¬ (k < n ∧ sP lo hi b_from b_along k) → ∀ it ib ot ob : Int32, wY_shoot_28 post (wY_shoot_2 post (d + 1)) (nI k) (nI n) it ib ot ob co ex b_from b_along tp bt := by
      intro hno it ib ot ob
      have K := ih (k + 1) it ib ot ob (upd tp k 0) (upd bt k 0) (by omega) (lt_s (old 0 0) (Or.inr ⟨hno, pk_us⟩))
      exact br_t rfl (And.intro v (nm_r (e _ _) (br_t rfl ⟨v, nm_r (e _ _) (nm_r (nI_1 k) K)⟩)))
    refine br_f (nI_ge (b := 14) (by omega) (by decide)) ?_
    by_cases hkn : k < n
    · refine br_f (nI_ge hkn (by omega)) (ymt hS hn hkn hr (fun r it' ib' ot' ob' hR => ?_))
      rcases hR with ⟨rfl, hnP⟩ | ⟨rfl, hP, ⟨hit, hib⟩, hot, hob⟩
      · exact br_t rfl (M (fun z => hnP z.2) it' ib' ot' ob')
      · have K := ih (k + 1) it' ib' ot' ob' (upd tp k it') (upd bt k ib') (by omega) (lt_s (old it' ib') (Or.inl ⟨⟨hkn, hP⟩, by rw [pk_us]; exact hit, by rw [pk_us]; exact hib⟩))
        exact br_f n10 (br_f n10 (And.intro v (nm_r (e _ _) (br_f n10 ⟨v, nm_r (e _ _) (nm_r (nI_1 k) K)⟩))))
    · exact br_t (nI_le (by omega) (by omega)) (M (fun z => hkn z.1) it ib ot ob)
theorem ysh {n : Nat} {lo hi co ex : Nat → Int32} (hS : bS n lo hi co ex) (hn : n ≤ 14) (hr : ry b_from b_along) {post : SY → Prop} (hp : ∀ (it ib ot ob : Int32) (tp bt : Nat → Int32), sh n lo hi b_from b_along 14 tp bt → post (nI n, it, ib, ot, ob, co, ex, b_from, b_along, tp, bt)) : wpY_shoot post (nI n, g_inTop, g_inBottom, g_outTop, g_outBottom, co, ex, b_from, b_along, b_tops, b_bottoms) :=
  Exists.intro 15 (ysh_2 hS hn hr hp 14 0 _ _ _ _ _ _ (by omega) (fun b hb => absurd hb (Nat.not_lt_zero b)))
theorem sh_le {n : Nat} {lo hi fr wy tp bt : Nat → Int32} {b : Nat} (h : sh n lo hi fr wy 14 tp bt) (hb : b < 14) : (bt b ≤ 0 ↔ ¬ (b < n ∧ sP lo hi fr wy b)) ∧ ((b < n ∧ sP lo hi fr wy b) → (tp b).toInt = sT lo hi fr wy b ∧ (bt b).toInt = sQ lo hi fr wy b) := by
  rcases h b hb with ⟨h1, h2, h3⟩ | ⟨h1, h2⟩
  · refine ⟨⟨fun z => ?_, fun z => absurd h1 z⟩, fun _ => ⟨h2, h3⟩⟩
    have := Int32.le_iff_toInt_le.mp z
    rw [h3, qn_0] at this
    have := sQp lo hi fr wy b
    omega
  · refine ⟨⟨fun _ => h1, fun _ => ?_⟩, fun z => absurd z h1⟩
    rw [h2]; exact Int32.le_refl 0
theorem cq_14 {n : Nat} {p q : Nat → Prop} (hn : n ≤ 14) : cq (fun c => (c < n ∧ p c) ∧ q c) 0 14 = cq (fun c => p c ∧ q c) 0 n := by
  have e : 14 = n + (14 - n) := by omega
  rw [e, cq_add, cq_0 (p := fun c => (c < n ∧ p c) ∧ q c) (0 + n) (14 - n) (fun j j1 _ hj => by omega), Nat.add_zero]
  exact cq_congr 0 n (fun j _ hj => ⟨fun z => ⟨z.1.2, z.2⟩, fun z => ⟨⟨by omega, z.1⟩, z.2⟩⟩)
end RF
end
section
section RG
variable {g_count g_inTop g_inBottom g_outTop g_outBottom : Int32} {b_corners b_extents b_from b_along b_tops b_bottoms : Nat → Int32}
theorem ybf {n c b : Nat} {lo hi fr wy : Nat → Int32} (hr : ry fr wy) (hB : bB n lo hi) (hs : sh n lo hi fr wy 14 b_tops b_bottoms) (hn : n ≤ 14) (hc : c < n) (hcP : sP lo hi fr wy c) (hb : b < n) (hbP : sP lo hi fr wy b) {post : Int32 → Prop} (h1 : kb (sT lo hi fr wy) (sQ lo hi fr wy) c b → post 1) (h0 : ¬ kb (sT lo hi fr wy) (sQ lo hi fr wy) c b → post 0) : wpY_before post (g_count, g_inTop, g_inBottom, g_outTop, g_outBottom, b_corners, b_extents, b_from, b_along, b_tops, b_bottoms) (nI c) (nI b) := by
  have vc : vp_in (nI c) 14 := vp_in_nI (by omega) (by omega)
  have vb : vp_in (nI b) 14 := vp_in_nI (by omega) (by omega)
  have ec : (nI c).toNatClampNeg = c := nI_clamp (by omega)
  have eb : (nI b).toNatClampNeg = b := nI_clamp (by omega)
  have sc := (sh_le hs (show c < 14 by omega)).2 ⟨hc, hcP⟩
  have sb := (sh_le hs (show b < 14 by omega)).2 ⟨hb, hbP⟩
  have gc := sTb (bx_gb hr hB hc)
  have gb := sTb (bx_gb hr hB hb)
  have tc := sTp lo hi fr wy c
  have tb := sTp lo hi fr wy b
  have qc := sQp lo hi fr wy c
  have qb := sQp lo hi fr wy b
  have m1 := qm sc.1 sb.2 (by omega) (by omega) (by omega) (by omega)
  have m2 := qm sb.1 sc.2 (by omega) (by omega) (by omega) (by omega)
  have e1 : b_tops (nI c).toNatClampNeg * b_bottoms (nI b).toNatClampNeg = b_tops c * b_bottoms b := by rw [ec, eb]
  have e2 : b_tops (nI b).toNatClampNeg * b_bottoms (nI c).toNatClampNeg = b_tops b * b_bottoms c := by rw [ec, eb]
  refine And.intro vc ⟨vb, nm_r e1 ⟨vb, vc, nm_r e2 (br_c (fun k => h1 ?_) (fun k => br_c (fun k2 => br_c (fun k3 => h0 ?_) (fun k3 => h1 ?_)) (fun k2 => h0 ?_)))⟩⟩
  · have k' := Int32.lt_iff_toInt_lt.mp k
    rw [m1, m2] at k'
    exact Or.inl k'
  · have k2' := congrArg Int32.toInt k2
    rw [m1, m2] at k2'
    have k3' := (nI_leI (by omega) (by omega)).mp k3
    unfold kb
    omega
  · have k2' := congrArg Int32.toInt k2
    rw [m1, m2] at k2'
    have k3' : ¬ b ≤ c := fun z => k3 (nI_le z (by omega))
    exact Or.inr ⟨k2', by omega⟩
  · have k' : ¬ (b_tops c * b_bottoms b).toInt < (b_tops b * b_bottoms c).toInt := fun z => k (Int32.lt_iff_toInt_lt.mpr z)
    have k2' : ¬ (b_tops c * b_bottoms b).toInt = (b_tops b * b_bottoms c).toInt := fun z => k2 (Int32.toInt_inj.mp z)
    rw [m1, m2] at k' k2'
    unfold kb
    omega
theorem yah_4 {n b : Nat} {lo hi fr wy : Nat → Int32} (hr : ry fr wy) (hB : bB n lo hi) (hs : sh n lo hi fr wy 14 b_tops b_bottoms) (hn : n ≤ 14) (hb : b < n) (hbP : sP lo hi fr wy b) {post : Int32 → Prop} (hp : post (nI (rk n lo hi fr wy b))) : ∀ d k : Nat, k + d = 14 → wY_ahead_4 post (nI b) g_count g_inTop g_inBottom g_outTop g_outBottom b_corners b_extents b_from b_along b_tops b_bottoms (d + 1) (nI (cq (fun c => (c < n ∧ sP lo hi fr wy c) ∧ kb (sT lo hi fr wy) (sQ lo hi fr wy) c b) 0 k)) (nI k) := by
  intro d
  induction d with
  | zero =>
    intro k hk
    have ek : k = 14 := by omega
    subst ek
    rw [cq_14 hn]
    exact br_t (nI_le (a := 14) (b := 14) (by omega) (by decide)) hp
  | succ d ih =>
    intro k hk
    have v : vp_in (nI k) 14 := vp_in_nI (by omega) (by omega)
    have ek : (nI k).toNatClampNeg = k := nI_clamp (by omega)
    have L := (sh_le hs (show k < 14 by omega)).1
    have K := ih (k + 1) (by omega)
    rw [cq_s, Nat.zero_add] at K
    refine br_f (nI_ge (b := 14) (by omega) (by decide)) ⟨v, ?_⟩
    rw [ek]
    by_cases hh : k < n ∧ sP lo hi fr wy k
    · refine br_f (fun z => L.mp z hh) (ybf hr hB hs hn hh.1 hh.2 hb hbP (fun k1 => br_f n10 ?_) (fun k0 => br_t rfl ?_))
      · rw [tN_t ⟨hh, k1⟩] at K
        exact nm_r (nI_1 _) (nm_r (nI_1 k) K)
      · rw [tN_f (fun z => k0 z.2), Nat.add_zero] at K
        exact nm_r (nI_1 k) K
    · rw [tN_f (fun z => hh z.1), Nat.add_zero] at K
      exact br_t (L.mpr hh) (nm_r (nI_1 k) K)
theorem yah {n b : Nat} {lo hi fr wy : Nat → Int32} (hr : ry fr wy) (hB : bB n lo hi) (hs : sh n lo hi fr wy 14 b_tops b_bottoms) (hn : n ≤ 14) (hb : b < n) (hbP : sP lo hi fr wy b) {post : Int32 → Prop} (hp : post (nI (rk n lo hi fr wy b))) : wpY_ahead post (g_count, g_inTop, g_inBottom, g_outTop, g_outBottom, b_corners, b_extents, b_from, b_along, b_tops, b_bottoms) (nI b) :=
  Exists.intro 15 (yah_4 hr hB hs hn hb hbP hp 14 0 (by omega))
theorem ych_6 {n : Nat} {lo hi fr wy : Nat → Int32} {i : Int32} (hr : ry fr wy) (hB : bB n lo hi) (hs : sh n lo hi fr wy 14 b_tops b_bottoms) (hn : n ≤ 14) {post : Int32 → SY → Prop} (hp : ∀ r : Int32, yS n lo hi fr wy i r → post r (g_count, g_inTop, g_inBottom, g_outTop, g_outBottom, b_corners, b_extents, b_from, b_along, b_tops, b_bottoms)) : ∀ d k : Nat, k + d = 14 → (∀ b, b < k → b < n → sP lo hi fr wy b → ¬ nI (rk n lo hi fr wy b) = i) → wY_chosen_6 post i g_count g_inTop g_inBottom g_outTop g_outBottom b_corners b_extents b_from b_along b_tops b_bottoms (d + 1) (nI k) := by
  intro d
  induction d with
  | zero =>
    intro k hk hno
    have ek : k = 14 := by omega
    subst ek
    exact br_t (nI_le (a := 14) (b := 14) (by omega) (by decide)) (hp _ (Or.inl ⟨rfl, fun b hb hP => hno b (by omega) hb hP⟩))
  | succ d ih =>
    intro k hk hno
    have v : vp_in (nI k) 14 := vp_in_nI (by omega) (by omega)
    have ek : (nI k).toNatClampNeg = k := nI_clamp (by omega)
    have L := (sh_le hs (show k < 14 by omega)).1
    refine br_f (nI_ge (b := 14) (by omega) (by decide)) ⟨v, ?_⟩
    rw [ek]
    by_cases hh : k < n ∧ sP lo hi fr wy k
    · refine br_f (fun z => L.mp z hh) (yah hr hB hs hn hh.1 hh.2 (br_c (fun c => hp _ (Or.inr ⟨k, hh.1, hh.2, rfl, c⟩)) (fun c => nm_r (nI_1 k) (ih (k + 1) (by omega) (lt_s hno (fun _ _ => c))))))
    · exact br_t (L.mpr hh) (nm_r (nI_1 k) (ih (k + 1) (by omega) (lt_s hno (fun a b => absurd ⟨a, b⟩ hh))))
theorem ych {n : Nat} {lo hi co ex : Nat → Int32} {i : Int32} (hS : bS n lo hi co ex) (hn : n ≤ 14) (hr : ry b_from b_along) {post : Int32 → SY → Prop} (hp : ∀ (r it ib ot ob : Int32) (tp bt : Nat → Int32), sh n lo hi b_from b_along 14 tp bt → yS n lo hi b_from b_along i r → post r (nI n, it, ib, ot, ob, co, ex, b_from, b_along, tp, bt)) : wpY_chosen post (nI n, g_inTop, g_inBottom, g_outTop, g_outBottom, co, ex, b_from, b_along, b_tops, b_bottoms) i := by
  unfold wpY_chosen
  exact ysh hS hn hr (fun it ib ot ob tp bt hs => ⟨15, ych_6 hr (bS_B hS) hs hn (fun r h => hp r it ib ot ob tp bt hs h) 14 0 (by omega) (fun b hb => absurd hb (Nat.not_lt_zero b))⟩)
theorem yfi {n : Nat} {lo hi co ex : Nat → Int32} (hS : bS n lo hi co ex) (hn : n ≤ 14) (hr : ry b_from b_along) {post : Int32 → SY → Prop} (hp : ∀ (r : Int32) (v : SY), sY n co ex b_from b_along v → yS n lo hi b_from b_along 0 r → post r v) : wpY_first post (nI n, g_inTop, g_inBottom, g_outTop, g_outBottom, co, ex, b_from, b_along, b_tops, b_bottoms) := by
  unfold wpY_first
  exact ych hS hn hr (fun r it ib ot ob tp bt hs h => hp r _ ⟨rfl, rfl, rfl, rfl, rfl⟩ h)
theorem yht {n : Nat} {lo hi co ex : Nat → Int32} {i : Int32} (hS : bS n lo hi co ex) (hn : n ≤ 14) (hr : ry b_from b_along) {post : Int32 → SY → Prop} (hp : ∀ (r : Int32) (v : SY), sY n co ex b_from b_along v → yS n lo hi b_from b_along i r → post r v) : wpY_hit post (nI n, g_inTop, g_inBottom, g_outTop, g_outBottom, co, ex, b_from, b_along, b_tops, b_bottoms) i := by
  unfold wpY_hit
  exact ych hS hn hr (fun r it ib ot ob tp bt hs h => hp r _ ⟨rfl, rfl, rfl, rfl, rfl⟩ h)
/-! how many -/
theorem yhi_8 {n : Nat} {lo hi fr wy : Nat → Int32} (hs : sh n lo hi fr wy 14 b_tops b_bottoms) (hn : n ≤ 14) {post : Int32 → SY → Prop} (hp : post (nI (cq (sP lo hi fr wy) 0 n)) (g_count, g_inTop, g_inBottom, g_outTop, g_outBottom, b_corners, b_extents, b_from, b_along, b_tops, b_bottoms)) : ∀ d k : Nat, k + d = 14 → wY_hits_8 post g_count g_inTop g_inBottom g_outTop g_outBottom b_corners b_extents b_from b_along b_tops b_bottoms (d + 1) (nI (cq (fun c => (c < n ∧ sP lo hi fr wy c) ∧ True) 0 k)) (nI k) := by
  intro d
  induction d with
  | zero =>
    intro k hk
    have ek : k = 14 := by omega
    subst ek
    rw [cq_14 hn, cq_congr (q := sP lo hi fr wy) 0 n (fun j _ _ => ⟨fun z => z.1, fun z => ⟨z, trivial⟩⟩)]
    exact br_t (nI_le (a := 14) (b := 14) (by omega) (by decide)) hp
  | succ d ih =>
    intro k hk
    have v : vp_in (nI k) 14 := vp_in_nI (by omega) (by omega)
    have ek : (nI k).toNatClampNeg = k := nI_clamp (by omega)
    have L := (sh_le hs (show k < 14 by omega)).1
    have K := ih (k + 1) (by omega)
    rw [cq_s, Nat.zero_add] at K
    refine br_f (nI_ge (b := 14) (by omega) (by decide)) ⟨v, ?_⟩
    rw [ek]
    by_cases hh : k < n ∧ sP lo hi fr wy k
    · rw [tN_t ⟨hh, trivial⟩] at K
      exact br_f (fun z => L.mp z hh) (nm_r (nI_1 _) (nm_r (nI_1 k) K))
    · rw [tN_f (fun z => hh z.1), Nat.add_zero] at K
      exact br_t (L.mpr hh) (nm_r (nI_1 k) K)
theorem yhi {n : Nat} {lo hi co ex : Nat → Int32} (hS : bS n lo hi co ex) (hn : n ≤ 14) (hr : ry b_from b_along) {post : Int32 → SY → Prop} (hp : ∀ v : SY, sY n co ex b_from b_along v → post (nI (cq (sP lo hi b_from b_along) 0 n)) v) : wpY_hits post (nI n, g_inTop, g_inBottom, g_outTop, g_outBottom, co, ex, b_from, b_along, b_tops, b_bottoms) := by
  unfold wpY_hits
  exact ysh hS hn hr (fun it ib ot ob tp bt hs => ⟨15, yhi_8 hs hn (hp _ ⟨rfl, rfl, rfl, rfl, rfl⟩) 14 0 (by omega)⟩)
theorem yhb_36 {n A B : Nat} {lo hi fr wy : Nat → Int32} (hA : A ≤ 1000) (hB1 : 1 ≤ B) (hB2 : B ≤ 100) (hr : ry fr wy) (hB : bB n lo hi) (hs : sh n lo hi fr wy 14 b_tops b_bottoms) (hn : n ≤ 14) {post : Int32 → SY → Prop} (hp : post (nI (cq (fun x => sP lo hi fr wy x ∧ wQ lo hi fr wy A B x) 0 n)) (g_count, g_inTop, g_inBottom, g_outTop, g_outBottom, b_corners, b_extents, b_from, b_along, b_tops, b_bottoms)) : ∀ d k : Nat, k + d = 14 → wY_hitsBefore_36 post (nI A) (nI B) g_count g_inTop g_inBottom g_outTop g_outBottom b_corners b_extents b_from b_along b_tops b_bottoms (d + 1) (nI (cq (fun c => (c < n ∧ sP lo hi fr wy c) ∧ wQ lo hi fr wy A B c) 0 k)) (nI k) := by
  intro d
  induction d with
  | zero =>
    intro k hk
    have ek : k = 14 := by omega
    subst ek
    rw [cq_14 hn]
    exact br_t (nI_le (a := 14) (b := 14) (by omega) (by decide)) hp
  | succ d ih =>
    intro k hk
    have v : vp_in (nI k) 14 := vp_in_nI (by omega) (by omega)
    have ek : (nI k).toNatClampNeg = k := nI_clamp (by omega)
    have L := sh_le hs (show k < 14 by omega)
    have K := ih (k + 1) (by omega)
    rw [cq_s, Nat.zero_add] at K
    refine br_f (nI_ge (b := 14) (by omega) (by decide)) ⟨v, ?_⟩
    rw [ek]
    by_cases hh : k < n ∧ sP lo hi fr wy k
    · have s := L.2 hh
      have gk := sTb (bx_gb hr hB hh.1)
      have tk := sTp lo hi fr wy k
      have qk := sQp lo hi fr wy k
      have m1 := qp (nI_toInt (n := A) (by omega)) s.2 (by omega) (by omega) (by omega) (by omega)
      have m2 := qp s.1 (nI_toInt (n := B) (by omega)) (by omega) (by omega) (by omega) (by omega)
      refine br_f (fun z => L.1.mp z hh) ⟨v, v, br_c (fun c => ?_) (fun c => ?_)⟩
      · have c' := Int32.lt_iff_toInt_lt.mp c
        rw [m1, m2] at c'
        rw [tN_f (fun z => by have := z.2; unfold wQ at this; omega), Nat.add_zero] at K
        exact nm_r (nI_1 k) K
      · have c' : ¬ (nI A * b_bottoms k).toInt < (b_tops k * nI B).toInt := fun z => c (Int32.lt_iff_toInt_lt.mpr z)
        rw [m1, m2] at c'
        rw [tN_t ⟨hh, by unfold wQ; omega⟩] at K
        exact nm_r (nI_1 _) (nm_r (nI_1 k) K)
    · rw [tN_f (fun z => hh z.1), Nat.add_zero] at K
      exact br_t (L.1.mpr hh) (nm_r (nI_1 k) K)
theorem yhb {n A B : Nat} {lo hi co ex : Nat → Int32} (hA : A ≤ 1000) (hB1 : 1 ≤ B) (hB2 : B ≤ 100) (hS : bS n lo hi co ex) (hn : n ≤ 14) (hr : ry b_from b_along) {post : Int32 → SY → Prop} (hp : ∀ (it ib ot ob : Int32) (tp bt : Nat → Int32), post (nI (cq (fun x => sP lo hi b_from b_along x ∧ wQ lo hi b_from b_along A B x) 0 n)) (nI n, it, ib, ot, ob, co, ex, b_from, b_along, tp, bt)) : wpY_hitsBefore post (nI n, g_inTop, g_inBottom, g_outTop, g_outBottom, co, ex, b_from, b_along, b_tops, b_bottoms) (nI A) (nI B) := by
  refine br_f (lm_A hA).1 (br_t (lm_A hA).2 (br_f (lm_B hB1 hB2).1 (br_t (lm_B hB1 hB2).2 ?_)))
  exact ysh hS hn hr (fun it ib ot ob tp bt hs => ⟨15, yhb_36 hA hB1 hB2 hr (bS_B hS) hs hn (hp it ib ot ob tp bt) 14 0 (by omega)⟩)
theorem yhb_1 {p0 p1 : Int32} (h0 : ¬ lmA p0) {post : Int32 → SY → Prop} (h : post (-1) (g_count, g_inTop, g_inBottom, g_outTop, g_outBottom, b_corners, b_extents, b_from, b_along, b_tops, b_bottoms)) : wpY_hitsBefore post (g_count, g_inTop, g_inBottom, g_outTop, g_outBottom, b_corners, b_extents, b_from, b_along, b_tops, b_bottoms) p0 p1 :=
  br_c (fun _ => h) fun c => br_c (fun c2 => absurd (lmA_i c c2) h0) fun _ => h
theorem yhb_2 {A : Nat} {p1 : Int32} (hA : A ≤ 1000) (h0 : ¬ lmB p1) {post : Int32 → SY → Prop} (h : post (-2) (g_count, g_inTop, g_inBottom, g_outTop, g_outBottom, b_corners, b_extents, b_from, b_along, b_tops, b_bottoms)) : wpY_hitsBefore post (g_count, g_inTop, g_inBottom, g_outTop, g_outBottom, b_corners, b_extents, b_from, b_along, b_tops, b_bottoms) (nI A) p1 :=
  br_f (lm_A hA).1 (br_t (lm_A hA).2 (br_c (fun _ => h) fun c => br_c (fun c2 => absurd (lmB_i c c2) h0) fun _ => h))
theorem ybl {n A B : Nat} {lo hi co ex : Nat → Int32} (hA : A ≤ 1000) (hB1 : 1 ≤ B) (hB2 : B ≤ 100) (hS : bS n lo hi co ex) (hn : n ≤ 14) (hr : ry b_from b_along) {post : Int32 → SY → Prop} (hp : ∀ (r : Int32) (v : SY), sY n co ex b_from b_along v → ((r = 1 ∧ ∃ x, x < n ∧ sP lo hi b_from b_along x ∧ wQ lo hi b_from b_along A B x) ∨ (r = 0 ∧ ∀ x, x < n → sP lo hi b_from b_along x → ¬ wQ lo hi b_from b_along A B x)) → post r v) : wpY_blocked post (nI n, g_inTop, g_inBottom, g_outTop, g_outBottom, co, ex, b_from, b_along, b_tops, b_bottoms) (nI A) (nI B) := by
  unfold wpY_blocked
  refine yhb hA hB1 hB2 hS hn hr (fun it ib ot ob tp bt => ?_)
  have hl := cq_le (p := fun x => sP lo hi b_from b_along x ∧ wQ lo hi b_from b_along A B x) 0 n
  by_cases h0 : cq (fun x => sP lo hi b_from b_along x ∧ wQ lo hi b_from b_along A B x) 0 n = 0
  · rw [h0]
    exact br_t (nI_le (a := 0) (b := 0) (by omega) (by omega)) (hp _ _ ⟨rfl, rfl, rfl, rfl, rfl⟩ (Or.inr ⟨nI_0, fun x hx hP hQ => cq_z h0 x (Nat.zero_le x) (by omega) ⟨hP, hQ⟩⟩))
  · refine br_f (nI_nle (by omega) (by omega)) (hp _ _ ⟨rfl, rfl, rfl, rfl, rfl⟩ (Or.inl ⟨rfl, ?_⟩))
    obtain ⟨x, _, hx, hP, hQ⟩ := cq_ex (Nat.pos_of_ne_zero h0)
    exact ⟨x, by omega, hP, hQ⟩
theorem ybl_1 {p0 p1 : Int32} (h0 : ¬ lmA p0) {post : Int32 → SY → Prop} (h : post (-1) (g_count, g_inTop, g_inBottom, g_outTop, g_outBottom, b_corners, b_extents, b_from, b_along, b_tops, b_bottoms)) : wpY_blocked post (g_count, g_inTop, g_inBottom, g_outTop, g_outBottom, b_corners, b_extents, b_from, b_along, b_tops, b_bottoms) p0 p1 := by
  unfold wpY_blocked
  exact yhb_1 h0 (br_t (by decide) h)
theorem ybl_2 {A : Nat} {p1 : Int32} (hA : A ≤ 1000) (h0 : ¬ lmB p1) {post : Int32 → SY → Prop} (h : post (-2) (g_count, g_inTop, g_inBottom, g_outTop, g_outBottom, b_corners, b_extents, b_from, b_along, b_tops, b_bottoms)) : wpY_blocked post (g_count, g_inTop, g_inBottom, g_outTop, g_outBottom, b_corners, b_extents, b_from, b_along, b_tops, b_bottoms) (nI A) p1 := by
  unfold wpY_blocked
  exact yhb_2 hA h0 (br_t (by decide) h)
/-! the greatest common divisor -/
theorem yco_17 {a y : Nat} (ha : a ≤ 200) (hy : 0 < y) (hy2 : y ≤ 20) {post : Int32 → Prop} (hp : post (nI (Nat.gcd a y))) : ∀ d k g : Nat, k + d = y + 1 → 2 ≤ k → 1 ≤ g → g ∣ a → g ∣ y → (∀ j, 1 ≤ j → j < k → j ∣ a → j ∣ y → j ≤ g) → wY_common_17 post (nI y) (nI a) g_count g_inTop g_inBottom g_outTop g_outBottom b_corners b_extents b_from b_along b_tops b_bottoms (d + 1) (nI g) (nI k) := by
  intro d
  induction d with
  | zero =>
    intro k g hk hk2 hg ga gy hmax
    have e : g = Nat.gcd a y := by
      have h1 : g ∣ Nat.gcd a y := Nat.dvd_gcd ga gy
      have h0 : 0 < Nat.gcd a y := Nat.gcd_pos_of_pos_right a hy
      have h2 := Nat.le_of_dvd h0 h1
      have h3 : Nat.gcd a y ≤ y := Nat.le_of_dvd hy (Nat.gcd_dvd_right a y)
      have h4 := hmax (Nat.gcd a y) h0 (by omega) (Nat.gcd_dvd_left a y) (Nat.gcd_dvd_right a y)
      omega
    rw [← e] at hp
    exact br_t (nI_lt (by omega) (by omega)) hp
  | succ d ih =>
    intro k g hk hk2 hg ga gy hmax
    have nk : ¬ nI k = 0 := nI_ne0 (by omega) (by omega)
    have r1 : nI a - nI a / nI k * nI k = nI (a % k) := pk_rem (by omega) (by omega) (by omega)
    have r2 : nI y - nI y / nI k * nI k = nI (y % k) := pk_rem (by omega) (by omega) (by omega)
    have l1 := Nat.mod_lt a (show 0 < k by omega)
    have l2 := Nat.mod_lt y (show 0 < k by omega)
    have keep : ¬ (k ∣ a ∧ k ∣ y) → ∀ x5 : Int32, x5 = nI k + 1 → wY_common_17 post (nI y) (nI a) g_count g_inTop g_inBottom g_outTop g_outBottom b_corners b_extents b_from b_along b_tops b_bottoms (d + 1) (nI g) x5 := by
      intro hno
      refine nm_r (nI_1 k) (ih (k + 1) g (by omega) (by omega) hg ga gy (fun j j1 j2 ja jy => ?_))
      by_cases e : j = k
      · subst e; exact absurd ⟨ja, jy⟩ hno
      · exact hmax j j1 (by omega) ja jy
    refine br_f (nI_nlt (by omega) (by omega)) ⟨nk, ?_⟩
    rw [r1]
    by_cases h1 : a % k = 0
    · refine br_t (by rw [h1]; rfl) ⟨nk, ?_⟩
      rw [r2]
      by_cases h2 : y % k = 0
      · refine br_t (by rw [h2]; rfl) (nm_r (nI_1 k) (ih (k + 1) k (by omega) (by omega) (by omega) (Nat.dvd_of_mod_eq_zero h1) (Nat.dvd_of_mod_eq_zero h2) (fun j _ j2 _ _ => by omega)))
      · exact br_f (nI_ne0 (by omega) (by omega)) (keep (fun z => h2 (Nat.mod_eq_zero_of_dvd z.2)))
    · exact br_f (nI_ne0 (by omega) (by omega)) (keep (fun z => h1 (Nat.mod_eq_zero_of_dvd z.1)))
theorem yco {a y : Nat} (ha : a ≤ 200) (hy : 0 < y) (hy2 : y ≤ 20) {post : Int32 → Prop} (hp : post (nI (Nat.gcd a y))) : wpY_common post (g_count, g_inTop, g_inBottom, g_outTop, g_outBottom, b_corners, b_extents, b_from, b_along, b_tops, b_bottoms) (nI a) (nI y) :=
  br_t (nI_pos' (by omega)) ⟨_, yco_17 ha hy hy2 hp (y - 1) 2 1 (by omega) (by omega) (by omega) (Nat.one_dvd a) (Nat.one_dvd y) (fun j j1 j2 _ _ => by omega)⟩
theorem gcd_1 {a y : Nat} (hy : 0 < y) (hy2 : y ≤ 20) : (1 : Int32) ≤ nI (Nat.gcd a y) := by
  have g0 : 0 < Nat.gcd a y := Nat.gcd_pos_of_pos_right a hy
  have g1 : Nat.gcd a y ≤ y := Nat.le_of_dvd hy (Nat.gcd_dvd_right a y)
  exact nI_le (a := 1) g0 (by omega)
def gY (n : Nat) (lo hi fr wy : Nat → Int32) (e0 : Int32) (val : Nat → Nat) (r : Int32) : Prop := ∃ r1 : Int32, yS n lo hi fr wy 0 r1 ∧ ((r1 = -1 ∧ r = e0) ∨ ∃ b : Nat, b < n ∧ r1 = nI b ∧ r = nI (val b))
theorem gT_u {n : Nat} {lo hi fr wy : Nat → Int32} {e0 : Int32} {val : Nat → Nat} {r r' : Int32} (hn : n ≤ 14) (h : gT n lo hi fr wy e0 val r) (h' : gY n lo hi fr wy e0 val r') : r' = r := by
  obtain ⟨r1, hf, h⟩ := h
  obtain ⟨r1', hf', h'⟩ := h'
  have e := hS_u (fS_h hn hf) hf'
  subst e
  rcases h with ⟨e, h⟩ | ⟨b, hb, e, h⟩
  · rcases h' with ⟨e', h'⟩ | ⟨b', hb', e', h'⟩
    · rw [h, h']
    · rw [e] at e'; exact absurd e'.symm (qn_n1 (by omega))
  · rcases h' with ⟨e', h'⟩ | ⟨b', hb', e', h'⟩
    · rw [e] at e'; exact absurd e' (qn_n1 (by omega))
    · have : b = b' := qn_inj (e.symm.trans e') (by omega) (by omega)
      rw [h, h', this]
theorem yft {n : Nat} {lo hi co ex : Nat → Int32} (hS : bS n lo hi co ex) (hn : n ≤ 14) (hr : ry b_from b_along) {post : Int32 → SY → Prop} (hp : ∀ (r : Int32) (v : SY), sY n co ex b_from b_along v → gY n lo hi b_from b_along (-1) (fun b => rT (sT lo hi b_from b_along b) (sQ lo hi b_from b_along b)) r → post r v) : wpY_firstTop post (nI n, g_inTop, g_inBottom, g_outTop, g_outBottom, co, ex, b_from, b_along, b_tops, b_bottoms) := by
  unfold wpY_firstTop
  refine ych hS hn hr (fun r it ib ot ob tp bt hs h => ?_)
  rcases id h with ⟨rfl, _⟩ | ⟨b, hb, hP, rfl, _⟩
  · exact br_f (by decide) (hp _ _ ⟨rfl, rfl, rfl, rfl, rfl⟩ ⟨_, h, Or.inl ⟨rfl, rfl⟩⟩)
  · have v : vp_in (nI b) 14 := vp_in_nI (by omega) (by omega)
    have g := sTb (bx_gb hr (bS_B hS) hb)
    have t0 := sTp lo hi b_from b_along b
    have q0 := sQp lo hi b_from b_along b
    have s := (sh_le hs (show b < 14 by omega)).2 ⟨hb, hP⟩
    have e1 : tp (nI b).toNatClampNeg = nI (sT lo hi b_from b_along b).toNat := by rw [nI_clamp (by omega)]; exact nI_i s.1 (by omega) (by omega)
    have e2 : bt (nI b).toNatClampNeg = nI (sQ lo hi b_from b_along b).toNat := by rw [nI_clamp (by omega)]; exact nI_i s.2 (by omega) (by omega)
    have G := gcd_ok (a := (sT lo hi b_from b_along b).toNat) (y := (sQ lo hi b_from b_along b).toNat) (by omega) (by omega) (by omega)
    refine br_t (nI_pos' (by omega)) ⟨v, v, ?_⟩
    rw [e1, e2]
    refine yco (by omega) (by omega) (by omega) (br_t (gcd_1 (by omega) (by omega)) ⟨v, G.1, ?_⟩)
    rw [G.2.1]
    exact hp _ _ ⟨rfl, rfl, rfl, rfl, rfl⟩ ⟨_, h, Or.inr ⟨b, hb, rfl, rfl⟩⟩
theorem yfb {n : Nat} {lo hi co ex : Nat → Int32} (hS : bS n lo hi co ex) (hn : n ≤ 14) (hr : ry b_from b_along) {post : Int32 → SY → Prop} (hp : ∀ (r : Int32) (v : SY), sY n co ex b_from b_along v → gY n lo hi b_from b_along 0 (fun b => rQ (sT lo hi b_from b_along b) (sQ lo hi b_from b_along b)) r → post r v) : wpY_firstBottom post (nI n, g_inTop, g_inBottom, g_outTop, g_outBottom, co, ex, b_from, b_along, b_tops, b_bottoms) := by
  unfold wpY_firstBottom
  refine ych hS hn hr (fun r it ib ot ob tp bt hs h => ?_)
  rcases id h with ⟨rfl, _⟩ | ⟨b, hb, hP, rfl, _⟩
  · exact br_f (by decide) (hp _ _ ⟨rfl, rfl, rfl, rfl, rfl⟩ ⟨_, h, Or.inl ⟨rfl, rfl⟩⟩)
  · have v : vp_in (nI b) 14 := vp_in_nI (by omega) (by omega)
    have g := sTb (bx_gb hr (bS_B hS) hb)
    have t0 := sTp lo hi b_from b_along b
    have q0 := sQp lo hi b_from b_along b
    have s := (sh_le hs (show b < 14 by omega)).2 ⟨hb, hP⟩
    have e1 : tp (nI b).toNatClampNeg = nI (sT lo hi b_from b_along b).toNat := by rw [nI_clamp (by omega)]; exact nI_i s.1 (by omega) (by omega)
    have e2 : bt (nI b).toNatClampNeg = nI (sQ lo hi b_from b_along b).toNat := by rw [nI_clamp (by omega)]; exact nI_i s.2 (by omega) (by omega)
    have G := gcd_ok (a := (sT lo hi b_from b_along b).toNat) (y := (sQ lo hi b_from b_along b).toNat) (by omega) (by omega) (by omega)
    refine br_t (nI_pos' (by omega)) ⟨v, v, ?_⟩
    rw [e1, e2]
    refine yco (by omega) (by omega) (by omega) (br_t (gcd_1 (by omega) (by omega)) ⟨v, G.1, ?_⟩)
    rw [G.2.2]
    exact hp _ _ ⟨rfl, rfl, rfl, rfl, rfl⟩ ⟨_, h, Or.inr ⟨b, hb, rfl, rfl⟩⟩
theorem ylt {n b : Nat} {lo hi co ex : Nat → Int32} (hb : b < n) (hS : bS n lo hi co ex) (hn : n ≤ 14) (hr : ry b_from b_along) {post : Int32 → SY → Prop} (hp : ∀ (r : Int32) (v : SY), sY n co ex b_from b_along v → lV lo hi b_from b_along b (rT (sVT lo hi b_from b_along b) (sVQ lo hi b_from b_along b)) r → post r v) : wpY_leaveTop post (nI n, g_inTop, g_inBottom, g_outTop, g_outBottom, co, ex, b_from, b_along, b_tops, b_bottoms) (nI b) := by
  unfold wpY_leaveTop
  refine yB_t hb hn (br_t rfl (ymt hS hn hb hr (fun r it ib ot ob hR => ?_)))
  rcases hR with ⟨rfl, hnP⟩ | ⟨rfl, hP, ⟨het, heb⟩, hlt, hlb⟩
  · exact br_t rfl (hp _ _ ⟨rfl, rfl, rfl, rfl, rfl⟩ (Or.inl ⟨hnP, rfl⟩))
  · have vb := sVb hr (bx_gb hr (bS_B hS) hb) hP
    have e1 := nI_i (X := sVT lo hi b_from b_along b) hlt (by omega) (by omega)
    have e2 := nI_i (X := sVQ lo hi b_from b_along b) hlb (by omega) (by omega)
    subst e1 e2
    have G := gcd_ok (a := (sVT lo hi b_from b_along b).toNat) (y := (sVQ lo hi b_from b_along b).toNat) (by omega) (by omega) (by omega)
    refine br_f n10 (yco (by omega) (by omega) (by omega) (br_t (gcd_1 (by omega) (by omega)) ⟨G.1, ?_⟩))
    rw [G.2.1]
    exact hp _ _ ⟨rfl, rfl, rfl, rfl, rfl⟩ (Or.inr ⟨hP, rfl⟩)
theorem ylb {n b : Nat} {lo hi co ex : Nat → Int32} (hb : b < n) (hS : bS n lo hi co ex) (hn : n ≤ 14) (hr : ry b_from b_along) {post : Int32 → SY → Prop} (hp : ∀ (r : Int32) (v : SY), sY n co ex b_from b_along v → lV lo hi b_from b_along b (rQ (sVT lo hi b_from b_along b) (sVQ lo hi b_from b_along b)) r → post r v) : wpY_leaveBottom post (nI n, g_inTop, g_inBottom, g_outTop, g_outBottom, co, ex, b_from, b_along, b_tops, b_bottoms) (nI b) := by
  unfold wpY_leaveBottom
  refine yB_t hb hn (br_t rfl (ymt hS hn hb hr (fun r it ib ot ob hR => ?_)))
  rcases hR with ⟨rfl, hnP⟩ | ⟨rfl, hP, ⟨het, heb⟩, hlt, hlb⟩
  · exact br_t rfl (hp _ _ ⟨rfl, rfl, rfl, rfl, rfl⟩ (Or.inl ⟨hnP, rfl⟩))
  · have vb := sVb hr (bx_gb hr (bS_B hS) hb) hP
    have e1 := nI_i (X := sVT lo hi b_from b_along b) hlt (by omega) (by omega)
    have e2 := nI_i (X := sVQ lo hi b_from b_along b) hlb (by omega) (by omega)
    subst e1 e2
    have G := gcd_ok (a := (sVT lo hi b_from b_along b).toNat) (y := (sVQ lo hi b_from b_along b).toNat) (by omega) (by omega) (by omega)
    refine br_f n10 (yco (by omega) (by omega) (by omega) (br_t (gcd_1 (by omega) (by omega)) ⟨G.1, ?_⟩))
    rw [G.2.2]
    exact hp _ _ ⟨rfl, rfl, rfl, rfl, rfl⟩ (Or.inr ⟨hP, rfl⟩)
theorem ylt_1 {n : Nat} {p0 : Int32} (hn : n ≤ 14) (h0 : ¬ isB n p0) {post : Int32 → SY → Prop} (h : post (-1) (nI n, g_inTop, g_inBottom, g_outTop, g_outBottom, b_corners, b_extents, b_from, b_along, b_tops, b_bottoms)) : wpY_leaveTop post (nI n, g_inTop, g_inBottom, g_outTop, g_outBottom, b_corners, b_extents, b_from, b_along, b_tops, b_bottoms) p0 := by
  unfold wpY_leaveTop
  exact yB_f h0 hn (br_f n10 h)
theorem ylb_1 {n : Nat} {p0 : Int32} (hn : n ≤ 14) (h0 : ¬ isB n p0) {post : Int32 → SY → Prop} (h : post (-1) (nI n, g_inTop, g_inBottom, g_outTop, g_outBottom, b_corners, b_extents, b_from, b_along, b_tops, b_bottoms)) : wpY_leaveBottom post (nI n, g_inTop, g_inBottom, g_outTop, g_outBottom, b_corners, b_extents, b_from, b_along, b_tops, b_bottoms) p0 := by
  unfold wpY_leaveBottom
  exact yB_f h0 hn (br_f n10 h)
end RG
end
section
section RH
variable {g_count g_inTop g_inBottom g_outTop g_outBottom : Int32} {b_corners b_extents b_from b_along b_tops b_bottoms : Nat → Int32}
variable {lo hi co ex : Nat → Int32}
/-! around -/
theorem ywi {n b a : Nat} {x : Int32} (hS : bS n lo hi co ex) (hn : n ≤ 14) (hb : b < n) (ha : a < 3) {post : Int32 → Prop} (h1 : lo (3 * b + a) ≤ x ∧ x ≤ hi (3 * b + a) → post 1) (h0 : ¬ (lo (3 * b + a) ≤ x ∧ x ≤ hi (3 * b + a)) → post 0) : wpY_within post (g_count, g_inTop, g_inBottom, g_outTop, g_outBottom, co, ex, b_from, b_along, b_tops, b_bottoms) (nI b) (nI a) x := by
  unfold wpY_within
  refine yl hS hn hb ha (br_c (fun c => h0 (fun z => absurd c (Int32.not_lt.mpr z.1))) (fun c => yh hS hn hb ha (br_c (fun c2 => h0 (fun z => absurd c2 (Int32.not_lt.mpr z.2))) (fun c2 => h1 ⟨Int32.not_lt.mp c, Int32.not_lt.mp c2⟩))))
theorem yar_6 {n : Nat} {p0 p1 p2 : Int32} (hS : bS n lo hi co ex) (hn : n ≤ 14) {post : Int32 → Prop} (hp : post (nI (cq (mt lo hi (v3 p0 p1 p2) (v3 p0 p1 p2)) 0 n))) : ∀ d k : Nat, k + d = n → wY_around_6 post p0 p1 p2 (nI n) g_inTop g_inBottom g_outTop g_outBottom co ex b_from b_along b_tops b_bottoms (d + 1) (nI (cq (mt lo hi (v3 p0 p1 p2) (v3 p0 p1 p2)) 0 k)) (nI k) := by
  intro d
  induction d with
  | zero =>
    intro k hk
    have ek : k = n := by omega
    subst ek
    exact br_t (nI_le (Nat.le_refl _) (by omega)) hp
  | succ d ih =>
    intro k hk
    have K := ih (k + 1) (by omega)
    rw [cq_s, Nat.zero_add] at K
    have no : ¬ mt lo hi (v3 p0 p1 p2) (v3 p0 p1 p2) k → ∀ x5 : Int32, x5 = nI k + 1 → wY_around_6 post p0 p1 p2 (nI n) g_inTop g_inBottom g_outTop g_outBottom co ex b_from b_along b_tops b_bottoms (d + 1) (nI (cq (mt lo hi (v3 p0 p1 p2) (v3 p0 p1 p2)) 0 k)) x5 := by
      intro hm
      rw [tN_f hm, Nat.add_zero] at K
      exact nm_r (nI_1 k) K
    refine br_f (nI_ge (by omega) (by omega)) (br_f (nI_ge (b := 14) (by omega) (by decide)) (ywi (a := 0) hS hn (by omega) (by omega) (fun h0 => br_f n10 (ywi (a := 1) hS hn (by omega) (by omega) (fun h1 => br_f n10 (ywi (a := 2) hS hn (by omega) (by omega) (fun h2 => br_f n10 ?_) (fun h2 => br_t rfl (no (fun z => h2 ?_))))) (fun h1 => br_t rfl (no (fun z => h1 ?_))))) (fun h0 => br_t rfl (no (fun z => h0 ?_)))))
    · have hm : mt lo hi (v3 p0 p1 p2) (v3 p0 p1 p2) k := by
        intro a ha
        obtain rfl | rfl | rfl : a = 0 ∨ a = 1 ∨ a = 2 := by omega
        · exact h0
        · exact h1
        · exact h2
      rw [tN_t hm] at K
      exact nm_r (nI_1 _) (nm_r (nI_1 k) K)
    · exact z 2 (by omega)
    · exact z 1 (by omega)
    · exact z 0 (by omega)
theorem yar {n : Nat} {p0 p1 p2 : Int32} (hS : bS n lo hi co ex) (hn : n ≤ 14) {post : Int32 → Prop} (hp : post (nI (cq (mt lo hi (v3 p0 p1 p2) (v3 p0 p1 p2)) 0 n))) : wpY_around post (nI n, g_inTop, g_inBottom, g_outTop, g_outBottom, co, ex, b_from, b_along, b_tops, b_bottoms) p0 p1 p2 :=
  Exists.intro (n + 1) (yar_6 hS hn hp n 0 (by omega))
/-! meeting -/
theorem yme_48 {n b c e : Nat} {x3 : Int32} (hS : bS n lo hi co ex) (hn : n ≤ 14) (hb : b < n) (hc : c < 32768) (he : e < 32768) {post : Int32 → Prop} {J26 : Int32 → Int32 → Prop} (h1 : mt lo hi (fun a => nI (pt c a)) (fun a => nI (pt c a + pt e a)) b → J26 (x3 + 1) (nI (b + 1))) (h0 : ¬ mt lo hi (fun a => nI (pt c a)) (fun a => nI (pt c a + pt e a)) b → J26 x3 (nI (b + 1))) : ∀ (d k : Nat) (fl : Int32), k + d = 3 → ((fl = 1 ∧ ∀ a, a < k → lo (3 * b + a) ≤ nI (pt c a + pt e a) ∧ nI (pt c a) ≤ hi (3 * b + a)) ∨ (fl = 0 ∧ ¬ mt lo hi (fun a => nI (pt c a)) (fun a => nI (pt c a + pt e a)) b)) → wY_meeting_48 post J26 (nI c) (nI e) x3 (nI b) g_count g_inTop g_inBottom g_outTop g_outBottom co ex b_from b_along b_tops b_bottoms (d + 1) fl (nI k) := by
  intro d
  induction d with
  | zero =>
    intro k fl hk hf
    have ek : k = 3 := by omega
    subst ek
    refine br_t (nI_le (a := 3) (b := 3) (by omega) (by decide)) ?_
    rcases hf with ⟨rfl, hf⟩ | ⟨rfl, hf⟩
    · exact br_f n10 (nm_e (nm_r (nI_1 b) (h1 hf)))
    · exact br_t rfl (nm_r (nI_1 b) (h0 hf))
  | succ d ih =>
    intro k fl hk hf
    have hk3 : k < 3 := by omega
    refine br_f (nI_ge (b := 3) hk3 (by decide)) (yp hc hk3 (yp he hk3 (nm_r (nI_add _ _) (yl hS hn hb hk3 (br_c (fun c1 => nm_r (nI_1 k) (ih (k + 1) 0 (by omega) (Or.inr ⟨rfl, fun z => absurd c1 (Int32.not_lt.mpr (z k hk3).1)⟩))) (fun c1 => yh hS hn hb hk3 (br_c (fun c2 => nm_r (nI_1 k) (ih (k + 1) fl (by omega) ?_)) (fun c2 => nm_r (nI_1 k) (ih (k + 1) 0 (by omega) (Or.inr ⟨rfl, fun z => absurd (z k hk3).2 c2⟩))))))))))
    rcases hf with ⟨e1, hf⟩ | hf
    · exact Or.inl ⟨e1, lt_s hf ⟨Int32.not_lt.mp c1, c2⟩⟩
    · exact Or.inr hf
theorem yme_26 {n c e : Nat} (hS : bS n lo hi co ex) (hn : n ≤ 14) (hc : c < 32768) (he : e < 32768) {post : Int32 → Prop} (hp : post (nI (cq (mt lo hi (fun a => nI (pt c a)) (fun a => nI (pt c a + pt e a))) 0 n))) : ∀ d k : Nat, k + d = n → wY_meeting_26 post (nI c) (nI e) (nI n) g_inTop g_inBottom g_outTop g_outBottom co ex b_from b_along b_tops b_bottoms (d + 1) (nI (cq (mt lo hi (fun a => nI (pt c a)) (fun a => nI (pt c a + pt e a))) 0 k)) (nI k) := by
  intro d
  induction d with
  | zero =>
    intro k hk
    have ek : k = n := by omega
    subst ek
    exact br_t (nI_le (Nat.le_refl _) (by omega)) hp
  | succ d ih =>
    intro k hk
    have K := ih (k + 1) (by omega)
    rw [cq_s, Nat.zero_add] at K
    refine br_f (nI_ge (by omega) (by omega)) (br_f (nI_ge (b := 14) (by omega) (by decide)) ⟨4, yme_48 hS hn (by omega) hc he (fun hm => ?_) (fun hm => ?_) 3 0 1 (by omega) (Or.inl ⟨rfl, fun a ha => absurd ha (Nat.not_lt_zero a)⟩)⟩)
    · rw [tN_t hm] at K
      rw [nI_1]
      exact K
    · rw [tN_f hm, Nat.add_zero] at K
      exact K
theorem yme {n c e : Nat} (hS : bS n lo hi co ex) (hn : n ≤ 14) (hc : c < 32768) (he : e < 32768) {post : Int32 → Prop} (hp : post (nI (cq (mt lo hi (fun a => nI (pt c a)) (fun a => nI (pt c a + pt e a))) 0 n))) : wpY_meeting post (nI n, g_inTop, g_inBottom, g_outTop, g_outBottom, co, ex, b_from, b_along, b_tops, b_bottoms) (nI c) (nI e) := by
  unfold wpY_meeting
  exact yT_t hc (br_t rfl (yT_t he (br_t rfl ⟨n + 1, yme_26 hS hn hc he hp n 0 (by omega)⟩)))
theorem yme_1 {p0 p1 : Int32} (h0 : ¬ isT p0) {post : Int32 → Prop} (h : post (-1)) : wpY_meeting post (g_count, g_inTop, g_inBottom, g_outTop, g_outBottom, b_corners, b_extents, b_from, b_along, b_tops, b_bottoms) p0 p1 := by
  unfold wpY_meeting
  exact yT_f h0 (br_f n10 h)
theorem yme_2 {c : Nat} {p1 : Int32} (hc : c < 32768) (h0 : ¬ isT p1) {post : Int32 → Prop} (h : post (-2)) : wpY_meeting post (g_count, g_inTop, g_inBottom, g_outTop, g_outBottom, b_corners, b_extents, b_from, b_along, b_tops, b_bottoms) (nI c) p1 := by
  unfold wpY_meeting
  exact yT_t hc (br_t rfl (yT_f h0 (br_f n10 h)))
/-! touching -/
theorem yto_4 {n : Nat} (hS : bS n lo hi co ex) (hn : n ≤ 14) {post : Int32 → Prop} (hp : post (nI (tsm n lo hi n / 2))) : ∀ d b : Nat, b + d = n → wY_touching_4 post (nI n) g_inTop g_inBottom g_outTop g_outBottom co ex b_from b_along b_tops b_bottoms (d + 1) (nI (tsm n lo hi b)) (nI b) := by
  intro d
  induction d with
  | zero =>
    intro b hb
    have eb : b = n := by omega
    subst eb
    have hb := tsm_b (lo := lo) (hi := hi) hn b
    have e : nI (tsm b lo hi b) / 2 = nI (tsm b lo hi b / 2) := pk_div (d := 2) (by omega) (by omega) (by omega)
    refine br_t (nI_le (Nat.le_refl _) (by omega)) ⟨by decide, ?_⟩
    rw [e]
    exact hp
  | succ d ih =>
    intro b hb
    have v : vp_in (nI b) 14 := vp_in_nI (by omega) (by omega)
    have hbn : b < n := by omega
    obtain ⟨c, e, hc, he, g1, g2, g3⟩ := hS b hbn
    refine br_f (nI_ge hbn (by omega)) (br_f (nI_ge (b := 14) (by omega) (by decide)) ⟨v, v, ?_⟩)
    rw [nI_clamp (by omega), g1, g2]
    refine yme hS hn hc he (nm_r (e' := nI (tsm n lo hi (b + 1))) ?_ (nm_r (nI_1 b) (ih (b + 1) (by omega))))
    have e1 : cq (mt lo hi (fun a => nI (pt c a)) (fun a => nI (pt c a + pt e a))) 0 n = tcn n lo hi b := by
      refine cq_congr 0 n (fun x _ _ => mt_c (fun a ha => ⟨?_, ?_⟩) x)
      · exact (g3 a ha).1.symm
      · exact (g3 a ha).2.symm
    have h1 := tcn_1 (bS_B hS) hbn
    rw [e1, qn_s h1, nI_add]
    rfl
theorem yto {n : Nat} (hS : bS n lo hi co ex) (hn : n ≤ 14) {post : Int32 → Prop} (hp : post (nI (tsm n lo hi n / 2))) : wpY_touching post (nI n, g_inTop, g_inBottom, g_outTop, g_outBottom, co, ex, b_from, b_along, b_tops, b_bottoms) :=
  Exists.intro (n + 1) (yto_4 hS hn hp n 0 (by omega))
/-! nearest -/
theorem ygp {n b a : Nat} {x : Int32} (hS : bS n lo hi co ex) (hn : n ≤ 14) (hb : b < n) (ha : a < 3) (hx : -100 ≤ x.toInt ∧ x.toInt ≤ 100) {post : Int32 → Prop} (hp : ∀ r : Int32, r.toInt = gp (sl lo b a) (sl hi b a) x.toInt * gp (sl lo b a) (sl hi b a) x.toInt → post r) : wpY_gap post (g_count, g_inTop, g_inBottom, g_outTop, g_outBottom, co, ex, b_from, b_along, b_tops, b_bottoms) (nI b) (nI a) x := by
  have bd := bS_B hS b hb a ha
  have t1 : (lo (3 * b + a)).toInt = sl lo b a := rfl
  have t2 : (hi (3 * b + a)).toInt = sl hi b a := rfl
  rw [t1, t2] at bd
  have gb := gp_b (l := sl lo b a) (h := sl hi b a) (v := x.toInt) bd.1 ⟨by omega, bd.2.2⟩ hx
  have sb := sq_b gb.1 gb.2
  have Z : ∀ z : Int32, z.toInt = gp (sl lo b a) (sl hi b a) x.toInt → post (z * z) := by
    intro z hz
    refine hp _ ?_
    rw [qn_mul (by rw [hz]; omega) (by rw [hz]; omega), hz]
  have H : ∀ x4 : Int32, x4.toInt = (if x.toInt < sl lo b a then sl lo b a - x.toInt else 0) → wY_gap_23 post (nI b) (nI a) x x4 g_count g_inTop g_inBottom g_outTop g_outBottom co ex b_from b_along b_tops b_bottoms := by
    intro x4 h4
    unfold wY_gap_23
    refine yh hS hn hb ha (br_c (fun c => Z x4 ?_) (fun c => yh hS hn hb ha (nm_e (Z _ ?_))))
    · have c' := Int32.le_iff_toInt_le.mp c
      rw [t2] at c'
      rw [h4]
      unfold gp
      rw [if_neg (show ¬ sl hi b a < x.toInt by omega)]
    · have c' : ¬ x.toInt ≤ (hi (3 * b + a)).toInt := fun y => c (Int32.le_iff_toInt_le.mpr y)
      rw [t2] at c'
      unfold gp
      rw [if_pos (show sl hi b a < x.toInt by omega), qn_sub (by rw [t2]; omega) (by rw [t2]; omega), t2]
  unfold wpY_gap
  refine yl hS hn hb ha (br_c (fun c => H 0 ?_) (fun c => yl hS hn hb ha (nm_e (H _ ?_))))
  · have c' := Int32.le_iff_toInt_le.mp c
    rw [t1] at c'
    rw [if_neg (show ¬ x.toInt < sl lo b a by omega)]
    exact qn_0
  · have c' : ¬ (lo (3 * b + a)).toInt ≤ x.toInt := fun y => c (Int32.le_iff_toInt_le.mpr y)
    rw [t1] at c'
    rw [if_pos (show x.toInt < sl lo b a by omega), qn_sub (by rw [t1]; omega) (by rw [t1]; omega), t1]
theorem yne_39 {n : Nat} {p0 p1 p2 : Int32} (hS : bS n lo hi co ex) (hn : n ≤ 14) (hp0 : nr 100 p0) (hp1 : nr 100 p1) (hp2 : nr 100 p2) {post : Int32 → Prop} (hp : ∀ r : Int32, ((n = 0 ∧ r = -2) ∨ nS n lo hi (wI (v3 p0 p1 p2)) r) → post r) : ∀ (d k : Nat) (x4 : Int32), k + d = n → ((k = 0 ∧ x4 = -2) ∨ nS k lo hi (wI (v3 p0 p1 p2)) x4) → wY_nearest_39 post p0 p1 p2 (nI n) g_inTop g_inBottom g_outTop g_outBottom co ex b_from b_along b_tops b_bottoms (d + 1) x4 (nI k) := by
  intro d
  induction d with
  | zero =>
    intro k x4 hk hI
    have ek : k = n := by omega
    subst ek
    exact br_t (nI_le (Nat.le_refl _) (by omega)) (hp x4 hI)
  | succ d ih =>
    intro k x4 hk hI
    have hkn : k < n := by omega
    have hw : ∀ a, a < 3 → -100 ≤ wI (v3 p0 p1 p2) a ∧ wI (v3 p0 p1 p2) a ≤ 100 := by
      intro a ha
      obtain rfl | rfl | rfl : a = 0 ∨ a = 1 ∨ a = 2 := by omega
      · exact nr_100 hp0
      · exact nr_100 hp1
      · exact nr_100 hp2
    have xb' : ∀ x, x < n → ∀ a, a < 3 → (0 ≤ sl lo x a ∧ sl lo x a ≤ 31) ∧ (0 ≤ sl hi x a ∧ sl hi x a ≤ 62) := fun x hx a ha => by
      have := bS_B hS x hx a ha
      show (0 ≤ (lo (3 * x + a)).toInt ∧ (lo (3 * x + a)).toInt ≤ 31) ∧ (0 ≤ (hi (3 * x + a)).toInt ∧ (hi (3 * x + a)).toInt ≤ 62)
      omega
    have sq : ∀ a, a < 3 → 0 ≤ gp (sl lo k a) (sl hi k a) (wI (v3 p0 p1 p2) a) * gp (sl lo k a) (sl hi k a) (wI (v3 p0 p1 p2) a) ∧ gp (sl lo k a) (sl hi k a) (wI (v3 p0 p1 p2) a) * gp (sl lo k a) (sl hi k a) (wI (v3 p0 p1 p2) a) ≤ 17161 := fun a ha => by
      have g := gp_b (xb' k hkn a ha).1 (xb' k hkn a ha).2 (hw a ha)
      exact sq_b g.1 g.2
    have s0 := sq 0 (by omega)
    have s1 := sq 1 (by omega)
    have s2 := sq 2 (by omega)
    refine br_f (nI_ge hkn (by omega)) (br_f (nI_ge (b := 14) (by omega) (by decide)) (ygp (a := 0) hS hn hkn (by omega) (nr_100 hp0) (fun r0 h0 => ygp (a := 1) hS hn hkn (by omega) (nr_100 hp1) (fun r1 h1 => ygp (a := 2) hS hn hkn (by omega) (nr_100 hp2) (fun r2 h2 => nm_e ?_)))))
    have h0' : r0.toInt = gp (sl lo k 0) (sl hi k 0) (wI (v3 p0 p1 p2) 0) * gp (sl lo k 0) (sl hi k 0) (wI (v3 p0 p1 p2) 0) := h0
    have h1' : r1.toInt = gp (sl lo k 1) (sl hi k 1) (wI (v3 p0 p1 p2) 1) * gp (sl lo k 1) (sl hi k 1) (wI (v3 p0 p1 p2) 1) := h1
    have h2' : r2.toInt = gp (sl lo k 2) (sl hi k 2) (wI (v3 p0 p1 p2) 2) * gp (sl lo k 2) (sl hi k 2) (wI (v3 p0 p1 p2) 2) := h2
    have a1 : (r0 + r1).toInt = r0.toInt + r1.toInt := qn_add (by omega) (by omega)
    have a2 : (r0 + r1 + r2).toInt = r0.toInt + r1.toInt + r2.toInt := by
      rw [qn_add (by omega) (by omega), a1]
    have D : (r0 + r1 + r2).toInt = dst lo hi (wI (v3 p0 p1 p2)) k := by
      rw [a2, h0', h1', h2']; rfl
    have N1 : (∀ x, x < k → dst lo hi (wI (v3 p0 p1 p2)) k ≤ dst lo hi (wI (v3 p0 p1 p2)) x) → nS (k + 1) lo hi (wI (v3 p0 p1 p2)) (r0 + r1 + r2) := fun h => ⟨k, by omega, D, lt_s h (Int.le_refl _)⟩
    rcases hI with ⟨rfl, rfl⟩ | ⟨b, hb, e, hmin⟩
    · exact br_t (by decide) (nm_r (nI_1 0) (ih 1 _ (by omega) (Or.inr (N1 (fun x hx => by omega)))))
    · have d0 := dst_0 (xb' b (by omega)) hw
      have c0 : ¬ x4 < 0 := fun z => by
        have := Int32.lt_iff_toInt_lt.mp z
        rw [e, qn_0] at this; omega
      refine br_f c0 (br_c (fun c => nm_r (nI_1 k) (ih (k + 1) _ (by omega) (Or.inr ⟨b, by omega, e, lt_s hmin ?_⟩))) (fun c => nm_r (nI_1 k) (ih (k + 1) _ (by omega) (Or.inr (N1 (fun x hx => ?_))))))
      · have c' := Int32.le_iff_toInt_le.mp c
        rw [e, D] at c'
        exact c'
      · have c' : ¬ x4.toInt ≤ (r0 + r1 + r2).toInt := fun y => c (Int32.le_iff_toInt_le.mpr y)
        rw [e, D] at c'
        have := hmin x hx
        omega
theorem yne {n : Nat} {p0 p1 p2 : Int32} (hS : bS n lo hi co ex) (hn : n ≤ 14) (hp0 : nr 100 p0) (hp1 : nr 100 p1) (hp2 : nr 100 p2) {post : Int32 → Prop} (hp : ∀ r : Int32, ((n = 0 ∧ r = -2) ∨ nS n lo hi (wI (v3 p0 p1 p2)) r) → post r) : wpY_nearest post (nI n, g_inTop, g_inBottom, g_outTop, g_outBottom, co, ex, b_from, b_along, b_tops, b_bottoms) p0 p1 p2 := by
  unfold wpY_nearest
  exact yN_t hp0 (br_t rfl (yN_t hp1 (br_t rfl (yN_t hp2 (br_t rfl ⟨n + 1, yne_39 hS hn hp0 hp1 hp2 hp n 0 (-2) (by omega) (Or.inl ⟨rfl, rfl⟩)⟩)))))
theorem yne_f {p0 p1 p2 : Int32} (hn : ¬ (nr 100 p0 ∧ nr 100 p1 ∧ nr 100 p2)) {post : Int32 → Prop} (h : post (-1)) : wpY_nearest post (g_count, g_inTop, g_inBottom, g_outTop, g_outBottom, b_corners, b_extents, b_from, b_along, b_tops, b_bottoms) p0 p1 p2 := by
  unfold wpY_nearest
  by_cases h1 : nr 100 p0
  · by_cases h2 : nr 100 p1
    · by_cases h3 : nr 100 p2
      · exact absurd ⟨h1, h2, h3⟩ hn
      · exact yN_t h1 (br_t rfl (yN_t h2 (br_t rfl (yN_f h3 (br_f n10 h)))))
    · exact yN_t h1 (br_t rfl (yN_f h2 (br_f n10 h)))
  · exact yN_f h1 (br_f n10 h)
theorem nS_u {n : Nat} {w : Nat → Int} {r r' : Int32} (h : nS n lo hi w r) (h' : nS n lo hi w r') : r' = r := by
  obtain ⟨b, hb, e, hm⟩ := h
  obtain ⟨b', hb', e', hm'⟩ := h'
  have h1 := hm b' hb'
  have h2 := hm' b hb
  apply Int32.toInt_inj.mp
  rw [e, e']; omega
end RH
end
section
section OW
variable {f_count f_nodes f_built f_enterTop f_enterBottom f_leaveTop f_leaveBottom f_hitCount : Int32} {a_low a_high a_nodeLow a_nodeHigh a_begins a_ends a_lefts a_order a_sorted a_bestOrder a_suffix a_boundLow a_boundHigh a_from a_way a_stack a_listed a_listTop a_listBottom : Nat → Int32}
theorem xfi {n : Nat} (hn : n ≤ 14) (hr : ry a_from a_way) (hB : bB n a_low a_high) (ht : f_built = 0 ∨ (f_built = 1 ∧ tr_OK n f_nodes a_low a_high a_nodeLow a_nodeHigh a_begins a_ends a_lefts a_order)) {post : Int32 → SX → Prop} (hp : ∀ (r : Int32) (u : SX), sX n a_low a_high a_from a_way u → fS n a_low a_high a_from a_way r → post r u) : wpX_first post (nI n, f_nodes, f_built, f_enterTop, f_enterBottom, f_leaveTop, f_leaveBottom, f_hitCount, a_low, a_high, a_nodeLow, a_nodeHigh, a_begins, a_ends, a_lefts, a_order, a_sorted, a_bestOrder, a_suffix, a_boundLow, a_boundHigh, a_from, a_way, a_stack, a_listed, a_listTop, a_listBottom) := by
  unfold wpX_first
  refine xt hn hr hB ht (fun r u hX hf => ?_)
  obtain ⟨f_count, f_nodes, f_built, f_enterTop, f_enterBottom, f_leaveTop, f_leaveBottom, f_hitCount, c_low, c_high, a_nodeLow, a_nodeHigh, a_begins, a_ends, a_lefts, a_order, a_sorted, a_bestOrder, a_suffix, a_boundLow, a_boundHigh, c_from, c_way, a_stack, a_listed, a_listTop, a_listBottom⟩ := u
  exact hp r _ hX hf
theorem lV_u {lo hi fr wy : Nat → Int32} {b val : Nat} {r r' : Int32} (h : lV lo hi fr wy b val r) (h' : lV lo hi fr wy b val r') : r' = r := by
  rcases h with ⟨h, e⟩ | ⟨h, e⟩
  · rcases h' with ⟨h', e'⟩ | ⟨h', e'⟩
    · rw [e, e']
    · exact absurd h' h
  · rcases h' with ⟨h', e'⟩ | ⟨h', e'⟩
    · exact absurd h h'
    · rw [e, e']
theorem bQ_u {n : Nat} {p : Nat → Prop} {q : Nat → Prop} {r r' : Int32} (h : (r = 1 ∧ ∃ x, x < n ∧ p x ∧ q x) ∨ (r = 0 ∧ ∀ x, x < n → p x → ¬ q x)) (h' : (r' = 1 ∧ ∃ x, x < n ∧ p x ∧ q x) ∨ (r' = 0 ∧ ∀ x, x < n → p x → ¬ q x)) : r' = r := by
  rcases h with ⟨e, x, h1, h2, h3⟩ | ⟨e, h⟩
  · rcases h' with ⟨e', _⟩ | ⟨e', h'⟩
    · rw [e, e']
    · exact absurd h3 (h' x h1 h2)
  · rcases h' with ⟨e', x, h1, h2, h3⟩ | ⟨e', h'⟩
    · exact absurd h3 (h x h1 h2)
    · rw [e, e']
theorem i_vc_first {k : Nat} {u : SX} {v : SY} (I : i_Rel k u v) (hk : k + 4 ≤ 2048) : wpX_first (fun r u' => wpY_first (fun r' v' => r' = r ∧ i_Rel (k + 4) u' v') v) u := by
  have I' := i_up I
  obtain ⟨n, lo, hi, co, ex, fr, wy, hn, hS, hr, hX, hY⟩ := I
  obtain ⟨f_count, f_nodes, f_built, f_enterTop, f_enterBottom, f_leaveTop, f_leaveBottom, f_hitCount, a_low, a_high, a_nodeLow, a_nodeHigh, a_begins, a_ends, a_lefts, a_order, a_sorted, a_bestOrder, a_suffix, a_boundLow, a_boundHigh, a_from, a_way, a_stack, a_listed, a_listTop, a_listBottom⟩ := u
  obtain ⟨g_count, g_inTop, g_inBottom, g_outTop, g_outBottom, b_corners, b_extents, b_from, b_along, b_tops, b_bottoms⟩ := v
  obtain ⟨rfl, rfl, rfl, rfl, rfl, ht⟩ := hX
  obtain ⟨rfl, rfl, rfl, rfl, rfl⟩ := hY
  exact xfi hn hr (bS_B hS) ht (fun r u' hX' hx => yfi hS hn hr (fun r' v' hY' hy => ⟨hS_u (fS_h hn hx) hy, n, _, _, _, _, _, _, hn, hS, hr, hX', hY'⟩))
theorem i_vc_firstTop {k : Nat} {u : SX} {v : SY} (I : i_Rel k u v) (hk : k + 4 ≤ 2048) : wpX_firstTop (fun r u' => wpY_firstTop (fun r' v' => r' = r ∧ i_Rel (k + 4) u' v') v) u := by
  have I' := i_up I
  obtain ⟨n, lo, hi, co, ex, fr, wy, hn, hS, hr, hX, hY⟩ := I
  obtain ⟨f_count, f_nodes, f_built, f_enterTop, f_enterBottom, f_leaveTop, f_leaveBottom, f_hitCount, a_low, a_high, a_nodeLow, a_nodeHigh, a_begins, a_ends, a_lefts, a_order, a_sorted, a_bestOrder, a_suffix, a_boundLow, a_boundHigh, a_from, a_way, a_stack, a_listed, a_listTop, a_listBottom⟩ := u
  obtain ⟨g_count, g_inTop, g_inBottom, g_outTop, g_outBottom, b_corners, b_extents, b_from, b_along, b_tops, b_bottoms⟩ := v
  obtain ⟨rfl, rfl, rfl, rfl, rfl, ht⟩ := hX
  obtain ⟨rfl, rfl, rfl, rfl, rfl⟩ := hY
  exact xft hn hr (bS_B hS) ht (fun r u' hX' hx => yft hS hn hr (fun r' v' hY' hy => ⟨gT_u hn hx hy, n, _, _, _, _, _, _, hn, hS, hr, hX', hY'⟩))
theorem i_vc_firstBottom {k : Nat} {u : SX} {v : SY} (I : i_Rel k u v) (hk : k + 4 ≤ 2048) : wpX_firstBottom (fun r u' => wpY_firstBottom (fun r' v' => r' = r ∧ i_Rel (k + 4) u' v') v) u := by
  have I' := i_up I
  obtain ⟨n, lo, hi, co, ex, fr, wy, hn, hS, hr, hX, hY⟩ := I
  obtain ⟨f_count, f_nodes, f_built, f_enterTop, f_enterBottom, f_leaveTop, f_leaveBottom, f_hitCount, a_low, a_high, a_nodeLow, a_nodeHigh, a_begins, a_ends, a_lefts, a_order, a_sorted, a_bestOrder, a_suffix, a_boundLow, a_boundHigh, a_from, a_way, a_stack, a_listed, a_listTop, a_listBottom⟩ := u
  obtain ⟨g_count, g_inTop, g_inBottom, g_outTop, g_outBottom, b_corners, b_extents, b_from, b_along, b_tops, b_bottoms⟩ := v
  obtain ⟨rfl, rfl, rfl, rfl, rfl, ht⟩ := hX
  obtain ⟨rfl, rfl, rfl, rfl, rfl⟩ := hY
  exact xfb hn hr (bS_B hS) ht (fun r u' hX' hx => yfb hS hn hr (fun r' v' hY' hy => ⟨gT_u hn hx hy, n, _, _, _, _, _, _, hn, hS, hr, hX', hY'⟩))
theorem i_vc_hit {k : Nat} {u : SX} {v : SY} (I : i_Rel k u v) (hk : k + 4 ≤ 2048) (v1 : Int32) : wpX_hit (fun r u' => wpY_hit (fun r' v' => r' = r ∧ i_Rel (k + 4) u' v') v v1) u v1 := by
  have I' := i_up I
  obtain ⟨n, lo, hi, co, ex, fr, wy, hn, hS, hr, hX, hY⟩ := I
  obtain ⟨f_count, f_nodes, f_built, f_enterTop, f_enterBottom, f_leaveTop, f_leaveBottom, f_hitCount, a_low, a_high, a_nodeLow, a_nodeHigh, a_begins, a_ends, a_lefts, a_order, a_sorted, a_bestOrder, a_suffix, a_boundLow, a_boundHigh, a_from, a_way, a_stack, a_listed, a_listTop, a_listBottom⟩ := u
  obtain ⟨g_count, g_inTop, g_inBottom, g_outTop, g_outBottom, b_corners, b_extents, b_from, b_along, b_tops, b_bottoms⟩ := v
  obtain ⟨rfl, rfl, rfl, rfl, rfl, ht⟩ := hX
  obtain ⟨rfl, rfl, rfl, rfl, rfl⟩ := hY
  exact xht hn hr (bS_B hS) ht (fun r u' hX' hx => yht hS hn hr (fun r' v' hY' hy => ⟨hS_u hx hy, n, _, _, _, _, _, _, hn, hS, hr, hX', hY'⟩))
theorem i_vc_hits {k : Nat} {u : SX} {v : SY} (I : i_Rel k u v) (hk : k + 4 ≤ 2048) : wpX_hits (fun r u' => wpY_hits (fun r' v' => r' = r ∧ i_Rel (k + 4) u' v') v) u := by
  have I' := i_up I
  obtain ⟨n, lo, hi, co, ex, fr, wy, hn, hS, hr, hX, hY⟩ := I
  obtain ⟨f_count, f_nodes, f_built, f_enterTop, f_enterBottom, f_leaveTop, f_leaveBottom, f_hitCount, a_low, a_high, a_nodeLow, a_nodeHigh, a_begins, a_ends, a_lefts, a_order, a_sorted, a_bestOrder, a_suffix, a_boundLow, a_boundHigh, a_from, a_way, a_stack, a_listed, a_listTop, a_listBottom⟩ := u
  obtain ⟨g_count, g_inTop, g_inBottom, g_outTop, g_outBottom, b_corners, b_extents, b_from, b_along, b_tops, b_bottoms⟩ := v
  obtain ⟨rfl, rfl, rfl, rfl, rfl, ht⟩ := hX
  obtain ⟨rfl, rfl, rfl, rfl, rfl⟩ := hY
  exact xhi hn hr (bS_B hS) ht (fun u' hX' => yhi hS hn hr (fun v' hY' => ⟨rfl, n, _, _, _, _, _, _, hn, hS, hr, hX', hY'⟩))
theorem i_vc_hitsBefore {k : Nat} {u : SX} {v : SY} (I : i_Rel k u v) (hk : k + 4 ≤ 2048) (v1 : Int32) (v2 : Int32) : wpX_hitsBefore (fun r u' => wpY_hitsBefore (fun r' v' => r' = r ∧ i_Rel (k + 4) u' v') v v1 v2) u v1 v2 := by
  have I' := i_up I
  obtain ⟨n, lo, hi, co, ex, fr, wy, hn, hS, hr, hX, hY⟩ := I
  obtain ⟨f_count, f_nodes, f_built, f_enterTop, f_enterBottom, f_leaveTop, f_leaveBottom, f_hitCount, a_low, a_high, a_nodeLow, a_nodeHigh, a_begins, a_ends, a_lefts, a_order, a_sorted, a_bestOrder, a_suffix, a_boundLow, a_boundHigh, a_from, a_way, a_stack, a_listed, a_listTop, a_listBottom⟩ := u
  obtain ⟨g_count, g_inTop, g_inBottom, g_outTop, g_outBottom, b_corners, b_extents, b_from, b_along, b_tops, b_bottoms⟩ := v
  obtain ⟨rfl, rfl, rfl, rfl, rfl, ht⟩ := hX
  obtain ⟨rfl, rfl, rfl, rfl, rfl⟩ := hY
  by_cases h1 : lmA v1
  · obtain ⟨A, hA, rfl⟩ := h1
    by_cases h2 : lmB v2
    · obtain ⟨B, hB1, hB2, rfl⟩ := h2
      exact xhb hA hB1 hB2 hn hr (bS_B hS) ht (fun u' hX' => yhb hA hB1 hB2 hS hn hr (fun it ib ot ob tp bt => ⟨rfl, n, _, _, _, _, _, _, hn, hS, hr, hX', ⟨rfl, rfl, rfl, rfl, rfl⟩⟩))
    · exact xhb_2 hA h2 (yhb_2 hA h2 ⟨rfl, I'⟩)
  · exact xhb_1 h1 (yhb_1 h1 ⟨rfl, I'⟩)
theorem i_vc_blocked {k : Nat} {u : SX} {v : SY} (I : i_Rel k u v) (hk : k + 4 ≤ 2048) (v1 : Int32) (v2 : Int32) : wpX_blocked (fun r u' => wpY_blocked (fun r' v' => r' = r ∧ i_Rel (k + 4) u' v') v v1 v2) u v1 v2 := by
  have I' := i_up I
  obtain ⟨n, lo, hi, co, ex, fr, wy, hn, hS, hr, hX, hY⟩ := I
  obtain ⟨f_count, f_nodes, f_built, f_enterTop, f_enterBottom, f_leaveTop, f_leaveBottom, f_hitCount, a_low, a_high, a_nodeLow, a_nodeHigh, a_begins, a_ends, a_lefts, a_order, a_sorted, a_bestOrder, a_suffix, a_boundLow, a_boundHigh, a_from, a_way, a_stack, a_listed, a_listTop, a_listBottom⟩ := u
  obtain ⟨g_count, g_inTop, g_inBottom, g_outTop, g_outBottom, b_corners, b_extents, b_from, b_along, b_tops, b_bottoms⟩ := v
  obtain ⟨rfl, rfl, rfl, rfl, rfl, ht⟩ := hX
  obtain ⟨rfl, rfl, rfl, rfl, rfl⟩ := hY
  by_cases h1 : lmA v1
  · obtain ⟨A, hA, rfl⟩ := h1
    by_cases h2 : lmB v2
    · obtain ⟨B, hB1, hB2, rfl⟩ := h2
      exact xbl hA hB1 hB2 hn hr (bS_B hS) ht (fun r u' hX' hx => ybl hA hB1 hB2 hS hn hr (fun r' v' hY' hy => ⟨bQ_u hx hy, n, _, _, _, _, _, _, hn, hS, hr, hX', hY'⟩))
    · exact xbl_2 hA h2 (ybl_2 hA h2 ⟨rfl, I'⟩)
  · exact xbl_1 h1 (ybl_1 h1 ⟨rfl, I'⟩)
theorem i_vc_leaveTop {k : Nat} {u : SX} {v : SY} (I : i_Rel k u v) (hk : k + 4 ≤ 2048) (v1 : Int32) : wpX_leaveTop (fun r u' => wpY_leaveTop (fun r' v' => r' = r ∧ i_Rel (k + 4) u' v') v v1) u v1 := by
  have I' := i_up I
  obtain ⟨n, lo, hi, co, ex, fr, wy, hn, hS, hr, hX, hY⟩ := I
  obtain ⟨f_count, f_nodes, f_built, f_enterTop, f_enterBottom, f_leaveTop, f_leaveBottom, f_hitCount, a_low, a_high, a_nodeLow, a_nodeHigh, a_begins, a_ends, a_lefts, a_order, a_sorted, a_bestOrder, a_suffix, a_boundLow, a_boundHigh, a_from, a_way, a_stack, a_listed, a_listTop, a_listBottom⟩ := u
  obtain ⟨g_count, g_inTop, g_inBottom, g_outTop, g_outBottom, b_corners, b_extents, b_from, b_along, b_tops, b_bottoms⟩ := v
  obtain ⟨rfl, rfl, rfl, rfl, rfl, ht⟩ := hX
  obtain ⟨rfl, rfl, rfl, rfl, rfl⟩ := hY
  by_cases h1 : isB n v1
  · obtain ⟨b, hb, rfl⟩ := h1
    exact xlt hb hn hr (bS_B hS) ht (fun r u' hX' hx => ylt hb hS hn hr (fun r' v' hY' hy => ⟨lV_u hx hy, n, _, _, _, _, _, _, hn, hS, hr, hX', hY'⟩))
  · exact xlt_1 hn h1 (ylt_1 hn h1 ⟨rfl, I'⟩)
theorem i_vc_leaveBottom {k : Nat} {u : SX} {v : SY} (I : i_Rel k u v) (hk : k + 4 ≤ 2048) (v1 : Int32) : wpX_leaveBottom (fun r u' => wpY_leaveBottom (fun r' v' => r' = r ∧ i_Rel (k + 4) u' v') v v1) u v1 := by
  have I' := i_up I
  obtain ⟨n, lo, hi, co, ex, fr, wy, hn, hS, hr, hX, hY⟩ := I
  obtain ⟨f_count, f_nodes, f_built, f_enterTop, f_enterBottom, f_leaveTop, f_leaveBottom, f_hitCount, a_low, a_high, a_nodeLow, a_nodeHigh, a_begins, a_ends, a_lefts, a_order, a_sorted, a_bestOrder, a_suffix, a_boundLow, a_boundHigh, a_from, a_way, a_stack, a_listed, a_listTop, a_listBottom⟩ := u
  obtain ⟨g_count, g_inTop, g_inBottom, g_outTop, g_outBottom, b_corners, b_extents, b_from, b_along, b_tops, b_bottoms⟩ := v
  obtain ⟨rfl, rfl, rfl, rfl, rfl, ht⟩ := hX
  obtain ⟨rfl, rfl, rfl, rfl, rfl⟩ := hY
  by_cases h1 : isB n v1
  · obtain ⟨b, hb, rfl⟩ := h1
    exact xlb hb hn hr (bS_B hS) ht (fun r u' hX' hx => ylb hb hS hn hr (fun r' v' hY' hy => ⟨lV_u hx hy, n, _, _, _, _, _, _, hn, hS, hr, hX', hY'⟩))
  · exact xlb_1 hn h1 (ylb_1 hn h1 ⟨rfl, I'⟩)
theorem i_vc_around {k : Nat} {u : SX} {v : SY} (I : i_Rel k u v) (hk : k + 4 ≤ 2048) (v1 : Int32) (v2 : Int32) (v3 : Int32) : wpX_around (fun r u' => wpY_around (fun r' => r' = r ∧ i_Rel (k + 4) u' v) v v1 v2 v3) u v1 v2 v3 := by
  have I' := i_up I
  obtain ⟨n, lo, hi, co, ex, fr, wy, hn, hS, hr, hX, hY⟩ := I
  obtain ⟨f_count, f_nodes, f_built, f_enterTop, f_enterBottom, f_leaveTop, f_leaveBottom, f_hitCount, a_low, a_high, a_nodeLow, a_nodeHigh, a_begins, a_ends, a_lefts, a_order, a_sorted, a_bestOrder, a_suffix, a_boundLow, a_boundHigh, a_from, a_way, a_stack, a_listed, a_listTop, a_listBottom⟩ := u
  obtain ⟨g_count, g_inTop, g_inBottom, g_outTop, g_outBottom, b_corners, b_extents, b_from, b_along, b_tops, b_bottoms⟩ := v
  obtain ⟨rfl, rfl, rfl, rfl, rfl, ht⟩ := hX
  obtain ⟨rfl, rfl, rfl, rfl, rfl⟩ := hY
  exact xar hn (bS_B hS) ht (fun fn nl nh ab ae al ao s bo sf bl bh sk hT => yar hS hn ⟨rfl, n, _, _, _, _, _, _, hn, hS, hr, ⟨rfl, rfl, rfl, rfl, rfl, Or.inr ⟨rfl, hT⟩⟩, ⟨rfl, rfl, rfl, rfl, rfl⟩⟩)
theorem i_vc_meeting {k : Nat} {u : SX} {v : SY} (I : i_Rel k u v) (hk : k + 4 ≤ 2048) (v1 : Int32) (v2 : Int32) : wpX_meeting (fun r u' => wpY_meeting (fun r' => r' = r ∧ i_Rel (k + 4) u' v) v v1 v2) u v1 v2 := by
  have I' := i_up I
  obtain ⟨n, lo, hi, co, ex, fr, wy, hn, hS, hr, hX, hY⟩ := I
  obtain ⟨f_count, f_nodes, f_built, f_enterTop, f_enterBottom, f_leaveTop, f_leaveBottom, f_hitCount, a_low, a_high, a_nodeLow, a_nodeHigh, a_begins, a_ends, a_lefts, a_order, a_sorted, a_bestOrder, a_suffix, a_boundLow, a_boundHigh, a_from, a_way, a_stack, a_listed, a_listTop, a_listBottom⟩ := u
  obtain ⟨g_count, g_inTop, g_inBottom, g_outTop, g_outBottom, b_corners, b_extents, b_from, b_along, b_tops, b_bottoms⟩ := v
  obtain ⟨rfl, rfl, rfl, rfl, rfl, ht⟩ := hX
  obtain ⟨rfl, rfl, rfl, rfl, rfl⟩ := hY
  by_cases h1 : isT v1
  · obtain ⟨c, hc, rfl⟩ := h1
    by_cases h2 : isT v2
    · obtain ⟨e, he, rfl⟩ := h2
      exact xme hn (bS_B hS) hc he ht (fun fn nl nh ab ae al ao s bo sf bl bh sk hT => yme hS hn hc he ⟨rfl, n, _, _, _, _, _, _, hn, hS, hr, ⟨rfl, rfl, rfl, rfl, rfl, Or.inr ⟨rfl, hT⟩⟩, ⟨rfl, rfl, rfl, rfl, rfl⟩⟩)
    · exact xme_2 hc h2 (yme_2 hc h2 ⟨rfl, I'⟩)
  · exact xme_1 h1 (yme_1 h1 ⟨rfl, I'⟩)
theorem i_vc_touching {k : Nat} {u : SX} {v : SY} (I : i_Rel k u v) (hk : k + 4 ≤ 2048) : wpX_touching (fun r u' => wpY_touching (fun r' => r' = r ∧ i_Rel (k + 4) u' v) v) u := by
  have I' := i_up I
  obtain ⟨n, lo, hi, co, ex, fr, wy, hn, hS, hr, hX, hY⟩ := I
  obtain ⟨f_count, f_nodes, f_built, f_enterTop, f_enterBottom, f_leaveTop, f_leaveBottom, f_hitCount, a_low, a_high, a_nodeLow, a_nodeHigh, a_begins, a_ends, a_lefts, a_order, a_sorted, a_bestOrder, a_suffix, a_boundLow, a_boundHigh, a_from, a_way, a_stack, a_listed, a_listTop, a_listBottom⟩ := u
  obtain ⟨g_count, g_inTop, g_inBottom, g_outTop, g_outBottom, b_corners, b_extents, b_from, b_along, b_tops, b_bottoms⟩ := v
  obtain ⟨rfl, rfl, rfl, rfl, rfl, ht⟩ := hX
  obtain ⟨rfl, rfl, rfl, rfl, rfl⟩ := hY
  exact xto hn (bS_B hS) ht (fun fn fb nl nh ab ae al ao s bo sf bl bh sk hT => yto hS hn ⟨rfl, n, _, _, _, _, _, _, hn, hS, hr, ⟨rfl, rfl, rfl, rfl, rfl, hT⟩, ⟨rfl, rfl, rfl, rfl, rfl⟩⟩)
theorem i_vc_nearest {k : Nat} {u : SX} {v : SY} (I : i_Rel k u v) (hk : k + 4 ≤ 2048) (v1 : Int32) (v2 : Int32) (v3 : Int32) : wpX_nearest (fun r u' => wpY_nearest (fun r' => r' = r ∧ i_Rel (k + 4) u' v) v v1 v2 v3) u v1 v2 v3 := by
  have I' := i_up I
  obtain ⟨n, lo, hi, co, ex, fr, wy, hn, hS, hr, hX, hY⟩ := I
  obtain ⟨f_count, f_nodes, f_built, f_enterTop, f_enterBottom, f_leaveTop, f_leaveBottom, f_hitCount, a_low, a_high, a_nodeLow, a_nodeHigh, a_begins, a_ends, a_lefts, a_order, a_sorted, a_bestOrder, a_suffix, a_boundLow, a_boundHigh, a_from, a_way, a_stack, a_listed, a_listTop, a_listBottom⟩ := u
  obtain ⟨g_count, g_inTop, g_inBottom, g_outTop, g_outBottom, b_corners, b_extents, b_from, b_along, b_tops, b_bottoms⟩ := v
  obtain ⟨rfl, rfl, rfl, rfl, rfl, ht⟩ := hX
  obtain ⟨rfl, rfl, rfl, rfl, rfl⟩ := hY
  by_cases hh : nr 100 v1 ∧ nr 100 v2 ∧ nr 100 v3
  · by_cases h0 : n = 0
    · subst h0
      refine xne_0 hh.1 hh.2.1 hh.2.2 (yne hS hn hh.1 hh.2.1 hh.2.2 (fun r' hy => ⟨?_, I'⟩))
      rcases hy with ⟨_, e⟩ | ⟨b, hb, _⟩
      · exact e
      · omega
    · refine xne (by omega) hn (bS_B hS) ht hh.1 hh.2.1 hh.2.2 (fun r fn nl nh ab ae al ao s bo sf bl bh sk hT hx => yne hS hn hh.1 hh.2.1 hh.2.2 (fun r' hy => ⟨?_, n, _, _, _, _, _, _, hn, hS, hr, ⟨rfl, rfl, rfl, rfl, rfl, Or.inr ⟨rfl, hT⟩⟩, ⟨rfl, rfl, rfl, rfl, rfl⟩⟩))
      rcases hy with ⟨e, _⟩ | hy
      · omega
      · exact nS_u hx hy
  · exact xne_f hh (yne_f hh ⟨rfl, I'⟩)
end OW
end
