section
/-! rows taken from kit/rows/PURE-ROWS (starting text) -/
theorem pk_us {f : Nat → Int32} {k : Nat} {x : Int32} : upd f k x k = x := if_pos rfl
theorem pk_un {f : Nat → Int32} {k j : Nat} {x : Int32} (h : j ≠ k) : upd f k x j = f j := if_neg h
theorem pk_uLs {f : Nat → Int64} {k : Nat} {x : Int64} : vp_updL f k x k = x := if_pos rfl
theorem pk_uLn {f : Nat → Int64} {k j : Nat} {x : Int64} (h : j ≠ k) : vp_updL f k x j = f j := if_neg h
theorem pk_sub {a b : Nat} (h : b ≤ a) : nI a - nI b = nI (a - b) := by
  obtain ⟨c, rfl⟩ : ∃ c, a = c + b := ⟨a - b, by omega⟩
  rw [← nI_add, Int32.add_sub_cancel, Nat.add_sub_cancel]
theorem pk_m1 (n : Nat) : nI (n + 1) + (-1) = nI n := by
  rw [← nI_1, Int32.add_assoc, show (1 : Int32) + (-1) = 0 from rfl, Int32.add_zero]
theorem pk_mul (a b : Nat) : nI a * nI b = nI (a * b) := (Int32.ofNat_mul a b).symm
theorem pk_div {a d : Nat} (ha : a < 2 ^ 31) (h0 : 0 < d) (hd : d < 2 ^ 31) : nI a / nI d = nI (a / d) := by
  apply Int32.toInt_inj.mp
  rw [lg_idiv_nonneg (by rw [nI_toInt ha]; omega) (by rw [nI_toInt hd]; omega), nI_toInt ha, nI_toInt hd, nI_toInt (Nat.lt_of_le_of_lt (Nat.div_le_self a d) ha)]
  first | rfl | exact (Int.natCast_ediv _ _).symm
theorem pk_rem {a d : Nat} (ha : a < 2 ^ 31) (h0 : 0 < d) (hd : d < 2 ^ 31) : nI a - nI a / nI d * nI d = nI (a % d) := by
  rw [pk_div ha h0 hd, pk_mul, pk_sub (Nat.div_mul_le_self a d)]
  exact congrArg nI (by have := Nat.div_add_mod' a d; omega)
theorem pk_sub_toInt {a b : Nat} (ha : a < 2 ^ 30) (hb : b < 2 ^ 30) : (nI a - nI b).toInt = (a : Int) - b := by
  rw [Int32.toInt_sub, nI_toInt (by omega), nI_toInt (by omega)]
  exact Int.bmod_eq_of_le (by omega) (by omega)
theorem pk_sneg {a b : Nat} (hb : b < 2 ^ 30) (h : a < b) : nI a - nI b < 0 := by
  rw [Int32.lt_iff_toInt_lt, pk_sub_toInt (by omega) hb, show (0 : Int32).toInt = 0 from by decide]
  omega
theorem pk_ix (x : Int32) {n : Nat} (hn : n < 2 ^ 31) : x < 0 ∨ nI n ≤ x ∨ ∃ j : Nat, j < n ∧ x = nI j := by
  by_cases h : x < 0
  · exact Or.inl h
  · obtain ⟨j, hj, rfl⟩ := nI_of h
    by_cases h2 : j < n
    · exact Or.inr (Or.inr ⟨j, h2, rfl⟩)
    · exact Or.inr (Or.inl (nI_le (by omega) hj))
theorem pk_le {x y : Int32} {A B : Prop} (a b : Nat) (f : a ≤ b → A) (g : b < a → B) (hx : x = nI a := by rfl) (hy : y = nI b := by rfl) (ha : a < 2 ^ 31 := by omega) (hb : b < 2 ^ 31 := by omega) : (x ≤ y → A) ∧ (¬ x ≤ y → B) := by
  subst hx hy
  rw [nI_leI ha hb]
  exact ⟨f, fun z => g (by omega)⟩
theorem pk_lt {x y : Int32} {A B : Prop} (a b : Nat) (f : a < b → A) (g : b ≤ a → B) (hx : x = nI a := by rfl) (hy : y = nI b := by rfl) (ha : a < 2 ^ 31 := by omega) (hb : b < 2 ^ 31 := by omega) : (x < y → A) ∧ (¬ x < y → B) := by
  subst hx hy
  rw [nI_ltI ha hb]
  exact ⟨f, fun z => g (by omega)⟩
theorem pk_eq {x y : Int32} {A B : Prop} (a b : Nat) (f : a = b → A) (g : a ≠ b → B) (hx : x = nI a := by rfl) (hy : y = nI b := by rfl) (ha : a < 2 ^ 31 := by omega) (hb : b < 2 ^ 31 := by omega) : (x = y → A) ∧ (¬ x = y → B) := by
  subst hx hy
  rw [nI_eq ha hb]
  exact ⟨f, g⟩
theorem pk_in {x : Int32} (n N : Nat) (h : n < N) (hx : x = nI n := by rfl) (hN : N < 2 ^ 31 := by omega) : vp_in x N := by
  subst hx
  exact vp_in_nI h hN
theorem pk_cl {x : Int32} (n : Nat) (hx : x = nI n := by rfl) (h : n < 2 ^ 31 := by omega) : x.toNatClampNeg = n := by
  subst hx
  exact nI_clamp h
theorem pk_tn {n : Nat} (h : n < 2 ^ 32) : (nI n).toBitVec.toNat = n := Nat.mod_eq_of_lt h
theorem pk_and (x : Int32) {m : Int32} (k : Nat) (hm : m.toBitVec.toNat = 2 ^ k - 1) : x &&& m = nI (x.toBitVec.toNat % 2 ^ k) := by
  apply Int32.toBitVec_inj.mp
  apply BitVec.eq_of_toNat_eq
  rw [Int32.toBitVec_and, BitVec.toNat_and, hm, Nat.and_two_pow_sub_one_eq_mod]
  show _ = (BitVec.ofNat 32 _).toNat
  rw [BitVec.toNat_ofNat]
  exact (Nat.mod_eq_of_lt (Nat.lt_of_le_of_lt (Nat.mod_le _ _) x.toBitVec.isLt)).symm
theorem pk_andN {n : Nat} (h : n < 2 ^ 32) {m : Int32} (k : Nat) (hm : m.toBitVec.toNat = 2 ^ k - 1) : nI n &&& m = nI (n % 2 ^ k) := by
  rw [pk_and _ k hm, pk_tn h]
theorem pk_andE (x : Int32) {m : Int32} (k : Nat) (hm : m.toBitVec.toNat = 2 ^ k - 1) : ∃ j : Nat, j < 2 ^ k ∧ x &&& m = nI j := ⟨_, Nat.mod_lt _ (Nat.two_pow_pos k), pk_and x k hm⟩
theorem pk_andIn (x : Int32) {m : Int32} (k : Nat) (hm : m.toBitVec.toNat = 2 ^ k - 1) (hk : k ≤ 30) : vp_in (x &&& m) (2 ^ k) := by
  obtain ⟨j, hj, e⟩ := pk_andE x k hm
  rw [e]
  exact vp_in_nI hj (Nat.lt_of_le_of_lt (Nat.pow_le_pow_right (by decide) hk) (by decide))
end
section
/-! pure: rings, counts, youngest writer, slots, look-ups in the program -/
theorem rc_nm1 {k : Nat} (hk : k < 2 ^ 31) : nI k ≠ -1 := by
  intro q
  have a := nI_toInt hk
  rw [q, show (-1 : Int32).toInt = -1 from by decide] at a
  omega
theorem rc_nneg {k : Nat} (hk : k < 2 ^ 31) : ¬ nI k < 0 := nI_pos hk
theorem rc_c {n : Nat} (h : n < 2 ^ 31) : (nI n).toNatClampNeg = n := nI_clamp h
def rc_RA (m h c : Nat) (x y : Nat → Int32) : Prop := ∀ i, i < c → x ((h + i) % m) = y i
def rc_md (m : Nat) : Prop := m = 16 ∨ m = 4
theorem rc_16 : rc_md 16 := Or.inl rfl
theorem rc_4 : rc_md 4 := Or.inr rfl
theorem rc_inj {m h i j : Nat} (hm : rc_md m) (hi : i < m) (hj : j < m) (e : (h + i) % m = (h + j) % m) : i = j := by
  rcases hm with rfl | rfl <;> omega
theorem ra_u {m h c i : Nat} {x y : Nat → Int32} {v : Int32} (hm : rc_md m) (hc : c ≤ m) (hi : i < c) (R : rc_RA m h c x y) : rc_RA m h c (upd x ((h + i) % m) v) (upd y i v) := by
  intro j hj
  by_cases e : j = i
  · subst e
    rw [pk_us, pk_us]
  · rw [pk_un (fun q => e (rc_inj hm (by omega) (by omega) q)), pk_un e]
    exact R j hj
theorem ra_uf {f : Int32 → Int32} {m h c i : Nat} {x y : Nat → Int32} {v : Int32} (hm : rc_md m) (hc : c ≤ m) (hi : i < c) (R : rc_RA m h c x (fun i => f (y i))) : rc_RA m h c (upd x ((h + i) % m) (f v)) (fun j => f (upd y i v j)) := by
  intro j hj
  show _ = f (upd y i v j)
  by_cases e : j = i
  · subst e
    rw [pk_us, pk_us]
  · rw [pk_un (fun q => e (rc_inj hm (by omega) (by omega) q)), pk_un e]
    exact R j hj
theorem ra_p {m h c : Nat} {x y : Nat → Int32} {v : Int32} (hm : rc_md m) (hc : c < m) (R : rc_RA m h c x y) : rc_RA m h (c + 1) (upd x ((h + c) % m) v) (upd y c v) := by
  intro j hj
  by_cases e : j = c
  · subst e
    rw [pk_us, pk_us]
  · rw [pk_un (fun q => e (rc_inj hm (by omega) (by omega) q)), pk_un e]
    exact R j (by omega)
theorem ra_pf {f : Int32 → Int32} {m h c : Nat} {x y : Nat → Int32} {v : Int32} (hm : rc_md m) (hc : c < m) (R : rc_RA m h c x (fun i => f (y i))) : rc_RA m h (c + 1) (upd x ((h + c) % m) (f v)) (fun j => f (upd y c v j)) := by
  intro j hj
  show _ = f (upd y c v j)
  by_cases e : j = c
  · subst e
    rw [pk_us, pk_us]
  · rw [pk_un (fun q => e (rc_inj hm (by omega) (by omega) q)), pk_un e]
    exact R j (by omega)
theorem ra_t {m h c k : Nat} {x y : Nat → Int32} (hk : k ≤ c) (R : rc_RA m h c x y) : rc_RA m h k x y := fun i hi => R i (by omega)
theorem ra_c {m h c : Nat} {x y y' : Nat → Int32} (e : ∀ i, i < c → y i = y' i) (R : rc_RA m h c x y) : rc_RA m h c x y' := fun i hi => (R i hi).trans (e i hi)
theorem ra_0 {m h : Nat} {x y : Nat → Int32} : rc_RA m h 0 x y := fun i hi => absurd hi (by omega)
theorem ra_o {m h c : Nat} {x y : Nat → Int32} (hm : rc_md m) (R : rc_RA m h (c + 1) x y) : rc_RA m ((h + 1) % m) c x (fun i => y (i + 1)) := by
  intro i hi
  have e : ((h + 1) % m + i) % m = (h + (i + 1)) % m := by rcases hm with rfl | rfl <;> omega
  rw [e]
  exact R (i + 1) (by omega)
/-! slots -/
def rc_sl (h : Nat) (w : Int32) : Int32 := if w = -1 then -1 else (nI h + w) &&& 15
theorem sl_m {h : Nat} : rc_sl h (-1) = -1 := if_pos rfl
theorem rc_and15 {n : Nat} (h : n < 2 ^ 31) : nI n &&& 15 = nI (n % 16) := pk_andN (by omega) 4 (by decide)
theorem rc_and3 {n : Nat} (h : n < 2 ^ 31) : nI n &&& 3 = nI (n % 4) := pk_andN (by omega) 2 (by decide)
theorem rc_and7 {n : Nat} (h : n < 8) : nI n &&& 7 = nI n := by
  rw [pk_andN (by omega) 3 (by decide)]
  exact congrArg nI (by omega)
theorem rc_slot {h k : Nat} (hh : h < 16) (hk : k ≤ 16) : (nI h + nI k) &&& 15 = nI ((h + k) % 16) := by
  rw [nI_add, rc_and15 (by omega)]
theorem rc_slot1 {h : Nat} (hh : h < 16) : (nI h + 1) &&& 15 = nI ((h + 1) % 16) := by
  rw [nI_1, rc_and15 (by omega)]
theorem rc_qslot {h k : Nat} (hh : h < 4) (hk : k ≤ 4) : (nI h + nI k) &&& 3 = nI ((h + k) % 4) := by
  rw [nI_add, rc_and3 (by omega)]
theorem rc_qslot1 {h : Nat} (hh : h < 4) : (nI h + 1) &&& 3 = nI ((h + 1) % 4) := by
  rw [nI_1, rc_and3 (by omega)]
theorem sl_n {h k : Nat} (hh : h < 16) (hk : k < 16) : rc_sl h (nI k) = nI ((h + k) % 16) := by
  rw [rc_sl, if_neg (rc_nm1 (by omega)), rc_slot hh (by omega)]
def rc_w16 (w : Int32) : Prop := w = -1 ∨ ∃ k, k < 16 ∧ w = nI k
theorem sl_eq {h j : Nat} {w : Int32} (hh : h < 16) (hj : j < 16) (hw : rc_w16 w) : rc_sl h w = nI ((h + j) % 16) ↔ w = nI j := by
  rcases hw with rfl | ⟨k, hk, rfl⟩
  · rw [sl_m]
    constructor
    · intro e
      exact absurd e.symm (rc_nm1 (by omega))
    · intro e
      exact absurd e.symm (rc_nm1 (by omega))
  · rw [sl_n hh hk, nI_eq (by omega) (by omega), nI_eq (by omega) (by omega)]
    constructor
    · intro e
      exact rc_inj rc_16 hk hj e
    · intro e
      rw [e]
theorem sl_m1 {h : Nat} {w : Int32} (hh : h < 16) (hw : rc_w16 w) : rc_sl h w = -1 ↔ w = -1 := by
  rcases hw with rfl | ⟨k, hk, rfl⟩
  · rw [sl_m]
  · rw [sl_n hh hk]
    constructor
    · intro e
      exact absurd e (rc_nm1 (by omega))
    · intro e
      exact absurd e (rc_nm1 (by omega))
theorem sl_pl : ∀ h, h < 16 → ∀ k, k < 16 → (nI ((h + k) % 16) - nI h) &&& 15 = nI k := by decide +kernel
def rc_dc (w : Int32) : Int32 := if w ≤ 0 then w else w - 1
theorem dc_m : rc_dc (-1) = -1 := by decide
theorem dc_s {k : Nat} (h : k + 1 < 2 ^ 31) : rc_dc (nI (k + 1)) = nI k := by
  rw [rc_dc, if_neg (nI_nle (by omega) h), nI_pred]
theorem sl_pop {h : Nat} {w : Int32} (hh : h < 16) (hw : w = -1 ∨ ∃ k, k + 1 < 16 ∧ w = nI (k + 1)) : rc_sl ((h + 1) % 16) (rc_dc w) = rc_sl h w := by
  rcases hw with rfl | ⟨k, hk, rfl⟩
  · rw [dc_m, sl_m, sl_m]
  · rw [dc_s (by omega), sl_n (by omega) (by omega), sl_n hh hk]
    exact congrArg nI (by omega)
/-! counts -/
def rc_cn (p : Nat → Bool) : Nat → Int32
  | 0 => 0
  | n + 1 => if p n = true then rc_cn p n + 1 else rc_cn p n
theorem cn_c {p q : Nat → Bool} : ∀ n, (∀ i, i < n → p i = q i) → rc_cn p n = rc_cn q n := by
  intro n
  induction n with
  | zero => intro _; rfl
  | succ n ih =>
    intro h
    rw [rc_cn, rc_cn, ih (fun i hi => h i (by omega)), h n (by omega)]
theorem cn_dn {p q : Nat → Bool} {j : Nat} (hp : p j = true) (hq : q j = false) : ∀ n, j < n → (∀ i, i < n → i ≠ j → p i = q i) → rc_cn q n = rc_cn p n - 1 := by
  intro n
  induction n with
  | zero => intro h; omega
  | succ n ih =>
    intro hj h
    rw [rc_cn, rc_cn]
    by_cases e : j = n
    · subst e
      rw [if_pos hp, if_neg (by rw [hq]; exact Bool.noConfusion), Int32.add_sub_cancel]
      exact cn_c _ (fun i hi => (h i (by omega) (by omega)).symm)
    · rw [ih (by omega) (fun i hi => h i (by omega)), h n (by omega) (by omega)]
      by_cases e2 : q n = true
      · rw [if_pos e2, if_pos e2]
        rw [Int32.sub_add_cancel, Int32.add_sub_cancel]
      · rw [if_neg e2, if_neg e2]
theorem cn_up {p q : Nat → Bool} {j : Nat} (hp : p j = false) (hq : q j = true) (n : Nat) (hj : j < n) (h : ∀ i, i < n → i ≠ j → p i = q i) : rc_cn q n = rc_cn p n + 1 := by
  rw [cn_dn hq hp n hj (fun i hi e => (h i hi e).symm), Int32.sub_add_cancel]
theorem cn_o {p : Nat → Bool} : ∀ n, rc_cn p (n + 1) = if p 0 = true then rc_cn (fun i => p (i + 1)) n + 1 else rc_cn (fun i => p (i + 1)) n := by
  intro n
  induction n with
  | zero => rfl
  | succ n ih =>
    rw [rc_cn, ih]
    show _ = if p 0 = true then (if p (n + 1) = true then rc_cn (fun i => p (i + 1)) n + 1 else rc_cn (fun i => p (i + 1)) n) + 1 else (if p (n + 1) = true then rc_cn (fun i => p (i + 1)) n + 1 else rc_cn (fun i => p (i + 1)) n)
    by_cases h0 : p 0 = true
    · rw [if_pos h0, if_pos h0]
      by_cases h1 : p (n + 1) = true
      · rw [if_pos h1, if_pos h1]
      · rw [if_neg h1, if_neg h1]
    · rw [if_neg h0, if_neg h0]
/-! the youngest writer -/
def rc_yw (d : Nat → Int32) (r : Int32) : Nat → Int32
  | 0 => -1
  | n + 1 => if d n = r then nI n else rc_yw d r n
theorem yw_w {d : Nat → Int32} {r : Int32} : ∀ n, rc_yw d r n = -1 ∨ ∃ k, k < n ∧ rc_yw d r n = nI k ∧ d k = r := by
  intro n
  induction n with
  | zero => exact Or.inl rfl
  | succ n ih =>
    rw [rc_yw]
    by_cases e : d n = r
    · rw [if_pos e]
      exact Or.inr ⟨n, by omega, rfl, e⟩
    · rw [if_neg e]
      rcases ih with h | ⟨k, hk, h1, h2⟩
      · exact Or.inl h
      · exact Or.inr ⟨k, by omega, h1, h2⟩
theorem yw_16 {d : Nat → Int32} {r : Int32} {n : Nat} (hn : n ≤ 16) : rc_w16 (rc_yw d r n) := by
  rcases yw_w (d := d) (r := r) n with h | ⟨k, hk, h1, _⟩
  · exact Or.inl h
  · exact Or.inr ⟨k, by omega, h1⟩
theorem yw_c {d d' : Nat → Int32} {r : Int32} : ∀ n, (∀ i, i < n → d i = d' i) → rc_yw d r n = rc_yw d' r n := by
  intro n
  induction n with
  | zero => intro _; rfl
  | succ n ih =>
    intro h
    rw [rc_yw, rc_yw, ih (fun i hi => h i (by omega)), h n (by omega)]
theorem yw_o {d : Nat → Int32} {r : Int32} : ∀ n, n < 2 ^ 31 - 1 → rc_yw d r (n + 1) = if rc_yw (fun i => d (i + 1)) r n = -1 then (if d 0 = r then nI 0 else -1) else rc_yw (fun i => d (i + 1)) r n + 1 := by
  intro n
  induction n with
  | zero => intro _; rfl
  | succ n ih =>
    intro hn
    rw [rc_yw, ih (by omega)]
    show _ = if (if d (n + 1) = r then nI n else rc_yw (fun i => d (i + 1)) r n) = -1 then (if d 0 = r then nI 0 else -1) else (if d (n + 1) = r then nI n else rc_yw (fun i => d (i + 1)) r n) + 1
    by_cases e : d (n + 1) = r
    · rw [if_pos e, if_pos e, if_neg (rc_nm1 (by omega)), nI_1]
    · rw [if_neg e, if_neg e]
/-! look-ups in the program -/
def rc_op (len : Nat) (po : Nat → Int32) (p : Int32) : Int32 := if p < 0 then -1 else if nI len ≤ p then -1 else po p.toNatClampNeg
def rc_fa (len : Nat) (pa : Nat → Int32) (p : Int32) : Int32 := if p < 0 then 0 else if nI len ≤ p then 0 else pa p.toNatClampNeg
def rc_ds (op a c : Int32) : Int32 := if op < 1 then -1 else if op ≤ 10 then a else if op = 14 then a else if op = 15 then (if c = 3 then a else if c = 4 then a else -1) else -1
def rc_dt (len : Nat) (po pa pc : Nat → Int32) (p : Int32) : Int32 := rc_ds (rc_op len po p) (rc_fa len pa p) (rc_fa len pc p)
def rc_un (op : Int32) : Int32 := if op = 3 then 1 else if op = 4 then 2 else if op = 12 then 3 else if op = 13 then 3 else if op = 14 then 3 else if op = 10 then 4 else if op = 11 then 4 else 0
def rc_cp (op x y c : Int32) : Int32 := if op = 1 then x + y else if op = 2 then x - y else if op = 3 then x * y else if op = 4 then (if y = 0 then 0 else x / y) else if op = 5 then x &&& y else if op = 6 then x ^^^ y else if op = 7 then (if y ≤ x then 0 else 1) else if op = 8 then x + c else if op = 9 then c else 0
def rc_r1 (op a b : Int32) : Int32 := if op = 12 then a else if op = 13 then a else if op < 1 then -1 else if op ≤ 8 then b else if op = 10 then b else if op = 11 then b else if op = 14 then b else -1
def rc_r2 (op a b c : Int32) : Int32 := if op < 1 then -1 else if op ≤ 7 then c else if op = 11 then a else if op = 12 then b else if op = 13 then b else -1
def rc_ok (op a b c : Int32) : Prop := (∃ o, o ≤ 15 ∧ op = nI o) ∧ (∃ j, j ≤ 7 ∧ a = nI j) ∧ (∃ j, j ≤ 7 ∧ b = nI j) ∧ (1 ≤ op → op ≤ 7 → ∃ j, j ≤ 7 ∧ c = nI j)
def rc_Pg (len : Nat) (po pa pb pc : Nat → Int32) : Prop := len ≤ 64 ∧ ∀ i, i < 64 → rc_ok (po i) (pa i) (pb i) (pc i)
/-- a place inside the program -/
theorem pg_at {len : Nat} {p : Int32} (hl : len ≤ 64) (h0 : ¬ p < 0) (h1 : ¬ nI len ≤ p) : ∃ j, j < len ∧ p = nI j := by
  obtain ⟨j, hj, rfl⟩ := nI_of h0
  rw [nI_leI (by omega) hj] at h1
  exact ⟨j, by omega, rfl⟩
theorem pg_c {len : Nat} {po pa pb pc : Nat → Int32} (P : rc_Pg len po pa pb pc) (p : Int32) : (rc_op len po p = -1 ∧ rc_fa len pa p = 0 ∧ rc_fa len pb p = 0 ∧ rc_fa len pc p = 0 ∧ (p < 0 ∨ nI len ≤ p)) ∨ (∃ j, j < 64 ∧ j < len ∧ p = nI j ∧ ¬ p < 0 ∧ ¬ nI len ≤ p ∧ rc_op len po p = po j ∧ rc_fa len pa p = pa j ∧ rc_fa len pb p = pb j ∧ rc_fa len pc p = pc j ∧ rc_ok (po j) (pa j) (pb j) (pc j)) := by
  by_cases h0 : p < 0
  · exact Or.inl ⟨if_pos h0, if_pos h0, if_pos h0, if_pos h0, Or.inl h0⟩
  · by_cases h1 : nI len ≤ p
    · refine Or.inl ⟨?_, ?_, ?_, ?_, Or.inr h1⟩
      · rw [rc_op, if_neg h0, if_pos h1]
      · rw [rc_fa, if_neg h0, if_pos h1]
      · rw [rc_fa, if_neg h0, if_pos h1]
      · rw [rc_fa, if_neg h0, if_pos h1]
    · obtain ⟨j, hj, e⟩ := pg_at P.1 h0 h1
      have hP := P.1
      have ec : p.toNatClampNeg = j := by rw [e]; exact nI_clamp (by omega)
      refine Or.inr ⟨j, by omega, hj, e, h0, h1, ?_, ?_, ?_, ?_, P.2 j (by omega)⟩
      · rw [rc_op, if_neg h0, if_neg h1, ec]
      · rw [rc_fa, if_neg h0, if_neg h1, ec]
      · rw [rc_fa, if_neg h0, if_neg h1, ec]
      · rw [rc_fa, if_neg h0, if_neg h1, ec]
def rc_o16 (op : Int32) : Prop := op = -1 ∨ ∃ o, o ≤ 15 ∧ op = nI o
def rc_r8 (r : Int32) : Prop := ∃ j, j ≤ 7 ∧ r = nI j
theorem pg_op {len : Nat} {po pa pb pc : Nat → Int32} (P : rc_Pg len po pa pb pc) (p : Int32) : rc_o16 (rc_op len po p) := by
  rcases pg_c P p with h | ⟨j, _, _, _, _, _, h, _, _, _, ok⟩
  · exact Or.inl h.1
  · rw [h]
    exact Or.inr ok.1
theorem pg_a {len : Nat} {po pa pb pc : Nat → Int32} (P : rc_Pg len po pa pb pc) (p : Int32) : rc_r8 (rc_fa len pa p) := by
  rcases pg_c P p with h | ⟨j, _, _, _, _, _, _, h, _, _, ok⟩
  · rw [h.2.1]
    exact ⟨0, by omega, rfl⟩
  · rw [h]
    exact ok.2.1
theorem pg_b {len : Nat} {po pa pb pc : Nat → Int32} (P : rc_Pg len po pa pb pc) (p : Int32) : rc_r8 (rc_fa len pb p) := by
  rcases pg_c P p with h | ⟨j, _, _, _, _, _, _, _, h, _, ok⟩
  · rw [h.2.2.1]
    exact ⟨0, by omega, rfl⟩
  · rw [h]
    exact ok.2.2.1
theorem pg_cc {len : Nat} {po pa pb pc : Nat → Int32} (P : rc_Pg len po pa pb pc) (p : Int32) (h1 : 1 ≤ rc_op len po p) (h7 : rc_op len po p ≤ 7) : rc_r8 (rc_fa len pc p) := by
  rcases pg_c P p with h | ⟨j, _, _, _, _, _, e, _, _, h, ok⟩
  · rw [h.1] at h1
    exact absurd h1 (by decide)
  · rw [h]
    rw [e] at h1 h7
    exact ok.2.2.2 h1 h7
def rc_d8 (d : Int32) : Prop := d = -1 ∨ ∃ j, j ≤ 7 ∧ d = nI j
theorem ds_8 {op a c : Int32} (ha : rc_r8 a) : rc_d8 (rc_ds op a c) := by
  unfold rc_ds
  repeat' split
  all_goals first | exact Or.inl rfl | exact Or.inr ha
theorem dt_8 {len : Nat} {po pa pb pc : Nat → Int32} (P : rc_Pg len po pa pb pc) (p : Int32) : rc_d8 (rc_dt len po pa pc p) := ds_8 (pg_a P p)
theorem r1_8 {op a b : Int32} (ha : rc_r8 a) (hb : rc_r8 b) : rc_d8 (rc_r1 op a b) := by
  unfold rc_r1
  repeat' split
  all_goals first | exact Or.inl rfl | exact Or.inr ha | exact Or.inr hb
theorem r2_8 {op a b c : Int32} (ha : rc_r8 a) (hb : rc_r8 b) (hc : 1 ≤ op → op ≤ 7 → rc_r8 c) : rc_d8 (rc_r2 op a b c) := by
  unfold rc_r2
  by_cases h1 : op < 1
  · rw [if_pos h1]
    exact Or.inl rfl
  · rw [if_neg h1]
    by_cases h7 : op ≤ 7
    · rw [if_pos h7]
      exact Or.inr (hc (Int32.not_lt.mp h1) h7)
    · rw [if_neg h7]
      repeat' split
      all_goals first | exact Or.inl rfl | exact Or.inr ha | exact Or.inr hb
def rc_u5 (r : Int32) : Prop := ∃ k, k < 5 ∧ r = nI k
theorem un_5 (op : Int32) : rc_u5 (rc_un op) := by
  unfold rc_un
  repeat' split
  · exact ⟨1, by omega, rfl⟩
  · exact ⟨2, by omega, rfl⟩
  · exact ⟨3, by omega, rfl⟩
  · exact ⟨3, by omega, rfl⟩
  · exact ⟨3, by omega, rfl⟩
  · exact ⟨4, by omega, rfl⟩
  · exact ⟨4, by omega, rfl⟩
  · exact ⟨0, by omega, rfl⟩
end
section
/-! the small methods that only read: each against one pure function -/
section
variable {w rs len qh qc h c : Nat} {f_stations f_queueSize f_phase f_pc f_epc f_cause f_handling f_vector f_fetchPc f_parked f_waitingCount f_memCount : Int32} {a_regs a_memory a_progOp a_progA a_progB a_progC a_latency a_counters a_fqPc a_fqNext a_twoBit a_jumpDelta a_robPc a_robPredicted a_robState a_robRemaining a_robValue a_robFault a_robNext a_robSrc1 a_robVal1 a_robSrc2 a_robVal2 a_robOp a_robC a_robDest a_mapSlot a_unitBusy a_settings a_queuePc a_queueNext a_ePc a_ePredicted a_eState a_eRemaining a_eValue a_eFault a_eNext a_eWait1 a_eVal1 a_eWait2 a_eVal2 : Nat → Int32}
theorem if_br {c : Prop} [Decidable c] {post : Int32 → Prop} {a b : Int32} {A B : Prop} (H : post (if c then a else b)) (f : post a → A) (g : post b → B) : (c → A) ∧ (¬ c → B) :=
  ⟨fun h => f (by rwa [if_pos h] at H), fun h => g (by rwa [if_neg h] at H)⟩
theorem eq_br {f : Int32 → Int32} {post : Int32 → Prop} {p k v : Int32} {B : Prop} (hv : f k = v) (H : post (f p)) (g : ¬ p = k → B) : (p = k → post v) ∧ (¬ p = k → B) :=
  ⟨fun e => by rw [e, hv] at H; exact H, g⟩
theorem ab_lt {p k m : Int32} {P : Prop} (h : p < m) (e : p = k) (d : ¬ k < m) : P := absurd (e ▸ h) d
theorem ab_gt {p k m : Int32} {P : Prop} (h : m < p) (e : p = k) (d : ¬ m < k) : P := absurd (e ▸ h) d
def rc_im (op : Int32) : Int32 := if op = 10 then 1 else if op = 11 then 1 else 0
def rc_ib (op : Int32) : Int32 := if op = 12 then 1 else if op = 13 then 1 else if op = 14 then 1 else 0
def rc_ga (x : Int32) : Int32 := if x < 0 then 0 else if 64 ≤ x then 0 else 1
def rc_tk (op x y : Int32) : Int32 := if op = 12 then (if x = y then 1 else 0) else (if y ≤ x then 0 else 1)
def rc_ns (op : Int32) : Int32 := if op ≤ 0 then 0 else if 15 ≤ op then 0 else 1
theorem rc_63 {x : Int32} : 63 < x ↔ 64 ≤ x := by
  rw [Int32.lt_iff_toInt_lt, Int32.le_iff_toInt_le, show (63 : Int32).toInt = 63 from by decide, show (64 : Int32).toInt = 64 from by decide]
  omega
theorem x_isMemory {post : Int32 → Prop} {u : SX} {p : Int32} (H : post (rc_im p)) : wpX_isMemory post u p :=
  if_br (post := post) H id fun H => if_br (post := post) H id id
theorem x_isBranch {post : Int32 → Prop} {u : SX} {p : Int32} (H : post (rc_ib p)) : wpX_isBranch post u p :=
  if_br (post := post) H id fun H => if_br (post := post) H id fun H => if_br (post := post) H id id
theorem x_goodAddress {post : Int32 → Prop} {u : SX} {p : Int32} (H : post (rc_ga p)) : wpX_goodAddress post u p :=
  if_br (post := post) H id fun H => if_br (post := post) H id id
theorem y_goodAddress {post : Int32 → Prop} {u : SY} {p : Int32} (H : post (rc_ga p)) : wpY_goodAddress post u p := by
  refine if_br (post := post) H id fun H => ?_
  rw [rc_63]
  exact if_br (post := post) H id id
theorem x_taken {post : Int32 → Prop} {u : SX} {p x y : Int32} (H : post (rc_tk p x y)) : wpX_taken post u p x y :=
  if_br (post := post) H (fun H => if_br (post := post) H id id) fun H => if_br (post := post) H id id
theorem x_needsStation {post : Int32 → Prop} {u : SX} {p : Int32} (H : post (rc_ns p)) : wpX_needsStation post u p :=
  if_br (post := post) H id fun H => if_br (post := post) H id id
theorem un_lo {p : Int32} (h : p < 3) : rc_un p = 0 := by
  rw [rc_un, if_neg (fun e => ab_lt h e (by decide)), if_neg (fun e => ab_lt h e (by decide)), if_neg (fun e => ab_lt h e (by decide)), if_neg (fun e => ab_lt h e (by decide)), if_neg (fun e => ab_lt h e (by decide)), if_neg (fun e => ab_lt h e (by decide)), if_neg (fun e => ab_lt h e (by decide))]
theorem un_hi {p : Int32} (h : 14 < p) : rc_un p = 0 := by
  rw [rc_un, if_neg (fun e => ab_gt h e (by decide)), if_neg (fun e => ab_gt h e (by decide)), if_neg (fun e => ab_gt h e (by decide)), if_neg (fun e => ab_gt h e (by decide)), if_neg (fun e => ab_gt h e (by decide)), if_neg (fun e => ab_gt h e (by decide)), if_neg (fun e => ab_gt h e (by decide))]
theorem x_unitOf {post : Int32 → Prop} {u : SX} {p : Int32} (H : post (rc_un p)) : wpX_unitOf post u p := by
  refine br_c (fun h => ?_) (fun _ => br_c (fun h => ?_) (fun _ => ?_))
  · rw [un_lo h] at H
    exact H
  · rw [un_hi h] at H
    exact H
  · exact eq_br (f := rc_un) (by decide) H fun _ => eq_br (f := rc_un) (by decide) H fun _ => eq_br (f := rc_un) (by decide) H fun _ => eq_br (f := rc_un) (by decide) H fun _ => eq_br (f := rc_un) (by decide) H fun _ => eq_br (f := rc_un) (by decide) H fun _ => eq_br (f := rc_un) (by decide) H fun _ => eq_br (f := rc_un) (by decide) H fun _ => eq_br (f := rc_un) (by decide) H fun _ => eq_br (f := rc_un) (by decide) H fun _ => eq_br (f := rc_un) (by decide) H fun _ => eq_br (f := rc_un) (by decide) H fun _ => trivial
theorem y_classOf {post : Int32 → Prop} {u : SY} {p : Int32} (H : post (rc_un p)) : wpY_classOf post u p :=
  if_br (post := post) H id fun H => if_br (post := post) H id fun H => if_br (post := post) H id fun H => if_br (post := post) H id fun H => if_br (post := post) H id fun H => if_br (post := post) H id fun H => if_br (post := post) H id id
theorem cp_lo {p x y c : Int32} (h : p < 1) : rc_cp p x y c = 0 := by
  rw [rc_cp, if_neg (fun e => ab_lt h e (by decide)), if_neg (fun e => ab_lt h e (by decide)), if_neg (fun e => ab_lt h e (by decide)), if_neg (fun e => ab_lt h e (by decide)), if_neg (fun e => ab_lt h e (by decide)), if_neg (fun e => ab_lt h e (by decide)), if_neg (fun e => ab_lt h e (by decide)), if_neg (fun e => ab_lt h e (by decide)), if_neg (fun e => ab_lt h e (by decide))]
theorem cp_hi {p x y c : Int32} (h : 9 < p) : rc_cp p x y c = 0 := by
  rw [rc_cp, if_neg (fun e => ab_gt h e (by decide)), if_neg (fun e => ab_gt h e (by decide)), if_neg (fun e => ab_gt h e (by decide)), if_neg (fun e => ab_gt h e (by decide)), if_neg (fun e => ab_gt h e (by decide)), if_neg (fun e => ab_gt h e (by decide)), if_neg (fun e => ab_gt h e (by decide)), if_neg (fun e => ab_gt h e (by decide)), if_neg (fun e => ab_gt h e (by decide))]
theorem x_compute {post : Int32 → Prop} {u : SX} {p x y c : Int32} (H : post (rc_cp p x y c)) : wpX_compute post u p x y c := by
  refine br_c (fun h => ?_) (fun _ => br_c (fun h => ?_) (fun _ => ?_))
  · rw [cp_lo h] at H
    exact H
  · rw [cp_hi h] at H
    exact H
  · exact if_br (post := post) H id fun H => if_br (post := post) H id fun H => if_br (post := post) H id fun H => if_br (post := post) H (fun H => br_c (fun h => by rw [if_pos h] at H; exact H) (fun h => ⟨h, by rw [if_neg h] at H; exact H⟩)) fun H => if_br (post := post) H id fun H => if_br (post := post) H id fun H => if_br (post := post) H (fun H => if_br (post := post) H id id) fun H => if_br (post := post) H id fun H => if_br (post := post) H id fun _ => trivial
theorem y_result {post : Int32 → Prop} {u : SY} {p x y c : Int32} (H : post (rc_cp p x y c)) : wpY_result post u p x y c :=
  if_br (post := post) H (fun H => nm_e H) fun H => if_br (post := post) H (fun H => nm_e H) fun H => if_br (post := post) H (fun H => nm_e H) fun H => if_br (post := post) H (fun H => br_c (fun h => by rw [if_pos h] at H; exact H) (fun h => ⟨h, nm_e (by rw [if_neg h] at H; exact H)⟩)) fun H => if_br (post := post) H (fun H => nm_e H) fun H => if_br (post := post) H (fun H => nm_e H) fun H => if_br (post := post) H (fun H => if_br (post := post) H id id) fun H => if_br (post := post) H (fun H => nm_e H) fun H => if_br (post := post) H id id
theorem pg_in {len : Nat} {p : Int32} (hl : len ≤ 64) (h0 : ¬ p < 0) (h1 : ¬ nI len ≤ p) : vp_in p 64 := by
  obtain ⟨j, hj, rfl⟩ := pg_at hl h0 h1
  exact vp_in_nI (by omega) (by omega)
theorem pg_63 {len : Nat} {p : Int32} (hl : len ≤ 64) (h0 : ¬ p < 0) (h1 : ¬ nI len ≤ p) : p ≤ 63 := by
  obtain ⟨j, hj, rfl⟩ := pg_at hl h0 h1
  exact nI_le (b := 63) (by omega) (by omega)
theorem if_brc {c : Prop} [Decidable c] {post : Int32 → Prop} {a b : Int32} {A B : Prop} (H : post (if c then a else b)) (f : c → post a → A) (g : ¬ c → post b → B) : (c → A) ∧ (¬ c → B) :=
  ⟨fun h => f h (by rwa [if_pos h] at H), fun h => g h (by rwa [if_neg h] at H)⟩
theorem if_bra {c : Prop} [Decidable c] {post : Int32 → Prop} {a b : Int32} {A B : Prop} {d : Prop} (e : d ↔ ¬ c) (H : post (if c then a else b)) (f : ¬ c → post b → A) (g : c → post a → B) : (d → A) ∧ (¬ d → B) :=
  ⟨fun h => f (e.mp h) (by rwa [if_neg (e.mp h)] at H), fun h => by
    have hc : c := Decidable.byContradiction fun q => h (e.mpr q)
    exact g hc (by rwa [if_pos hc] at H)⟩
theorem rc_ltnle {x y : Int32} : x < y ↔ ¬ y ≤ x := Int32.not_le.symm
theorem x_opAt {post : Int32 → Prop} {p : Int32} (hl : len ≤ 64) (H : post (rc_op len a_progOp p)) : wpX_opAt post ((nI rs), f_stations, f_queueSize, (nI w), f_phase, f_pc, f_epc, f_cause, f_handling, f_vector, (nI len), f_fetchPc, f_parked, (nI qh), (nI qc), (nI h), (nI c), f_waitingCount, f_memCount, a_regs, a_memory, a_progOp, a_progA, a_progB, a_progC, a_latency, a_counters, a_fqPc, a_fqNext, a_twoBit, a_jumpDelta, a_robPc, a_robPredicted, a_robState, a_robRemaining, a_robValue, a_robFault, a_robNext, a_robSrc1, a_robVal1, a_robSrc2, a_robVal2, a_robOp, a_robC, a_robDest, a_mapSlot, a_unitBusy) p :=
  if_brc (post := post) H (fun _ H => H) fun h0 H => if_bra (post := post) rc_ltnle H (fun h1 H => ⟨pg_in hl h0 h1, H⟩) fun _ H => H
theorem y_opAt {post : Int32 → Prop} {p : Int32} (hl : len ≤ 64) (H : post (rc_op len a_progOp p)) : wpY_opAt post (f_pc, f_epc, f_cause, f_handling, f_vector, f_phase, (nI len), f_fetchPc, f_parked, (nI qc), (nI c), a_regs, a_memory, a_progOp, a_progA, a_progB, a_progC, a_counters, a_settings, a_queuePc, a_queueNext, a_twoBit, a_jumpDelta, a_ePc, a_ePredicted, a_eState, a_eRemaining, a_eValue, a_eFault, a_eNext, a_eWait1, a_eVal1, a_eWait2, a_eVal2) p :=
  if_brc (post := post) H (fun _ H => H) fun h0 H => if_brc (post := post) H (fun _ H => H) fun h1 H => br_t (pg_63 hl h0 h1) ⟨pg_in hl h0 h1, H⟩
theorem y_aAt {post : Int32 → Prop} {p : Int32} (hl : len ≤ 64) (H : post (rc_fa len a_progA p)) : wpY_aAt post (f_pc, f_epc, f_cause, f_handling, f_vector, f_phase, (nI len), f_fetchPc, f_parked, (nI qc), (nI c), a_regs, a_memory, a_progOp, a_progA, a_progB, a_progC, a_counters, a_settings, a_queuePc, a_queueNext, a_twoBit, a_jumpDelta, a_ePc, a_ePredicted, a_eState, a_eRemaining, a_eValue, a_eFault, a_eNext, a_eWait1, a_eVal1, a_eWait2, a_eVal2) p :=
  if_brc (post := post) H (fun _ H => H) fun h0 H => if_brc (post := post) H (fun _ H => H) fun h1 H => br_t (pg_63 hl h0 h1) ⟨pg_in hl h0 h1, H⟩
theorem y_bAt {post : Int32 → Prop} {p : Int32} (hl : len ≤ 64) (H : post (rc_fa len a_progB p)) : wpY_bAt post (f_pc, f_epc, f_cause, f_handling, f_vector, f_phase, (nI len), f_fetchPc, f_parked, (nI qc), (nI c), a_regs, a_memory, a_progOp, a_progA, a_progB, a_progC, a_counters, a_settings, a_queuePc, a_queueNext, a_twoBit, a_jumpDelta, a_ePc, a_ePredicted, a_eState, a_eRemaining, a_eValue, a_eFault, a_eNext, a_eWait1, a_eVal1, a_eWait2, a_eVal2) p :=
  if_brc (post := post) H (fun _ H => H) fun h0 H => if_brc (post := post) H (fun _ H => H) fun h1 H => br_t (pg_63 hl h0 h1) ⟨pg_in hl h0 h1, H⟩
theorem y_cAt {post : Int32 → Prop} {p : Int32} (hl : len ≤ 64) (H : post (rc_fa len a_progC p)) : wpY_cAt post (f_pc, f_epc, f_cause, f_handling, f_vector, f_phase, (nI len), f_fetchPc, f_parked, (nI qc), (nI c), a_regs, a_memory, a_progOp, a_progA, a_progB, a_progC, a_counters, a_settings, a_queuePc, a_queueNext, a_twoBit, a_jumpDelta, a_ePc, a_ePredicted, a_eState, a_eRemaining, a_eValue, a_eFault, a_eNext, a_eWait1, a_eVal1, a_eWait2, a_eVal2) p :=
  if_brc (post := post) H (fun _ H => H) fun h0 H => if_brc (post := post) H (fun _ H => H) fun h1 H => br_t (pg_63 hl h0 h1) ⟨pg_in hl h0 h1, H⟩
theorem x_destination {post : Int32 → Prop} {p a d : Int32} (H : post (rc_ds p a d)) : wpX_destination post ((nI rs), f_stations, f_queueSize, (nI w), f_phase, f_pc, f_epc, f_cause, f_handling, f_vector, (nI len), f_fetchPc, f_parked, (nI qh), (nI qc), (nI h), (nI c), f_waitingCount, f_memCount, a_regs, a_memory, a_progOp, a_progA, a_progB, a_progC, a_latency, a_counters, a_fqPc, a_fqNext, a_twoBit, a_jumpDelta, a_robPc, a_robPredicted, a_robState, a_robRemaining, a_robValue, a_robFault, a_robNext, a_robSrc1, a_robVal1, a_robSrc2, a_robVal2, a_robOp, a_robC, a_robDest, a_mapSlot, a_unitBusy) p a d :=
  if_brc (post := post) H
    (fun h H => br_f (fun e => ab_lt h e (by decide)) (br_f (fun e => ab_lt h e (by decide)) H))
    fun h1 H => if_brc (post := post) H (fun _ H => H)
      fun h10 H => if_br (post := post) H id fun H => if_br (post := post) H (fun H => if_br (post := post) H id fun H => if_br (post := post) H id id) id
theorem y_destinationAt {post : Int32 → Prop} {p : Int32} (hl : len ≤ 64) (H : post (rc_dt len a_progOp a_progA a_progC p)) : wpY_destinationAt post (f_pc, f_epc, f_cause, f_handling, f_vector, f_phase, (nI len), f_fetchPc, f_parked, (nI qc), (nI c), a_regs, a_memory, a_progOp, a_progA, a_progB, a_progC, a_counters, a_settings, a_queuePc, a_queueNext, a_twoBit, a_jumpDelta, a_ePc, a_ePredicted, a_eState, a_eRemaining, a_eValue, a_eFault, a_eNext, a_eWait1, a_eVal1, a_eWait2, a_eVal2) p := by
  unfold wpY_destinationAt
  refine y_opAt hl ?_
  refine y_aAt hl ?_
  refine y_cAt hl ?_
  refine if_brc (post := post) H
    (fun h H => br_f (fun e => ab_lt h e (by decide)) (br_f (fun e => ab_lt h e (by decide)) H))
    fun h1 H => if_bra (post := post) rc_ltnle H (fun h10 H => ?_) (fun _ H => H)
  exact if_br (post := post) H id fun H => if_br (post := post) H (fun H => if_br (post := post) H id fun H => if_br (post := post) H id id) id
theorem x_firstRegister {post : Int32 → Prop} {p a b : Int32} (H : post (rc_r1 p a b)) : wpX_firstRegister post ((nI rs), f_stations, f_queueSize, (nI w), f_phase, f_pc, f_epc, f_cause, f_handling, f_vector, (nI len), f_fetchPc, f_parked, (nI qh), (nI qc), (nI h), (nI c), f_waitingCount, f_memCount, a_regs, a_memory, a_progOp, a_progA, a_progB, a_progC, a_latency, a_counters, a_fqPc, a_fqNext, a_twoBit, a_jumpDelta, a_robPc, a_robPredicted, a_robState, a_robRemaining, a_robValue, a_robFault, a_robNext, a_robSrc1, a_robVal1, a_robSrc2, a_robVal2, a_robOp, a_robC, a_robDest, a_mapSlot, a_unitBusy) p a b :=
  if_br (post := post) H id fun H => if_br (post := post) H id fun H => if_brc (post := post) H
    (fun h H => br_f (fun e => ab_lt h e (by decide)) (br_f (fun e => ab_lt h e (by decide)) (br_f (fun e => ab_lt h e (by decide)) H)))
    fun h1 H => if_br (post := post) H id fun H => if_br (post := post) H id fun H => if_br (post := post) H id fun H => if_br (post := post) H id id
theorem x_secondRegister {post : Int32 → Prop} {p a b d : Int32} (H : post (rc_r2 p a b d)) : wpX_secondRegister post ((nI rs), f_stations, f_queueSize, (nI w), f_phase, f_pc, f_epc, f_cause, f_handling, f_vector, (nI len), f_fetchPc, f_parked, (nI qh), (nI qc), (nI h), (nI c), f_waitingCount, f_memCount, a_regs, a_memory, a_progOp, a_progA, a_progB, a_progC, a_latency, a_counters, a_fqPc, a_fqNext, a_twoBit, a_jumpDelta, a_robPc, a_robPredicted, a_robState, a_robRemaining, a_robValue, a_robFault, a_robNext, a_robSrc1, a_robVal1, a_robSrc2, a_robVal2, a_robOp, a_robC, a_robDest, a_mapSlot, a_unitBusy) p a b d :=
  if_brc (post := post) H
    (fun h H => br_f (fun e => ab_lt h e (by decide)) (br_f (fun e => ab_lt h e (by decide)) (br_f (fun e => ab_lt h e (by decide)) H)))
    fun h1 H => if_bra (post := post) rc_ltnle H (fun h10 H => if_br (post := post) H id fun H => if_br (post := post) H id fun H => if_br (post := post) H id id) (fun _ H => H)
theorem y_secondRegisterAt {post : Int32 → Prop} {p : Int32} (hl : len ≤ 64) (H : post (rc_r2 (rc_op len a_progOp p) (rc_fa len a_progA p) (rc_fa len a_progB p) (rc_fa len a_progC p))) : wpY_secondRegisterAt post (f_pc, f_epc, f_cause, f_handling, f_vector, f_phase, (nI len), f_fetchPc, f_parked, (nI qc), (nI c), a_regs, a_memory, a_progOp, a_progA, a_progB, a_progC, a_counters, a_settings, a_queuePc, a_queueNext, a_twoBit, a_jumpDelta, a_ePc, a_ePredicted, a_eState, a_eRemaining, a_eValue, a_eFault, a_eNext, a_eWait1, a_eVal1, a_eWait2, a_eVal2) p := by
  unfold wpY_secondRegisterAt
  refine y_opAt hl ?_
  refine y_aAt hl ?_
  refine y_bAt hl ?_
  refine y_cAt hl ?_
  exact if_brc (post := post) H
    (fun h H => br_f (fun e => ab_lt h e (by decide)) (br_f (fun e => ab_lt h e (by decide)) (br_f (fun e => ab_lt h e (by decide)) H)))
    fun h1 H => if_bra (post := post) rc_ltnle H (fun h10 H => if_br (post := post) H id fun H => if_br (post := post) H id fun H => if_br (post := post) H id id) (fun _ H => H)
theorem rc_78 {x : Int32} (h : 7 < x) (h8 : x ≤ 8) : x = 8 := by
  rw [Int32.lt_iff_toInt_lt, show (7 : Int32).toInt = 7 from by decide] at h
  rw [Int32.le_iff_toInt_le, show (8 : Int32).toInt = 8 from by decide] at h8
  apply Int32.toInt_inj.mp
  rw [show (8 : Int32).toInt = 8 from by decide]
  omega
theorem rc_n7 {x : Int32} (h : ¬ 7 < x) : x ≤ 8 := by
  rw [Int32.lt_iff_toInt_lt, show (7 : Int32).toInt = 7 from by decide] at h
  rw [Int32.le_iff_toInt_le, show (8 : Int32).toInt = 8 from by decide]
  omega
theorem y_firstRegisterAt {post : Int32 → Prop} {p : Int32} (hl : len ≤ 64) (H : post (rc_r1 (rc_op len a_progOp p) (rc_fa len a_progA p) (rc_fa len a_progB p))) : wpY_firstRegisterAt post (f_pc, f_epc, f_cause, f_handling, f_vector, f_phase, (nI len), f_fetchPc, f_parked, (nI qc), (nI c), a_regs, a_memory, a_progOp, a_progA, a_progB, a_progC, a_counters, a_settings, a_queuePc, a_queueNext, a_twoBit, a_jumpDelta, a_ePc, a_ePredicted, a_eState, a_eRemaining, a_eValue, a_eFault, a_eNext, a_eWait1, a_eVal1, a_eWait2, a_eVal2) p := by
  unfold wpY_firstRegisterAt
  refine y_opAt hl ?_
  refine y_aAt hl ?_
  refine y_bAt hl ?_
  generalize rc_op len a_progOp p = op at H
  generalize rc_fa len a_progA p = a at H
  generalize rc_fa len a_progB p = b at H
  refine br_c (fun h => ?_) (fun h => br_c (fun h7 => ?_) (fun h7 => ?_))
  · rw [rc_r1, if_neg (fun e => ab_lt h e (by decide)), if_neg (fun e => ab_lt h e (by decide)), if_pos h] at H
    exact br_f (fun e => ab_lt h e (by decide)) (br_f (fun e => ab_lt h e (by decide)) (br_f (fun e => ab_lt h e (by decide)) (br_f (fun e => ab_lt h e (by decide)) (br_f (fun e => ab_lt h e (by decide)) (br_f (fun e => ab_lt h e (by decide)) H)))))
  · refine br_c (fun e => ?_) (fun e8 => br_c (fun e => ?_) (fun e10 => br_c (fun e => ?_) (fun e14 => br_c (fun e => ?_) (fun e11 => br_c (fun e => ?_) (fun e12 => br_c (fun e => ?_) (fun e13 => ?_))))))
    · subst e
      exact H
    · subst e
      exact H
    · subst e
      exact H
    · subst e
      exact H
    · subst e
      exact H
    · subst e
      exact H
    · rw [rc_r1, if_neg e12, if_neg e13, if_neg h, if_neg (fun q => e8 (rc_78 h7 q)), if_neg e10, if_neg e11, if_neg e14] at H
      exact H
  · rw [rc_r1, if_neg (fun e => h7 (by rw [e]; decide)), if_neg (fun e => h7 (by rw [e]; decide)), if_neg h, if_pos (rc_n7 h7)] at H
    exact H
theorem in_le {x M : Int32} {n : Nat} (hM : M.toInt = n) (hn : n + 1 < 2 ^ 31) (h0 : ¬ x < 0) (h : x ≤ M) : vp_in x (n + 1) := by
  obtain ⟨j, hj, rfl⟩ := nI_of2 hM h0 h
  exact vp_in_nI (by omega) hn
def rc_rg (f : Nat → Int32) (r : Int32) : Int32 := if r < 0 then 0 else if r ≤ 7 then f r.toNatClampNeg else 0
def rc_mm (f : Nat → Int32) (r : Int32) : Int32 := if r < 0 then 0 else if r ≤ 63 then f r.toNatClampNeg else 0
theorem y_reg {post : Int32 → Prop} {p : Int32} (H : post (rc_rg a_regs p)) : wpY_reg post (f_pc, f_epc, f_cause, f_handling, f_vector, f_phase, (nI len), f_fetchPc, f_parked, (nI qc), (nI c), a_regs, a_memory, a_progOp, a_progA, a_progB, a_progC, a_counters, a_settings, a_queuePc, a_queueNext, a_twoBit, a_jumpDelta, a_ePc, a_ePredicted, a_eState, a_eRemaining, a_eValue, a_eFault, a_eNext, a_eWait1, a_eVal1, a_eWait2, a_eVal2) p :=
  if_brc (post := post) H (fun _ H => H) fun h0 H => if_brc (post := post) H (fun h7 H => ⟨in_le (M := 7) (n := 7) (by decide) (by decide) h0 h7, H⟩) fun _ H => H
theorem y_mem {post : Int32 → Prop} {p : Int32} (H : post (rc_mm a_memory p)) : wpY_mem post (f_pc, f_epc, f_cause, f_handling, f_vector, f_phase, (nI len), f_fetchPc, f_parked, (nI qc), (nI c), a_regs, a_memory, a_progOp, a_progA, a_progB, a_progC, a_counters, a_settings, a_queuePc, a_queueNext, a_twoBit, a_jumpDelta, a_ePc, a_ePredicted, a_eState, a_eRemaining, a_eValue, a_eFault, a_eNext, a_eWait1, a_eVal1, a_eWait2, a_eVal2) p :=
  if_brc (post := post) H (fun _ H => H) fun h0 H => if_brc (post := post) H (fun h7 H => ⟨in_le (M := 63) (n := 63) (by decide) (by decide) h0 h7, H⟩) fun _ H => H
theorem rg_n {f : Nat → Int32} {j : Nat} (h : j ≤ 7) : rc_rg f (nI j) = f j := by
  rw [rc_rg, if_neg (nI_pos (by omega)), if_pos (show nI j ≤ 7 from nI_le (b := 7) h (by omega)), nI_clamp (by omega)]
theorem mm_n {f : Nat → Int32} {j : Nat} (h : j ≤ 63) : rc_mm f (nI j) = f j := by
  rw [rc_mm, if_neg (nI_pos (by omega)), if_pos (show nI j ≤ 63 from nI_le (b := 63) h (by omega)), nI_clamp (by omega)]
end
end
section
/-! the relation F0 and how it goes from state to state -/
def rc_Sz (w rs : Nat) (st qs : Int32) (lat set : Nat → Int32) : Prop := 1 ≤ w ∧ w ≤ 3 ∧ rs ≤ 16 ∧ set 7 = nI rs ∧ set 8 = st ∧ set 9 = qs ∧ set 10 = nI w ∧ ∀ i, i < 7 → set i = lat i
def rc_Fq (qh qc : Nat) (fp fn qp qn : Nat → Int32) : Prop := qh < 4 ∧ qc ≤ 4 ∧ rc_RA 4 qh qc fp qp ∧ rc_RA 4 qh qc fn qn
def rc_wt (es : Nat → Int32) (i : Nat) (w : Int32) : Prop := w = -1 ∨ ∃ k, k < i ∧ w = nI k ∧ es k ≠ 3
def rc_Iv (c len : Nat) (po ep es w1 w2 : Nat → Int32) : Prop := ∀ i, i < c → rc_wt es i (w1 i) ∧ rc_wt es i (w2 i) ∧ (es i = 1 → 1 ≤ rc_op len po (ep i) ∧ rc_op len po (ep i) ≤ 14)
def rc_Mp (h c len : Nat) (po pa pc ep ms : Nat → Int32) : Prop := ∀ r, r < 8 → ms r = rc_sl h (rc_yw (fun i => rc_dt len po pa pc (ep i)) (nI r) c)
def rc_pw (es : Nat → Int32) : Nat → Bool := fun i => decide (es i = 1)
def rc_pm (len : Nat) (po ep : Nat → Int32) : Nat → Bool := fun i => decide (rc_op len po (ep i) = 10 ∨ rc_op len po (ep i) = 11)
def rc_pu (len : Nat) (po ep es : Nat → Int32) (k : Int32) : Nat → Bool := fun i => decide (es i = 2 ∧ rc_un (rc_op len po (ep i)) = k)
theorem pw_t {es : Nat → Int32} {i : Nat} (q : es i = 1) : rc_pw es i = true := decide_eq_true q
theorem pw_f {es : Nat → Int32} {i : Nat} (q : ¬ es i = 1) : rc_pw es i = false := decide_eq_false q
theorem pm_t {ln : Nat} {po ep : Nat → Int32} {i : Nat} (q : rc_op ln po (ep i) = 10 ∨ rc_op ln po (ep i) = 11) : rc_pm ln po ep i = true := decide_eq_true q
theorem pm_f {ln : Nat} {po ep : Nat → Int32} {i : Nat} (q : ¬ (rc_op ln po (ep i) = 10 ∨ rc_op ln po (ep i) = 11)) : rc_pm ln po ep i = false := decide_eq_false q
theorem pu_t {ln : Nat} {po ep es : Nat → Int32} {k : Int32} {i : Nat} (q : es i = 2) (q2 : rc_un (rc_op ln po (ep i)) = k) : rc_pu ln po ep es k i = true := decide_eq_true ⟨q, q2⟩
theorem pu_f {ln : Nat} {po ep es : Nat → Int32} {k : Int32} {i : Nat} (q : ¬ es i = 2) : rc_pu ln po ep es k i = false := decide_eq_false (fun z => q z.1)
theorem pu_g {ln : Nat} {po ep es : Nat → Int32} {k : Int32} {i : Nat} (q : ¬ rc_un (rc_op ln po (ep i)) = k) : rc_pu ln po ep es k i = false := decide_eq_false (fun z => q z.2)
theorem bl_f {b : Bool} (q : b = false) : ¬ b = true := by rw [q]; decide
def rc_Ub (c len : Nat) (po ep es ub : Nat → Int32) : Prop := ∀ k, k < 5 → ub k = rc_cn (rc_pu len po ep es (nI k)) c
def rc_Rb (h c len : Nat) (po pa pc rPc rPd rSt rRm rVl rFt rNx rS1 rV1 rS2 rV2 rOp rC rD ePc ePd eSt eRm eVl eFt eNx eW1 eV1 eW2 eV2 : Nat → Int32) : Prop :=
  h < 16 ∧ c ≤ 16 ∧ rc_RA 16 h c rPc ePc ∧ rc_RA 16 h c rPd ePd ∧ rc_RA 16 h c rSt eSt ∧ rc_RA 16 h c rRm eRm ∧ rc_RA 16 h c rVl eVl ∧ rc_RA 16 h c rFt eFt ∧ rc_RA 16 h c rNx eNx ∧ rc_RA 16 h c rS1 (fun i => rc_sl h (eW1 i)) ∧ rc_RA 16 h c rV1 eV1 ∧ rc_RA 16 h c rS2 (fun i => rc_sl h (eW2 i)) ∧ rc_RA 16 h c rV2 eV2 ∧ rc_RA 16 h c rOp (fun i => rc_op len po (ePc i)) ∧ rc_RA 16 h c rC (fun i => rc_fa len pc (ePc i)) ∧ rc_RA 16 h c rD (fun i => rc_dt len po pa pc (ePc i))
section
variable {w rs len qh qc h c : Nat} {f_stations f_queueSize f_phase f_pc f_epc f_cause f_handling f_vector f_fetchPc f_parked f_waitingCount f_memCount : Int32} {a_regs a_memory a_progOp a_progA a_progB a_progC a_latency a_counters a_fqPc a_fqNext a_twoBit a_jumpDelta a_robPc a_robPredicted a_robState a_robRemaining a_robValue a_robFault a_robNext a_robSrc1 a_robVal1 a_robSrc2 a_robVal2 a_robOp a_robC a_robDest a_mapSlot a_unitBusy a_settings a_queuePc a_queueNext a_ePc a_ePredicted a_eState a_eRemaining a_eValue a_eFault a_eNext a_eWait1 a_eVal1 a_eWait2 a_eVal2 : Nat → Int32}
def rc_F0 (w rs len qh qc h c : Nat) (f_stations f_queueSize f_waitingCount f_memCount : Int32) (a_latency a_settings a_progOp a_progA a_progB a_progC a_fqPc a_fqNext a_queuePc a_queueNext a_robPc a_robPredicted a_robState a_robRemaining a_robValue a_robFault a_robNext a_robSrc1 a_robVal1 a_robSrc2 a_robVal2 a_robOp a_robC a_robDest a_ePc a_ePredicted a_eState a_eRemaining a_eValue a_eFault a_eNext a_eWait1 a_eVal1 a_eWait2 a_eVal2 a_mapSlot a_unitBusy : Nat → Int32) : Prop :=
  rc_Sz w rs f_stations f_queueSize a_latency a_settings ∧
  rc_Pg len a_progOp a_progA a_progB a_progC ∧
  rc_Fq qh qc a_fqPc a_fqNext a_queuePc a_queueNext ∧
  rc_Rb h c len a_progOp a_progA a_progC a_robPc a_robPredicted a_robState a_robRemaining a_robValue a_robFault a_robNext a_robSrc1 a_robVal1 a_robSrc2 a_robVal2 a_robOp a_robC a_robDest a_ePc a_ePredicted a_eState a_eRemaining a_eValue a_eFault a_eNext a_eWait1 a_eVal1 a_eWait2 a_eVal2 ∧
  rc_Iv c len a_progOp a_ePc a_eState a_eWait1 a_eWait2 ∧
  f_waitingCount = rc_cn (rc_pw a_eState) c ∧
  f_memCount = rc_cn (rc_pm len a_progOp a_ePc) c ∧
  rc_Mp h c len a_progOp a_progA a_progC a_ePc a_mapSlot ∧
  rc_Ub c len a_progOp a_ePc a_eState a_unitBusy
theorem wt_16 {es : Nat → Int32} {i : Nat} {v : Int32} (hi : i ≤ 16) (W : rc_wt es i v) : rc_w16 v := by
  rcases W with h | ⟨k, hk, e, _⟩
  · exact Or.inl h
  · exact Or.inr ⟨k, by omega, e⟩
/-- cut to the oldest k -/
theorem f0_trunc {k : Nat} {wc mc : Int32} {ms ub : Nat → Int32} (H : rc_F0 w rs len qh qc h c f_stations f_queueSize f_waitingCount f_memCount a_latency a_settings a_progOp a_progA a_progB a_progC a_fqPc a_fqNext a_queuePc a_queueNext a_robPc a_robPredicted a_robState a_robRemaining a_robValue a_robFault a_robNext a_robSrc1 a_robVal1 a_robSrc2 a_robVal2 a_robOp a_robC a_robDest a_ePc a_ePredicted a_eState a_eRemaining a_eValue a_eFault a_eNext a_eWait1 a_eVal1 a_eWait2 a_eVal2 a_mapSlot a_unitBusy) (hk : k ≤ c) (hw : wc = rc_cn (rc_pw a_eState) k) (hm : mc = rc_cn (rc_pm len a_progOp a_ePc) k) (hms : rc_Mp h k len a_progOp a_progA a_progC a_ePc ms) (hub : rc_Ub k len a_progOp a_ePc a_eState ub) : rc_F0 w rs len qh qc h k f_stations f_queueSize wc mc a_latency a_settings a_progOp a_progA a_progB a_progC a_fqPc a_fqNext a_queuePc a_queueNext a_robPc a_robPredicted a_robState a_robRemaining a_robValue a_robFault a_robNext a_robSrc1 a_robVal1 a_robSrc2 a_robVal2 a_robOp a_robC a_robDest a_ePc a_ePredicted a_eState a_eRemaining a_eValue a_eFault a_eNext a_eWait1 a_eVal1 a_eWait2 a_eVal2 ms ub := by
  obtain ⟨hS, hP, hQ, ⟨hh, hc, r1, r2, r3, r4, r5, r6, r7, r8, r9, r10, r11, r12, r13, r14⟩, hI, _, _, _, _⟩ := H
  unfold rc_F0 rc_Rb
  exact ⟨hS, hP, hQ, ⟨hh, by omega, ra_t hk r1, ra_t hk r2, ra_t hk r3, ra_t hk r4, ra_t hk r5, ra_t hk r6, ra_t hk r7, ra_t hk r8, ra_t hk r9, ra_t hk r10, ra_t hk r11, ra_t hk r12, ra_t hk r13, ra_t hk r14⟩, fun i hi => hI i (by omega), hw, hm, hms, hub⟩
theorem f0_redir (H : rc_F0 w rs len qh qc h c f_stations f_queueSize f_waitingCount f_memCount a_latency a_settings a_progOp a_progA a_progB a_progC a_fqPc a_fqNext a_queuePc a_queueNext a_robPc a_robPredicted a_robState a_robRemaining a_robValue a_robFault a_robNext a_robSrc1 a_robVal1 a_robSrc2 a_robVal2 a_robOp a_robC a_robDest a_ePc a_ePredicted a_eState a_eRemaining a_eValue a_eFault a_eNext a_eWait1 a_eVal1 a_eWait2 a_eVal2 a_mapSlot a_unitBusy) : rc_F0 w rs len 0 0 h c f_stations f_queueSize f_waitingCount f_memCount a_latency a_settings a_progOp a_progA a_progB a_progC a_fqPc a_fqNext a_queuePc a_queueNext a_robPc a_robPredicted a_robState a_robRemaining a_robValue a_robFault a_robNext a_robSrc1 a_robVal1 a_robSrc2 a_robVal2 a_robOp a_robC a_robDest a_ePc a_ePredicted a_eState a_eRemaining a_eValue a_eFault a_eNext a_eWait1 a_eVal1 a_eWait2 a_eVal2 a_mapSlot a_unitBusy := by
  obtain ⟨hS, hP, hQ, hR⟩ := H
  unfold rc_F0 rc_Fq
  exact ⟨hS, hP, ⟨by omega, by omega, ra_0, ra_0⟩, hR⟩
theorem f0_fq {qh' qc' : Nat} {fp fn qp qn : Nat → Int32} (H : rc_F0 w rs len qh qc h c f_stations f_queueSize f_waitingCount f_memCount a_latency a_settings a_progOp a_progA a_progB a_progC a_fqPc a_fqNext a_queuePc a_queueNext a_robPc a_robPredicted a_robState a_robRemaining a_robValue a_robFault a_robNext a_robSrc1 a_robVal1 a_robSrc2 a_robVal2 a_robOp a_robC a_robDest a_ePc a_ePredicted a_eState a_eRemaining a_eValue a_eFault a_eNext a_eWait1 a_eVal1 a_eWait2 a_eVal2 a_mapSlot a_unitBusy) (Q : rc_Fq qh' qc' fp fn qp qn) : rc_F0 w rs len qh' qc' h c f_stations f_queueSize f_waitingCount f_memCount a_latency a_settings a_progOp a_progA a_progB a_progC fp fn qp qn a_robPc a_robPredicted a_robState a_robRemaining a_robValue a_robFault a_robNext a_robSrc1 a_robVal1 a_robSrc2 a_robVal2 a_robOp a_robC a_robDest a_ePc a_ePredicted a_eState a_eRemaining a_eValue a_eFault a_eNext a_eWait1 a_eVal1 a_eWait2 a_eVal2 a_mapSlot a_unitBusy := by
  obtain ⟨hS, hP, hQ, hR⟩ := H
  unfold rc_F0
  exact ⟨hS, hP, Q, hR⟩
theorem yw_pop {d : Nat → Int32} {r h0 c0 : Nat} {v v' : Int32} (hh : h0 < 16) (hc : c0 < 16) (hv : v = rc_sl h0 (rc_yw d (nI r) (c0 + 1))) (hv' : v' = if d 0 = nI r ∧ v = nI h0 then -1 else v) : v' = rc_sl ((h0 + 1) % 16) (rc_yw (fun i => d (i + 1)) (nI r) c0) := by
  rw [yw_o c0 (by omega)] at hv
  rcases yw_w (d := fun i => d (i + 1)) (r := nI r) c0 with e | ⟨k, hk, e, _⟩
  · rw [e, if_pos rfl] at hv
    rw [e, sl_m]
    by_cases e0 : d 0 = nI r
    · rw [if_pos e0, sl_n hh (by omega), show (h0 + 0) % 16 = h0 from by omega] at hv
      rw [hv', if_pos ⟨e0, hv⟩]
    · rw [if_neg e0, sl_m] at hv
      rw [hv', if_neg (fun q => e0 q.1), hv]
  · rw [e, if_neg (rc_nm1 (by omega)), nI_1, sl_n hh (by omega)] at hv
    have hne : ¬ v = nI h0 := by
      rw [hv, nI_eq (by omega) (by omega)]
      omega
    rw [hv', if_neg (fun q => hne q.2), hv, e, sl_n (by omega) (by omega)]
    exact congrArg nI (by omega)
theorem wt_pop {es es' : Nat → Int32} {i c0 : Nat} {v : Int32} (hc : c0 ≤ 16) (hi : i < c0) (h0 : es 0 = 3) (he : ∀ j, j < c0 → es' j = es (j + 1)) (W : rc_wt es (i + 1) v) : rc_wt es' i (rc_dc v) := by
  rcases W with rfl | ⟨k, hk, rfl, hn⟩
  · exact Or.inl dc_m
  · rcases k with _ | k
    · exact absurd h0 hn
    · refine Or.inr ⟨k, by omega, dc_s (by omega), ?_⟩
      rw [he k (by omega)]
      exact hn
/-- the oldest goes: places shift down -/
theorem f0_pop {ePc ePd eSt eRm eVl eFt eNx eW1 eV1 eW2 eV2 ms : Nat → Int32} {mc : Int32} (H : rc_F0 w rs len qh qc h (c+1) f_stations f_queueSize f_waitingCount f_memCount a_latency a_settings a_progOp a_progA a_progB a_progC a_fqPc a_fqNext a_queuePc a_queueNext a_robPc a_robPredicted a_robState a_robRemaining a_robValue a_robFault a_robNext a_robSrc1 a_robVal1 a_robSrc2 a_robVal2 a_robOp a_robC a_robDest a_ePc a_ePredicted a_eState a_eRemaining a_eValue a_eFault a_eNext a_eWait1 a_eVal1 a_eWait2 a_eVal2 a_mapSlot a_unitBusy) (h0 : a_eState 0 = 3)
    (e1 : ∀ i, i < c → ePc i = a_ePc (i + 1)) (e2 : ∀ i, i < c → ePd i = a_ePredicted (i + 1)) (e3 : ∀ i, i < c → eSt i = a_eState (i + 1)) (e4 : ∀ i, i < c → eRm i = a_eRemaining (i + 1)) (e5 : ∀ i, i < c → eVl i = a_eValue (i + 1)) (e6 : ∀ i, i < c → eFt i = a_eFault (i + 1)) (e7 : ∀ i, i < c → eNx i = a_eNext (i + 1)) (e8 : ∀ i, i < c → eW1 i = rc_dc (a_eWait1 (i + 1))) (e9 : ∀ i, i < c → eV1 i = a_eVal1 (i + 1)) (e10 : ∀ i, i < c → eW2 i = rc_dc (a_eWait2 (i + 1))) (e11 : ∀ i, i < c → eV2 i = a_eVal2 (i + 1))
    (hmc : mc = if rc_op len a_progOp (a_ePc 0) = 10 ∨ rc_op len a_progOp (a_ePc 0) = 11 then f_memCount - 1 else f_memCount)
    (hms : ∀ r, r < 8 → ms r = if rc_dt len a_progOp a_progA a_progC (a_ePc 0) = nI r ∧ a_mapSlot r = nI h then -1 else a_mapSlot r) :
    rc_F0 w rs len qh qc ((h + 1) % 16) c f_stations f_queueSize f_waitingCount mc a_latency a_settings a_progOp a_progA a_progB a_progC a_fqPc a_fqNext a_queuePc a_queueNext a_robPc a_robPredicted a_robState a_robRemaining a_robValue a_robFault a_robNext a_robSrc1 a_robVal1 a_robSrc2 a_robVal2 a_robOp a_robC a_robDest ePc ePd eSt eRm eVl eFt eNx eW1 eV1 eW2 eV2 ms a_unitBusy := by
  obtain ⟨hS, hP, hQ, ⟨hh, hc, r1, r2, r3, r4, r5, r6, r7, r8, r9, r10, r11, r12, r13, r14⟩, hI, hw, hm, hM, hU⟩ := H
  have hpop : ∀ i, i < c → ∀ v, rc_wt a_eState (i + 1) v → (v = -1 ∨ ∃ k, k + 1 < 16 ∧ v = nI (k + 1)) := by
    intro i hi v W
    rcases W with e | ⟨k, hk, e, hn⟩
    · exact Or.inl e
    · rcases k with _ | k
      · exact absurd h0 hn
      · exact Or.inr ⟨k, by omega, e⟩
  unfold rc_F0 rc_Rb
  refine ⟨hS, hP, hQ, ⟨by omega, by omega, ra_c (fun i hi => (e1 i hi).symm) (ra_o rc_16 r1), ra_c (fun i hi => (e2 i hi).symm) (ra_o rc_16 r2), ra_c (fun i hi => (e3 i hi).symm) (ra_o rc_16 r3), ra_c (fun i hi => (e4 i hi).symm) (ra_o rc_16 r4), ra_c (fun i hi => (e5 i hi).symm) (ra_o rc_16 r5), ra_c (fun i hi => (e6 i hi).symm) (ra_o rc_16 r6), ra_c (fun i hi => (e7 i hi).symm) (ra_o rc_16 r7), ra_c (fun i hi => ?_) (ra_o rc_16 r8), ra_c (fun i hi => (e9 i hi).symm) (ra_o rc_16 r9), ra_c (fun i hi => ?_) (ra_o rc_16 r10), ra_c (fun i hi => (e11 i hi).symm) (ra_o rc_16 r11), ra_c (fun i hi => ?_) (ra_o rc_16 r12), ra_c (fun i hi => ?_) (ra_o rc_16 r13), ra_c (fun i hi => ?_) (ra_o rc_16 r14)⟩, ?_, ?_, ?_, ?_, ?_⟩
  · show rc_sl h (a_eWait1 (i + 1)) = rc_sl ((h + 1) % 16) (eW1 i)
    rw [e8 i hi, sl_pop hh (hpop i hi _ (hI (i + 1) (by omega)).1)]
  · show rc_sl h (a_eWait2 (i + 1)) = rc_sl ((h + 1) % 16) (eW2 i)
    rw [e10 i hi, sl_pop hh (hpop i hi _ (hI (i + 1) (by omega)).2.1)]
  · show rc_op len a_progOp (a_ePc (i + 1)) = rc_op len a_progOp (ePc i)
    rw [e1 i hi]
  · show rc_fa len a_progC (a_ePc (i + 1)) = rc_fa len a_progC (ePc i)
    rw [e1 i hi]
  · show rc_dt len a_progOp a_progA a_progC (a_ePc (i + 1)) = rc_dt len a_progOp a_progA a_progC (ePc i)
    rw [e1 i hi]
  · intro i hi
    obtain ⟨i1, i2, i3⟩ := hI (i + 1) (by omega)
    rw [e8 i hi, e10 i hi, e3 i hi, e1 i hi]
    exact ⟨wt_pop (by omega) hi h0 e3 i1, wt_pop (by omega) hi h0 e3 i2, i3⟩
  · rw [hw, cn_o, if_neg (bl_f (pw_f (by rw [h0]; decide)))]
    exact cn_c _ (fun i hi => by rw [rc_pw, rc_pw, e3 i hi])
  · rw [hmc, hm, cn_o]
    have e : rc_cn (rc_pm len a_progOp ePc) c = rc_cn (fun i => rc_pm len a_progOp a_ePc (i + 1)) c := cn_c _ (fun i hi => by rw [rc_pm, rc_pm, e1 i hi])
    rw [e]
    by_cases q : rc_op len a_progOp (a_ePc 0) = 10 ∨ rc_op len a_progOp (a_ePc 0) = 11
    · rw [if_pos q, if_pos (pm_t q), Int32.add_sub_cancel]
    · rw [if_neg q, if_neg (bl_f (pm_f q))]
  · intro r hr
    have y := yw_pop (d := fun i => rc_dt len a_progOp a_progA a_progC (a_ePc i)) hh (by omega) (hM r hr) (hms r hr)
    rw [y]
    exact congrArg _ (yw_c _ (fun i hi => by show rc_dt len a_progOp a_progA a_progC (a_ePc (i + 1)) = rc_dt len a_progOp a_progA a_progC (ePc i); rw [e1 i hi]))
  · intro k hk
    rw [hU k hk, cn_o, if_neg (bl_f (pu_f (by rw [h0]; decide)))]
    exact cn_c _ (fun i hi => by rw [rc_pu, rc_pu, e3 i hi, e1 i hi])
end
end
section
/-! F0: a result on the bus, an issue, a dispatch -/
section
variable {w rs len qh qc h c : Nat} {f_stations f_queueSize f_phase f_pc f_epc f_cause f_handling f_vector f_fetchPc f_parked f_waitingCount f_memCount : Int32} {a_regs a_memory a_progOp a_progA a_progB a_progC a_latency a_counters a_fqPc a_fqNext a_twoBit a_jumpDelta a_robPc a_robPredicted a_robState a_robRemaining a_robValue a_robFault a_robNext a_robSrc1 a_robVal1 a_robSrc2 a_robVal2 a_robOp a_robC a_robDest a_mapSlot a_unitBusy a_settings a_queuePc a_queueNext a_ePc a_ePredicted a_eState a_eRemaining a_eValue a_eFault a_eNext a_eWait1 a_eVal1 a_eWait2 a_eVal2 : Nat → Int32}
theorem pu_of {ln : Nat} {po ep es : Nat → Int32} {k : Int32} {i : Nat} (hn : ¬ (es i = 2 ∧ rc_un (rc_op ln po (ep i)) = k)) : rc_pu ln po ep es k i = false := decide_eq_false hn
theorem f0_done {j u0 : Nat} {S1 V1 S2 V2 W1 v1 W2 v2 : Nat → Int32} (H : rc_F0 w rs len qh qc h c f_stations f_queueSize f_waitingCount f_memCount a_latency a_settings a_progOp a_progA a_progB a_progC a_fqPc a_fqNext a_queuePc a_queueNext a_robPc a_robPredicted a_robState a_robRemaining a_robValue a_robFault a_robNext a_robSrc1 a_robVal1 a_robSrc2 a_robVal2 a_robOp a_robC a_robDest a_ePc a_ePredicted a_eState a_eRemaining a_eValue a_eFault a_eNext a_eWait1 a_eVal1 a_eWait2 a_eVal2 a_mapSlot a_unitBusy) (hj : j < c) (hs : a_eState j = 2) (hu0 : u0 < 5) (hu : rc_un (rc_op len a_progOp (a_ePc j)) = nI u0)
    (r8 : rc_RA 16 h c S1 (fun i => rc_sl h (W1 i))) (r9 : rc_RA 16 h c V1 v1) (r10 : rc_RA 16 h c S2 (fun i => rc_sl h (W2 i))) (r11 : rc_RA 16 h c V2 v2)
    (w1 : ∀ i, i < c → W1 i = if a_eWait1 i = nI j then -1 else a_eWait1 i) (w2 : ∀ i, i < c → W2 i = if a_eWait2 i = nI j then -1 else a_eWait2 i) :
    rc_F0 w rs len qh qc h c f_stations f_queueSize f_waitingCount f_memCount a_latency a_settings a_progOp a_progA a_progB a_progC a_fqPc a_fqNext a_queuePc a_queueNext a_robPc a_robPredicted (upd a_robState ((h + j) % 16) 3) a_robRemaining a_robValue a_robFault a_robNext S1 V1 S2 V2 a_robOp a_robC a_robDest a_ePc a_ePredicted (upd a_eState j 3) a_eRemaining a_eValue a_eFault a_eNext W1 v1 W2 v2 a_mapSlot (upd a_unitBusy u0 (a_unitBusy u0 - 1)) := by
  obtain ⟨hS, hP, hQ, ⟨hh, hc, r1, r2, r3, r4, r5, r6, r7, _, _, _, _, r12, r13, r14⟩, hI, hw, hm, hM, hU⟩ := H
  have wk : ∀ i, i < c → ∀ v v', rc_wt a_eState i v → (v' = if v = nI j then -1 else v) → rc_wt (upd a_eState j 3) i v' := by
    intro i hi v v' W e
    by_cases q : v = nI j
    · rw [if_pos q] at e
      exact Or.inl e
    · rw [if_neg q] at e
      rcases W with q1 | ⟨k, hk, q1, hn⟩
      · exact Or.inl (e.trans q1)
      · refine Or.inr ⟨k, hk, e.trans q1, ?_⟩
        rw [pk_un (fun q2 => q (by rw [q1, q2]))]
        exact hn
  unfold rc_F0 rc_Rb
  refine ⟨hS, hP, hQ, ⟨hh, hc, r1, r2, ra_u rc_16 hc hj r3, r4, r5, r6, r7, r8, r9, r10, r11, r12, r13, r14⟩, ?_, ?_, hm, hM, ?_⟩
  · intro i hi
    obtain ⟨i1, i2, i3⟩ := hI i hi
    refine ⟨wk i hi _ _ i1 (w1 i hi), wk i hi _ _ i2 (w2 i hi), ?_⟩
    by_cases q : i = j
    · rw [q, pk_us]
      intro q1
      exact absurd q1 (by decide)
    · rw [pk_un q]
      exact i3
  · rw [hw]
    refine cn_c _ (fun i hi => ?_)
    show decide _ = decide _
    by_cases q : i = j
    · rw [q, pk_us, hs]
      decide
    · rw [pk_un q]
  · intro k hk
    by_cases q : k = u0
    · subst q
      rw [pk_us, hU k hk]
      refine (cn_dn (p := rc_pu len a_progOp a_ePc a_eState (nI k)) (q := rc_pu len a_progOp a_ePc (upd a_eState j 3) (nI k)) (j := j) (decide_eq_true ⟨hs, hu⟩) (pu_of (fun q => ?_)) c hj (fun i hi q => ?_)).symm
      · rw [pk_us] at q
        exact absurd q.1 (by decide)
      · show decide _ = decide _
        rw [pk_un q]
    · rw [pk_un q, hU k hk]
      refine cn_c _ (fun i hi => ?_)
      by_cases q1 : i = j
      · rw [q1, pu_of, pu_of]
        · rw [pk_us]
          intro q2
          exact absurd q2.1 (by decide)
        · intro q2
          rw [hu, nI_eq (by omega) (by omega)] at q2
          exact q q2.2.symm
      · show decide _ = decide _
        rw [pk_un q1]
theorem f0_issue {j u0 : Nat} {Rm Vl Ft Nx rm vl ft nx : Nat → Int32} (H : rc_F0 w rs len qh qc h c f_stations f_queueSize f_waitingCount f_memCount a_latency a_settings a_progOp a_progA a_progB a_progC a_fqPc a_fqNext a_queuePc a_queueNext a_robPc a_robPredicted a_robState a_robRemaining a_robValue a_robFault a_robNext a_robSrc1 a_robVal1 a_robSrc2 a_robVal2 a_robOp a_robC a_robDest a_ePc a_ePredicted a_eState a_eRemaining a_eValue a_eFault a_eNext a_eWait1 a_eVal1 a_eWait2 a_eVal2 a_mapSlot a_unitBusy) (hj : j < c) (hs : a_eState j = 1) (hu0 : u0 < 5) (hu : rc_un (rc_op len a_progOp (a_ePc j)) = nI u0)
    (r4 : rc_RA 16 h c Rm rm) (r5 : rc_RA 16 h c Vl vl) (r6 : rc_RA 16 h c Ft ft) (r7 : rc_RA 16 h c Nx nx) :
    rc_F0 w rs len qh qc h c f_stations f_queueSize (f_waitingCount - 1) f_memCount a_latency a_settings a_progOp a_progA a_progB a_progC a_fqPc a_fqNext a_queuePc a_queueNext a_robPc a_robPredicted (upd a_robState ((h + j) % 16) 2) Rm Vl Ft Nx a_robSrc1 a_robVal1 a_robSrc2 a_robVal2 a_robOp a_robC a_robDest a_ePc a_ePredicted (upd a_eState j 2) rm vl ft nx a_eWait1 a_eVal1 a_eWait2 a_eVal2 a_mapSlot (upd a_unitBusy u0 (a_unitBusy u0 + 1)) := by
  obtain ⟨hS, hP, hQ, ⟨hh, hc, r1, r2, r3, _, _, _, _, r8, r9, r10, r11, r12, r13, r14⟩, hI, hw, hm, hM, hU⟩ := H
  have wk : ∀ i, i < c → ∀ v, rc_wt a_eState i v → rc_wt (upd a_eState j 2) i v := by
    intro i hi v W
    rcases W with q1 | ⟨k, hk, q1, hn⟩
    · exact Or.inl q1
    · refine Or.inr ⟨k, hk, q1, ?_⟩
      by_cases q : k = j
      · rw [q, pk_us]
        decide
      · rw [pk_un q]
        exact hn
  unfold rc_F0 rc_Rb
  refine ⟨hS, hP, hQ, ⟨hh, hc, r1, r2, ra_u rc_16 hc hj r3, r4, r5, r6, r7, r8, r9, r10, r11, r12, r13, r14⟩, ?_, ?_, hm, hM, ?_⟩
  · intro i hi
    obtain ⟨i1, i2, i3⟩ := hI i hi
    refine ⟨wk i hi _ i1, wk i hi _ i2, ?_⟩
    by_cases q : i = j
    · rw [q, pk_us]
      intro q1
      exact absurd q1 (by decide)
    · rw [pk_un q]
      exact i3
  · rw [hw]
    refine (cn_dn (p := rc_pw a_eState) (q := rc_pw (upd a_eState j 2)) (j := j) (decide_eq_true hs) (decide_eq_false (fun q => ?_)) c hj (fun i hi q => ?_)).symm
    · rw [pk_us] at q
      exact absurd q (by decide)
    · show decide _ = decide _
      rw [pk_un q]
  · intro k hk
    by_cases q : k = u0
    · subst q
      rw [pk_us, hU k hk]
      refine (cn_up (p := rc_pu len a_progOp a_ePc a_eState (nI k)) (q := rc_pu len a_progOp a_ePc (upd a_eState j 2) (nI k)) (j := j) (pu_of (fun q => ?_)) (decide_eq_true ⟨pk_us, hu⟩) c hj (fun i hi q => ?_)).symm
      · rw [hs] at q
        exact absurd q.1 (by decide)
      · show decide _ = decide _
        rw [pk_un q]
    · rw [pk_un q, hU k hk]
      refine cn_c _ (fun i hi => ?_)
      by_cases q1 : i = j
      · rw [q1, pu_of, pu_of]
        · intro q2
          rw [hu, nI_eq (by omega) (by omega)] at q2
          exact q q2.2.symm
        · rw [hs]
          intro q2
          exact absurd q2.1 (by decide)
      · show decide _ = decide _
        rw [pk_un q1]
theorem f0_push {p pd s vl ft nx W1 v1 W2 v2 wc mc : Int32} {ms : Nat → Int32} (H : rc_F0 w rs len qh qc h c f_stations f_queueSize f_waitingCount f_memCount a_latency a_settings a_progOp a_progA a_progB a_progC a_fqPc a_fqNext a_queuePc a_queueNext a_robPc a_robPredicted a_robState a_robRemaining a_robValue a_robFault a_robNext a_robSrc1 a_robVal1 a_robSrc2 a_robVal2 a_robOp a_robC a_robDest a_ePc a_ePredicted a_eState a_eRemaining a_eValue a_eFault a_eNext a_eWait1 a_eVal1 a_eWait2 a_eVal2 a_mapSlot a_unitBusy) (hc16 : c < 16) (hs : s = 1 ∧ 1 ≤ rc_op len a_progOp p ∧ rc_op len a_progOp p ≤ 14 ∧ wc = f_waitingCount + 1 ∨ s = 3 ∧ wc = f_waitingCount)
    (hW1 : rc_wt a_eState c W1) (hW2 : rc_wt a_eState c W2) (hmc : mc = if rc_op len a_progOp p = 10 ∨ rc_op len a_progOp p = 11 then f_memCount + 1 else f_memCount)
    (hms : ∀ r, r < 8 → ms r = if rc_dt len a_progOp a_progA a_progC p = nI r then nI ((h + c) % 16) else a_mapSlot r) :
    rc_F0 w rs len qh qc h (c + 1) f_stations f_queueSize wc mc a_latency a_settings a_progOp a_progA a_progB a_progC a_fqPc a_fqNext a_queuePc a_queueNext (upd a_robPc ((h + c) % 16) p) (upd a_robPredicted ((h + c) % 16) pd) (upd a_robState ((h + c) % 16) s) (upd a_robRemaining ((h + c) % 16) 0) (upd a_robValue ((h + c) % 16) vl) (upd a_robFault ((h + c) % 16) ft) (upd a_robNext ((h + c) % 16) nx) (upd a_robSrc1 ((h + c) % 16) (rc_sl h W1)) (upd a_robVal1 ((h + c) % 16) v1) (upd a_robSrc2 ((h + c) % 16) (rc_sl h W2)) (upd a_robVal2 ((h + c) % 16) v2) (upd a_robOp ((h + c) % 16) (rc_op len a_progOp p)) (upd a_robC ((h + c) % 16) (rc_fa len a_progC p)) (upd a_robDest ((h + c) % 16) (rc_dt len a_progOp a_progA a_progC p)) (upd a_ePc c p) (upd a_ePredicted c pd) (upd a_eState c s) (upd a_eRemaining c 0) (upd a_eValue c vl) (upd a_eFault c ft) (upd a_eNext c nx) (upd a_eWait1 c W1) (upd a_eVal1 c v1) (upd a_eWait2 c W2) (upd a_eVal2 c v2) ms a_unitBusy := by
  obtain ⟨hS, hP, hQ, ⟨hh, hc, r1, r2, r3, r4, r5, r6, r7, r8, r9, r10, r11, r12, r13, r14⟩, hI, hw, hm, hM, hU⟩ := H
  have wk : ∀ i, i ≤ c → ∀ v, rc_wt a_eState i v → rc_wt (upd a_eState c s) i v := by
    intro i hi v W
    rcases W with q1 | ⟨k, hk, q1, hn⟩
    · exact Or.inl q1
    · refine Or.inr ⟨k, hk, q1, ?_⟩
      rw [pk_un (by omega)]
      exact hn
  unfold rc_F0 rc_Rb
  refine ⟨hS, hP, hQ, ⟨hh, by omega, ra_p rc_16 hc16 r1, ra_p rc_16 hc16 r2, ra_p rc_16 hc16 r3, ra_p rc_16 hc16 r4, ra_p rc_16 hc16 r5, ra_p rc_16 hc16 r6, ra_p rc_16 hc16 r7, ra_pf (f := rc_sl h) rc_16 hc16 r8, ra_p rc_16 hc16 r9, ra_pf (f := rc_sl h) rc_16 hc16 r10, ra_p rc_16 hc16 r11, ra_pf (f := rc_op len a_progOp) rc_16 hc16 r12, ra_pf (f := rc_fa len a_progC) rc_16 hc16 r13, ra_pf (f := rc_dt len a_progOp a_progA a_progC) rc_16 hc16 r14⟩, ?_, ?_, ?_, ?_, ?_⟩
  · intro i hi
    by_cases q : i = c
    · subst q
      rw [pk_us, pk_us, pk_us, pk_us]
      refine ⟨wk i (by omega) _ hW1, wk i (by omega) _ hW2, fun q => ?_⟩
      rcases hs with hs | hs
      · exact ⟨hs.2.1, hs.2.2.1⟩
      · rw [hs.1] at q
        exact absurd q (by decide)
    · obtain ⟨i1, i2, i3⟩ := hI i (by omega)
      rw [pk_un q, pk_un q, pk_un q, pk_un q]
      exact ⟨wk i (by omega) _ i1, wk i (by omega) _ i2, i3⟩
  · rw [rc_cn]
    have e : rc_cn (rc_pw (upd a_eState c s)) c = rc_cn (rc_pw a_eState) c := cn_c _ (fun i hi => by show decide _ = decide _; rw [pk_un (by omega)])
    rw [e]
    rcases hs with hs | hs
    · rw [if_pos (pw_t (by rw [pk_us]; exact hs.1)), hs.2.2.2, hw]
    · rw [if_neg (bl_f (pw_f (by rw [pk_us, hs.1]; decide))), hs.2, hw]
  · rw [rc_cn]
    have e : rc_cn (rc_pm len a_progOp (upd a_ePc c p)) c = rc_cn (rc_pm len a_progOp a_ePc) c := cn_c _ (fun i hi => by show decide _ = decide _; rw [pk_un (by omega)])
    rw [e, hmc, hm]
    by_cases q : rc_op len a_progOp p = 10 ∨ rc_op len a_progOp p = 11
    · rw [if_pos q, if_pos (pm_t (by rw [pk_us]; exact q))]
    · rw [if_neg q, if_neg (bl_f (pm_f (by rw [pk_us]; exact q)))]
  · intro r hr
    rw [hms r hr, rc_yw, pk_us]
    have e : rc_yw (fun i => rc_dt len a_progOp a_progA a_progC (upd a_ePc c p i)) (nI r) c = rc_yw (fun i => rc_dt len a_progOp a_progA a_progC (a_ePc i)) (nI r) c := yw_c _ (fun i hi => by show rc_dt _ _ _ _ (upd a_ePc c p i) = rc_dt _ _ _ _ (a_ePc i); rw [pk_un (by omega)])
    rw [e]
    by_cases q : rc_dt len a_progOp a_progA a_progC p = nI r
    · rw [if_pos q, if_pos q, sl_n hh hc16]
    · rw [if_neg q, if_neg q]
      exact hM r hr
  · intro k hk
    rw [rc_cn, hU k hk, if_neg]
    · exact cn_c _ (fun i hi => by show decide _ = decide _; rw [pk_un (by omega), pk_un (by omega)])
    · refine bl_f (pu_f ?_)
      rw [pk_us]
      rcases hs with hs | hs
      · rw [hs.1]
        decide
      · rw [hs.1]
        decide
end
end
section
/-! X: release, rebuildMap, truncate, flush; both: trap, return from a trap -/
section
variable {w rs len qh qc h c : Nat} {f_stations f_queueSize f_phase f_pc f_epc f_cause f_handling f_vector f_fetchPc f_parked f_waitingCount f_memCount : Int32} {a_regs a_memory a_progOp a_progA a_progB a_progC a_latency a_counters a_fqPc a_fqNext a_twoBit a_jumpDelta a_robPc a_robPredicted a_robState a_robRemaining a_robValue a_robFault a_robNext a_robSrc1 a_robVal1 a_robSrc2 a_robVal2 a_robOp a_robC a_robDest a_mapSlot a_unitBusy a_settings a_queuePc a_queueNext a_ePc a_ePredicted a_eState a_eRemaining a_eValue a_eFault a_eNext a_eWait1 a_eVal1 a_eWait2 a_eVal2 : Nat → Int32}
def rl_w (wc s : Int32) : Int32 := if s = 1 then wc - 1 else wc
def rl_m (mc op : Int32) : Int32 := if op = 10 ∨ op = 11 then mc - 1 else mc
def rl_u (ub : Nat → Int32) (s op : Int32) : Nat → Int32 := if s = 2 then upd ub (rc_un op).toNatClampNeg (ub (rc_un op).toNatClampNeg - 1) else ub
theorem im_1 {op : Int32} (q : op = 10 ∨ op = 11) : rc_im op = 1 := by rcases q with q | q <;> rw [q] <;> decide
theorem im_0 {op : Int32} (q : ¬ (op = 10 ∨ op = 11)) : rc_im op = 0 := by rw [rc_im, if_neg (fun e => q (Or.inl e)), if_neg (fun e => q (Or.inr e))]
theorem x_release56 {post : SX → Prop} {op : Int32} (H : post ((nI rs), f_stations, f_queueSize, (nI w), f_phase, f_pc, f_epc, f_cause, f_handling, f_vector, (nI len), f_fetchPc, f_parked, (nI qh), (nI qc), (nI h), (nI c), f_waitingCount, (rl_m f_memCount op), a_regs, a_memory, a_progOp, a_progA, a_progB, a_progC, a_latency, a_counters, a_fqPc, a_fqNext, a_twoBit, a_jumpDelta, a_robPc, a_robPredicted, a_robState, a_robRemaining, a_robValue, a_robFault, a_robNext, a_robSrc1, a_robVal1, a_robSrc2, a_robVal2, a_robOp, a_robC, a_robDest, a_mapSlot, a_unitBusy)) : wX_release_56 post op (nI rs) f_stations f_queueSize (nI w) f_phase f_pc f_epc f_cause f_handling f_vector (nI len) f_fetchPc f_parked (nI qh) (nI qc) (nI h) (nI c) f_waitingCount f_memCount a_regs a_memory a_progOp a_progA a_progB a_progC a_latency a_counters a_fqPc a_fqNext a_twoBit a_jumpDelta a_robPc a_robPredicted a_robState a_robRemaining a_robValue a_robFault a_robNext a_robSrc1 a_robVal1 a_robSrc2 a_robVal2 a_robOp a_robC a_robDest a_mapSlot a_unitBusy := by
  refine x_isMemory ?_
  by_cases q : op = 10 ∨ op = 11
  · rw [rl_m, if_pos q] at H
    rw [im_1 q]
    exact br_f (by decide) (nm_e H)
  · rw [rl_m, if_neg q] at H
    rw [im_0 q]
    exact br_t rfl H
theorem un_in {op : Int32} : vp_in (rc_un op) 5 := by
  obtain ⟨k, hk, e⟩ := un_5 op
  rw [e]
  exact vp_in_nI hk (by omega)
theorem x_release {post : SX → Prop} {s : Nat} (hs : s < 16) (H : post ((nI rs), f_stations, f_queueSize, (nI w), f_phase, f_pc, f_epc, f_cause, f_handling, f_vector, (nI len), f_fetchPc, f_parked, (nI qh), (nI qc), (nI h), (nI c), (rl_w f_waitingCount (a_robState s)), (rl_m f_memCount (a_robOp s)), a_regs, a_memory, a_progOp, a_progA, a_progB, a_progC, a_latency, a_counters, a_fqPc, a_fqNext, a_twoBit, a_jumpDelta, a_robPc, a_robPredicted, a_robState, a_robRemaining, a_robValue, a_robFault, a_robNext, a_robSrc1, a_robVal1, a_robSrc2, a_robVal2, a_robOp, a_robC, a_robDest, a_mapSlot, (rl_u a_unitBusy (a_robState s) (a_robOp s)))) : wpX_release post ((nI rs), f_stations, f_queueSize, (nI w), f_phase, f_pc, f_epc, f_cause, f_handling, f_vector, (nI len), f_fetchPc, f_parked, (nI qh), (nI qc), (nI h), (nI c), f_waitingCount, f_memCount, a_regs, a_memory, a_progOp, a_progA, a_progB, a_progC, a_latency, a_counters, a_fqPc, a_fqNext, a_twoBit, a_jumpDelta, a_robPc, a_robPredicted, a_robState, a_robRemaining, a_robValue, a_robFault, a_robNext, a_robSrc1, a_robVal1, a_robSrc2, a_robVal2, a_robOp, a_robC, a_robDest, a_mapSlot, a_unitBusy) (nI s) := by
  have hi : vp_in (nI s) 16 := vp_in_nI hs (by omega)
  have hcl : (nI s).toNatClampNeg = s := nI_clamp (by omega)
  refine And.intro hi (nm_r (e' := a_robOp s) (congrArg a_robOp hcl) (And.intro hi ?_))
  rw [hcl]
  by_cases h1 : a_robState s = 1
  · have h2 : ¬ a_robState s = 2 := by rw [h1]; decide
    rw [rl_w, if_pos h1, rl_u, if_neg h2] at H
    exact br_t h1 (nm_e (x_release56 H))
  · refine br_f h1 (And.intro hi ?_)
    rw [rl_w, if_neg h1] at H
    by_cases h2 : a_robState s = 2
    · rw [rl_u, if_pos h2] at H
      exact br_t h2 (x_unitOf (And.intro un_in (And.intro un_in (nm_e (x_release56 H)))))
    · rw [rl_u, if_neg h2] at H
      exact br_f h2 (x_release56 H)
theorem x_rm23 (hh : h < 16) (hc : c ≤ 16) (P : rc_Pg len a_progOp a_progA a_progB a_progC) (r14 : rc_RA 16 h c a_robDest (fun i => rc_dt len a_progOp a_progA a_progC (a_ePc i))) : ∀ (d p : Nat) (ms : Nat → Int32), p + d = c → rc_Mp h p len a_progOp a_progA a_progC a_ePc ms → ∃ ms', rc_Mp h c len a_progOp a_progA a_progC a_ePc ms' ∧ ∀ (post : SX → Prop) (n : Nat), d < n → post ((nI rs), f_stations, f_queueSize, (nI w), f_phase, f_pc, f_epc, f_cause, f_handling, f_vector, (nI len), f_fetchPc, f_parked, (nI qh), (nI qc), (nI h), (nI c), f_waitingCount, f_memCount, a_regs, a_memory, a_progOp, a_progA, a_progB, a_progC, a_latency, a_counters, a_fqPc, a_fqNext, a_twoBit, a_jumpDelta, a_robPc, a_robPredicted, a_robState, a_robRemaining, a_robValue, a_robFault, a_robNext, a_robSrc1, a_robVal1, a_robSrc2, a_robVal2, a_robOp, a_robC, a_robDest, ms', a_unitBusy) → wX_rebuildMap_23 post (nI rs) f_stations f_queueSize (nI w) f_phase f_pc f_epc f_cause f_handling f_vector (nI len) f_fetchPc f_parked (nI qh) (nI qc) (nI h) (nI c) f_waitingCount f_memCount n (nI p) a_regs a_memory a_progOp a_progA a_progB a_progC a_latency a_counters a_fqPc a_fqNext a_twoBit a_jumpDelta a_robPc a_robPredicted a_robState a_robRemaining a_robValue a_robFault a_robNext a_robSrc1 a_robVal1 a_robSrc2 a_robVal2 a_robOp a_robC a_robDest ms a_unitBusy := by
  intro d
  induction d with
  | zero =>
    intro p ms hp hM
    have hp : p = c := by omega
    subst hp
    refine ⟨ms, hM, fun post n hn H => ?_⟩
    obtain ⟨n, rfl⟩ : ∃ m, n = m + 1 := ⟨n - 1, by omega⟩
    exact br_t (nI_le (Nat.le_refl _) (by omega)) H
  | succ d ih =>
    intro p ms hp hM
    have hr := r14 p (by omega)
    have hcl : (nI ((h + p) % 16)).toNatClampNeg = (h + p) % 16 := nI_clamp (by omega)
    rcases dt_8 P (a_ePc p) with e | ⟨j, hj, e⟩
    · obtain ⟨ms', hM', hw⟩ := ih (p + 1) ms (by omega) (fun r hr => by
        rw [rc_yw, if_neg (fun q => rc_nm1 (k := r) (by omega) (q.symm.trans e))]
        exact hM r hr)
      refine ⟨ms', hM', fun post n hn H => ?_⟩
      obtain ⟨n, rfl⟩ : ∃ m, n = m + 1 := ⟨n - 1, by omega⟩
      exact br_f (nI_ge (by omega) (by omega)) (nm_r (rc_slot hh (by omega)) (And.intro (vp_in_nI (by omega) (by omega)) (nm_r (e' := -1) (by rw [hcl, hr]; exact e) (br_t (by decide) (nm_r (nI_1 p) (hw post n (by omega) H))))))
    · obtain ⟨ms', hM', hw⟩ := ih (p + 1) (upd ms j (nI ((h + p) % 16))) (by omega) (fun r hr => by
        rw [rc_yw]
        by_cases q : r = j
        · subst q
          rw [pk_us, if_pos e, sl_n hh (by omega)]
        · rw [pk_un q, if_neg (fun q1 => q ((nI_eq (by omega) (by omega)).mp (q1.symm.trans e)))]
          exact hM r hr)
      refine ⟨ms', hM', fun post n hn H => ?_⟩
      obtain ⟨n, rfl⟩ : ∃ m, n = m + 1 := ⟨n - 1, by omega⟩
      refine br_f (nI_ge (by omega) (by omega)) (nm_r (rc_slot hh (by omega)) (And.intro (vp_in_nI (by omega) (by omega)) (nm_r (e' := nI j) (by rw [hcl, hr]; exact e) (br_f (nI_pos (by omega)) ?_))))
      rw [rc_and7 (by omega)]
      refine And.intro (vp_in_nI (by omega) (by omega)) ?_
      rw [nI_clamp (by omega)]
      exact nm_e (nm_r (nI_1 p) (hw post n (by omega) H))
theorem x_rm2 (hh : h < 16) (hc : c ≤ 16) (P : rc_Pg len a_progOp a_progA a_progB a_progC) (r14 : rc_RA 16 h c a_robDest (fun i => rc_dt len a_progOp a_progA a_progC (a_ePc i))) : ∀ (d p : Nat) (ms : Nat → Int32), p + d = 8 → (∀ r, r < p → ms r = -1) → ∃ ms', rc_Mp h c len a_progOp a_progA a_progC a_ePc ms' ∧ ∀ (post : SX → Prop) (n : Nat), d < n → post ((nI rs), f_stations, f_queueSize, (nI w), f_phase, f_pc, f_epc, f_cause, f_handling, f_vector, (nI len), f_fetchPc, f_parked, (nI qh), (nI qc), (nI h), (nI c), f_waitingCount, f_memCount, a_regs, a_memory, a_progOp, a_progA, a_progB, a_progC, a_latency, a_counters, a_fqPc, a_fqNext, a_twoBit, a_jumpDelta, a_robPc, a_robPredicted, a_robState, a_robRemaining, a_robValue, a_robFault, a_robNext, a_robSrc1, a_robVal1, a_robSrc2, a_robVal2, a_robOp, a_robC, a_robDest, ms', a_unitBusy) → wX_rebuildMap_2 post (nI rs) f_stations f_queueSize (nI w) f_phase f_pc f_epc f_cause f_handling f_vector (nI len) f_fetchPc f_parked (nI qh) (nI qc) (nI h) (nI c) f_waitingCount f_memCount n (nI p) a_regs a_memory a_progOp a_progA a_progB a_progC a_latency a_counters a_fqPc a_fqNext a_twoBit a_jumpDelta a_robPc a_robPredicted a_robState a_robRemaining a_robValue a_robFault a_robNext a_robSrc1 a_robVal1 a_robSrc2 a_robVal2 a_robOp a_robC a_robDest ms a_unitBusy := by
  intro d
  induction d with
  | zero =>
    intro p ms hp hM
    obtain ⟨ms', hM', hw⟩ := x_rm23 hh hc P r14 c 0 ms (by omega) (fun r hr => by rw [rc_yw, sl_m]; exact hM r (by omega))
    refine ⟨ms', hM', fun post n hn H => ?_⟩
    obtain ⟨n, rfl⟩ : ∃ m, n = m + 1 := ⟨n - 1, by omega⟩
    exact br_t (nI_le (a := 8) (by omega) (by omega)) ⟨c + 1, hw post (c + 1) (by omega) H⟩
  | succ d ih =>
    intro p ms hp hM
    obtain ⟨ms', hM', hw⟩ := ih (p + 1) (upd ms p (-1)) (by omega) (fun r hr => by
      by_cases q : r = p
      · rw [q, pk_us]
      · rw [pk_un q]
        exact hM r (by omega))
    refine ⟨ms', hM', fun post n hn H => ?_⟩
    obtain ⟨n, rfl⟩ : ∃ m, n = m + 1 := ⟨n - 1, by omega⟩
    refine br_f (nI_ge (b := 8) (by omega) (by omega)) (And.intro (vp_in_nI (by omega) (by omega)) ?_)
    rw [nI_clamp (by omega)]
    exact nm_e (nm_r (nI_1 p) (hw post n (by omega) H))
theorem x_rebuildMap (hh : h < 16) (hc : c ≤ 16) (P : rc_Pg len a_progOp a_progA a_progB a_progC) (r14 : rc_RA 16 h c a_robDest (fun i => rc_dt len a_progOp a_progA a_progC (a_ePc i))) : ∃ ms', rc_Mp h c len a_progOp a_progA a_progC a_ePc ms' ∧ ∀ (post : SX → Prop), post ((nI rs), f_stations, f_queueSize, (nI w), f_phase, f_pc, f_epc, f_cause, f_handling, f_vector, (nI len), f_fetchPc, f_parked, (nI qh), (nI qc), (nI h), (nI c), f_waitingCount, f_memCount, a_regs, a_memory, a_progOp, a_progA, a_progB, a_progC, a_latency, a_counters, a_fqPc, a_fqNext, a_twoBit, a_jumpDelta, a_robPc, a_robPredicted, a_robState, a_robRemaining, a_robValue, a_robFault, a_robNext, a_robSrc1, a_robVal1, a_robSrc2, a_robVal2, a_robOp, a_robC, a_robDest, ms', a_unitBusy) → wpX_rebuildMap post ((nI rs), f_stations, f_queueSize, (nI w), f_phase, f_pc, f_epc, f_cause, f_handling, f_vector, (nI len), f_fetchPc, f_parked, (nI qh), (nI qc), (nI h), (nI c), f_waitingCount, f_memCount, a_regs, a_memory, a_progOp, a_progA, a_progB, a_progC, a_latency, a_counters, a_fqPc, a_fqNext, a_twoBit, a_jumpDelta, a_robPc, a_robPredicted, a_robState, a_robRemaining, a_robValue, a_robFault, a_robNext, a_robSrc1, a_robVal1, a_robSrc2, a_robVal2, a_robOp, a_robC, a_robDest, a_mapSlot, a_unitBusy) := by
  obtain ⟨ms', hM', hw⟩ := x_rm2 (w := w) (rs := rs) (len := len) (qh := qh) (qc := qc) (h := h) (c := c) (f_stations := f_stations) (f_queueSize := f_queueSize) (f_phase := f_phase) (f_pc := f_pc) (f_epc := f_epc) (f_cause := f_cause) (f_handling := f_handling) (f_vector := f_vector) (f_fetchPc := f_fetchPc) (f_parked := f_parked) (f_waitingCount := f_waitingCount) (f_memCount := f_memCount) (a_regs := a_regs) (a_memory := a_memory) (a_progOp := a_progOp) (a_progA := a_progA) (a_progB := a_progB) (a_progC := a_progC) (a_latency := a_latency) (a_counters := a_counters) (a_fqPc := a_fqPc) (a_fqNext := a_fqNext) (a_twoBit := a_twoBit) (a_jumpDelta := a_jumpDelta) (a_robPc := a_robPc) (a_robPredicted := a_robPredicted) (a_robState := a_robState) (a_robRemaining := a_robRemaining) (a_robValue := a_robValue) (a_robFault := a_robFault) (a_robNext := a_robNext) (a_robSrc1 := a_robSrc1) (a_robVal1 := a_robVal1) (a_robSrc2 := a_robSrc2) (a_robVal2 := a_robVal2) (a_robOp := a_robOp) (a_robC := a_robC) (a_robDest := a_robDest) (a_unitBusy := a_unitBusy) hh hc P r14 8 0 a_mapSlot (by omega) (fun r hr => absurd hr (by omega))
  exact ⟨ms', hM', fun post H => ⟨9, hw post 9 (by omega) H⟩⟩
theorem rl_wn {es : Nat → Int32} {p : Nat} : rl_w (rc_cn (rc_pw es) (p + 1)) (es p) = rc_cn (rc_pw es) p := by
  rw [rl_w, rc_cn]
  by_cases q : es p = 1
  · rw [if_pos q, if_pos (pw_t q), Int32.add_sub_cancel]
  · rw [if_neg q, if_neg (bl_f (pw_f q))]
theorem rl_mn {ln : Nat} {po ep : Nat → Int32} {p : Nat} : rl_m (rc_cn (rc_pm ln po ep) (p + 1)) (rc_op ln po (ep p)) = rc_cn (rc_pm ln po ep) p := by
  rw [rl_m, rc_cn]
  by_cases q : rc_op ln po (ep p) = 10 ∨ rc_op ln po (ep p) = 11
  · rw [if_pos q, if_pos (pm_t q), Int32.add_sub_cancel]
  · rw [if_neg q, if_neg (bl_f (pm_f q))]
theorem rl_un {ln : Nat} {po ep es ub : Nat → Int32} {p : Nat} (U : rc_Ub (p + 1) ln po ep es ub) : rc_Ub p ln po ep es (rl_u ub (es p) (rc_op ln po (ep p))) := by
  intro k hk
  have u := U k hk
  rw [rc_cn] at u
  obtain ⟨j, hj, ej⟩ := un_5 (rc_op ln po (ep p))
  rw [rl_u, ej, nI_clamp (by omega)]
  by_cases q : es p = 2
  · rw [if_pos q]
    by_cases q1 : k = j
    · subst q1
      rw [pk_us, u, if_pos (pu_t q ej), Int32.add_sub_cancel]
    · rw [pk_un q1, u, if_neg (bl_f (pu_g (fun q2 => q1 ((nI_eq (by omega) (by omega)).mp (q2.symm.trans ej)))))]
  · rw [if_neg q, u, if_neg (bl_f (pu_f q))]
theorem x_tr7 {k : Nat} (hh : h < 16) (hc : c ≤ 16) (hk : k ≤ c) (P : rc_Pg len a_progOp a_progA a_progB a_progC) (r3 : rc_RA 16 h c a_robState a_eState) (r12 : rc_RA 16 h c a_robOp (fun i => rc_op len a_progOp (a_ePc i))) (r14 : rc_RA 16 h c a_robDest (fun i => rc_dt len a_progOp a_progA a_progC (a_ePc i))) : ∀ (d : Nat) (ub : Nat → Int32), k + d ≤ c → rc_Ub (k + d) len a_progOp a_ePc a_eState ub → ∃ ms' ub', rc_Mp h k len a_progOp a_progA a_progC a_ePc ms' ∧ rc_Ub k len a_progOp a_ePc a_eState ub' ∧ ∀ (post : SX → Prop) (n : Nat), d < n → post ((nI rs), f_stations, f_queueSize, (nI w), f_phase, f_pc, f_epc, f_cause, f_handling, f_vector, (nI len), f_fetchPc, f_parked, (nI qh), (nI qc), (nI h), (nI k), (rc_cn (rc_pw a_eState) k), (rc_cn (rc_pm len a_progOp a_ePc) k), a_regs, a_memory, a_progOp, a_progA, a_progB, a_progC, a_latency, (upd a_counters 4 (a_counters 4 + (nI c - nI k))), a_fqPc, a_fqNext, a_twoBit, a_jumpDelta, a_robPc, a_robPredicted, a_robState, a_robRemaining, a_robValue, a_robFault, a_robNext, a_robSrc1, a_robVal1, a_robSrc2, a_robVal2, a_robOp, a_robC, a_robDest, ms', ub') → wX_truncate_7 post (nI k) n (nI (k + d) - 1) (nI rs) f_stations f_queueSize (nI w) f_phase f_pc f_epc f_cause f_handling f_vector (nI len) f_fetchPc f_parked (nI qh) (nI qc) (nI h) (nI c) (rc_cn (rc_pw a_eState) (k + d)) (rc_cn (rc_pm len a_progOp a_ePc) (k + d)) a_regs a_memory a_progOp a_progA a_progB a_progC a_latency a_counters a_fqPc a_fqNext a_twoBit a_jumpDelta a_robPc a_robPredicted a_robState a_robRemaining a_robValue a_robFault a_robNext a_robSrc1 a_robVal1 a_robSrc2 a_robVal2 a_robOp a_robC a_robDest a_mapSlot ub := by
  intro d
  induction d with
  | zero =>
    intro ub hd hU
    obtain ⟨ms', hM', hw⟩ := x_rebuildMap (w := w) (rs := rs) (len := len) (qh := qh) (qc := qc) (h := h) (c := k) (f_stations := f_stations) (f_queueSize := f_queueSize) (f_phase := f_phase) (f_pc := f_pc) (f_epc := f_epc) (f_cause := f_cause) (f_handling := f_handling) (f_vector := f_vector) (f_fetchPc := f_fetchPc) (f_parked := f_parked) (f_waitingCount := rc_cn (rc_pw a_eState) k) (f_memCount := rc_cn (rc_pm len a_progOp a_ePc) k) (a_regs := a_regs) (a_memory := a_memory) (a_progOp := a_progOp) (a_progA := a_progA) (a_progB := a_progB) (a_progC := a_progC) (a_latency := a_latency) (a_counters := upd a_counters 4 (a_counters 4 + (nI c - nI k))) (a_fqPc := a_fqPc) (a_fqNext := a_fqNext) (a_twoBit := a_twoBit) (a_jumpDelta := a_jumpDelta) (a_robPc := a_robPc) (a_robPredicted := a_robPredicted) (a_robState := a_robState) (a_robRemaining := a_robRemaining) (a_robValue := a_robValue) (a_robFault := a_robFault) (a_robNext := a_robNext) (a_robSrc1 := a_robSrc1) (a_robVal1 := a_robVal1) (a_robSrc2 := a_robSrc2) (a_robVal2 := a_robVal2) (a_robOp := a_robOp) (a_robC := a_robC) (a_robDest := a_robDest) (a_mapSlot := a_mapSlot) (a_unitBusy := ub) hh (by omega) P (ra_t hk r14)
    refine ⟨ms', ub, hM', hU, fun post n hn H => ?_⟩
    obtain ⟨n, rfl⟩ : ∃ m, n = m + 1 := ⟨n - 1, by omega⟩
    have hlt : nI (k + 0) - 1 < nI k := by
      rcases k with _ | k
      · decide
      · rw [nI_pred]
        exact nI_lt (by omega) (by omega)
    exact br_t hlt (nm_e (hw _ H))
  | succ d ih =>
    intro ub hd hU
    have e3 : a_robState ((h + (k + d)) % 16) = a_eState (k + d) := r3 (k + d) (by omega)
    have e12 : a_robOp ((h + (k + d)) % 16) = rc_op len a_progOp (a_ePc (k + d)) := r12 (k + d) (by omega)
    obtain ⟨ms', ub', hM', hU', hw⟩ := ih (rl_u ub (a_eState (k + d)) (rc_op len a_progOp (a_ePc (k + d)))) (by omega) (rl_un hU)
    refine ⟨ms', ub', hM', hU', fun post n hn H => ?_⟩
    obtain ⟨n, rfl⟩ : ∃ m, n = m + 1 := ⟨n - 1, by omega⟩
    have ex : nI (k + (d + 1)) - 1 = nI (k + d) := nI_pred (k + d)
    rw [ex]
    refine br_f (nI_nlt (by omega) (by omega)) ?_
    rw [rc_slot hh (by omega)]
    refine x_release (by omega) ?_
    rw [e3, e12]
    have ew : rl_w (rc_cn (rc_pw a_eState) (k + (d + 1))) (a_eState (k + d)) = rc_cn (rc_pw a_eState) (k + d) := rl_wn
    have em : rl_m (rc_cn (rc_pm len a_progOp a_ePc) (k + (d + 1))) (rc_op len a_progOp (a_ePc (k + d))) = rc_cn (rc_pm len a_progOp a_ePc) (k + d) := rl_mn
    rw [ew, em]
    have ey : nI (k + d) + (-1) = nI (k + d) - 1 := by
      rw [Int32.sub_eq_add_neg]
    exact nm_r ey (hw post n (by omega) H)
theorem x_truncate {k : Nat} (H : rc_F0 w rs len qh qc h c f_stations f_queueSize f_waitingCount f_memCount a_latency a_settings a_progOp a_progA a_progB a_progC a_fqPc a_fqNext a_queuePc a_queueNext a_robPc a_robPredicted a_robState a_robRemaining a_robValue a_robFault a_robNext a_robSrc1 a_robVal1 a_robSrc2 a_robVal2 a_robOp a_robC a_robDest a_ePc a_ePredicted a_eState a_eRemaining a_eValue a_eFault a_eNext a_eWait1 a_eVal1 a_eWait2 a_eVal2 a_mapSlot a_unitBusy) (hk : k ≤ c) : ∃ wc mc ms ub, rc_F0 w rs len qh qc h k f_stations f_queueSize wc mc a_latency a_settings a_progOp a_progA a_progB a_progC a_fqPc a_fqNext a_queuePc a_queueNext a_robPc a_robPredicted a_robState a_robRemaining a_robValue a_robFault a_robNext a_robSrc1 a_robVal1 a_robSrc2 a_robVal2 a_robOp a_robC a_robDest a_ePc a_ePredicted a_eState a_eRemaining a_eValue a_eFault a_eNext a_eWait1 a_eVal1 a_eWait2 a_eVal2 ms ub ∧ ∀ post : SX → Prop, post ((nI rs), f_stations, f_queueSize, (nI w), f_phase, f_pc, f_epc, f_cause, f_handling, f_vector, (nI len), f_fetchPc, f_parked, (nI qh), (nI qc), (nI h), (nI k), wc, mc, a_regs, a_memory, a_progOp, a_progA, a_progB, a_progC, a_latency, (upd a_counters 4 (a_counters 4 + (nI c - nI k))), a_fqPc, a_fqNext, a_twoBit, a_jumpDelta, a_robPc, a_robPredicted, a_robState, a_robRemaining, a_robValue, a_robFault, a_robNext, a_robSrc1, a_robVal1, a_robSrc2, a_robVal2, a_robOp, a_robC, a_robDest, ms, ub) → wpX_truncate post ((nI rs), f_stations, f_queueSize, (nI w), f_phase, f_pc, f_epc, f_cause, f_handling, f_vector, (nI len), f_fetchPc, f_parked, (nI qh), (nI qc), (nI h), (nI c), f_waitingCount, f_memCount, a_regs, a_memory, a_progOp, a_progA, a_progB, a_progC, a_latency, a_counters, a_fqPc, a_fqNext, a_twoBit, a_jumpDelta, a_robPc, a_robPredicted, a_robState, a_robRemaining, a_robValue, a_robFault, a_robNext, a_robSrc1, a_robVal1, a_robSrc2, a_robVal2, a_robOp, a_robC, a_robDest, a_mapSlot, a_unitBusy) (nI k) := by
  have H' := H
  obtain ⟨hS, hP, hQ, ⟨hh, hc, r1, r2, r3, r4, r5, r6, r7, r8, r9, r10, r11, r12, r13, r14⟩, hI, hw, hm, hM, hU⟩ := H
  have ek : k + (c - k) = c := by omega
  obtain ⟨ms', ub', hM', hU', hT⟩ := x_tr7 (w := w) (rs := rs) (len := len) (qh := qh) (qc := qc) (h := h) (c := c) (f_stations := f_stations) (f_queueSize := f_queueSize) (f_phase := f_phase) (f_pc := f_pc) (f_epc := f_epc) (f_cause := f_cause) (f_handling := f_handling) (f_vector := f_vector) (f_fetchPc := f_fetchPc) (f_parked := f_parked) (a_regs := a_regs) (a_memory := a_memory) (a_progOp := a_progOp) (a_progA := a_progA) (a_progB := a_progB) (a_progC := a_progC) (a_latency := a_latency) (a_counters := a_counters) (a_fqPc := a_fqPc) (a_fqNext := a_fqNext) (a_twoBit := a_twoBit) (a_jumpDelta := a_jumpDelta) (a_robPc := a_robPc) (a_robPredicted := a_robPredicted) (a_robState := a_robState) (a_robRemaining := a_robRemaining) (a_robValue := a_robValue) (a_robFault := a_robFault) (a_robNext := a_robNext) (a_robSrc1 := a_robSrc1) (a_robVal1 := a_robVal1) (a_robSrc2 := a_robSrc2) (a_robVal2 := a_robVal2) (a_robOp := a_robOp) (a_robC := a_robC) (a_robDest := a_robDest) (a_mapSlot := a_mapSlot) hh hc hk hP r3 r12 r14 (c - k) a_unitBusy (by omega) (by rw [ek]; exact hU)
  rw [ek] at hT
  refine ⟨_, _, ms', ub', f0_trunc H' hk rfl rfl hM' hU', fun post hp => ?_⟩
  rw [hw, hm]
  exact nm_e ⟨c - k + 1, hT post (c - k + 1) (by omega) hp⟩
theorem x_flush (H : rc_F0 w rs len qh qc h c f_stations f_queueSize f_waitingCount f_memCount a_latency a_settings a_progOp a_progA a_progB a_progC a_fqPc a_fqNext a_queuePc a_queueNext a_robPc a_robPredicted a_robState a_robRemaining a_robValue a_robFault a_robNext a_robSrc1 a_robVal1 a_robSrc2 a_robVal2 a_robOp a_robC a_robDest a_ePc a_ePredicted a_eState a_eRemaining a_eValue a_eFault a_eNext a_eWait1 a_eVal1 a_eWait2 a_eVal2 a_mapSlot a_unitBusy) : ∃ wc mc ms ub, rc_F0 w rs len 0 0 h 0 f_stations f_queueSize wc mc a_latency a_settings a_progOp a_progA a_progB a_progC a_fqPc a_fqNext a_queuePc a_queueNext a_robPc a_robPredicted a_robState a_robRemaining a_robValue a_robFault a_robNext a_robSrc1 a_robVal1 a_robSrc2 a_robVal2 a_robOp a_robC a_robDest a_ePc a_ePredicted a_eState a_eRemaining a_eValue a_eFault a_eNext a_eWait1 a_eVal1 a_eWait2 a_eVal2 ms ub ∧ ∀ post : SX → Prop, post ((nI rs), f_stations, f_queueSize, (nI w), f_phase, f_pc, f_epc, f_cause, f_handling, f_vector, (nI len), f_pc, 0, (nI 0), (nI 0), (nI h), (nI 0), wc, mc, a_regs, a_memory, a_progOp, a_progA, a_progB, a_progC, a_latency, (upd a_counters 4 (a_counters 4 + nI c)), a_fqPc, a_fqNext, a_twoBit, a_jumpDelta, a_robPc, a_robPredicted, a_robState, a_robRemaining, a_robValue, a_robFault, a_robNext, a_robSrc1, a_robVal1, a_robSrc2, a_robVal2, a_robOp, a_robC, a_robDest, ms, ub) → wpX_flush post ((nI rs), f_stations, f_queueSize, (nI w), f_phase, f_pc, f_epc, f_cause, f_handling, f_vector, (nI len), f_fetchPc, f_parked, (nI qh), (nI qc), (nI h), (nI c), f_waitingCount, f_memCount, a_regs, a_memory, a_progOp, a_progA, a_progB, a_progC, a_latency, a_counters, a_fqPc, a_fqNext, a_twoBit, a_jumpDelta, a_robPc, a_robPredicted, a_robState, a_robRemaining, a_robValue, a_robFault, a_robNext, a_robSrc1, a_robVal1, a_robSrc2, a_robVal2, a_robOp, a_robC, a_robDest, a_mapSlot, a_unitBusy) := by
  obtain ⟨wc, mc, ms, ub, hF, hT⟩ := x_truncate (w := w) (rs := rs) (len := len) (qh := qh) (qc := qc) (h := h) (c := c) (f_stations := f_stations) (f_queueSize := f_queueSize) (f_phase := f_phase) (f_pc := f_pc) (f_epc := f_epc) (f_cause := f_cause) (f_handling := f_handling) (f_vector := f_vector) (f_fetchPc := f_fetchPc) (f_parked := f_parked) (f_waitingCount := f_waitingCount) (f_memCount := f_memCount) (a_regs := a_regs) (a_memory := a_memory) (a_progOp := a_progOp) (a_progA := a_progA) (a_progB := a_progB) (a_progC := a_progC) (a_latency := a_latency) (a_counters := a_counters) (a_fqPc := a_fqPc) (a_fqNext := a_fqNext) (a_twoBit := a_twoBit) (a_jumpDelta := a_jumpDelta) (a_robPc := a_robPc) (a_robPredicted := a_robPredicted) (a_robState := a_robState) (a_robRemaining := a_robRemaining) (a_robValue := a_robValue) (a_robFault := a_robFault) (a_robNext := a_robNext) (a_robSrc1 := a_robSrc1) (a_robVal1 := a_robVal1) (a_robSrc2 := a_robSrc2) (a_robVal2 := a_robVal2) (a_robOp := a_robOp) (a_robC := a_robC) (a_robDest := a_robDest) (a_mapSlot := a_mapSlot) (a_unitBusy := a_unitBusy) H (Nat.zero_le c)
  have e : nI c - nI 0 = nI c := pk_sub (Nat.zero_le _)
  rw [e] at hT
  exact ⟨wc, mc, ms, ub, f0_redir hF, fun post hp => hT _ hp⟩
theorem y_flush {post : SY → Prop} (H : post (f_pc, f_epc, f_cause, f_handling, f_vector, f_phase, (nI len), f_pc, 0, (nI 0), (nI 0), a_regs, a_memory, a_progOp, a_progA, a_progB, a_progC, (upd a_counters 4 (a_counters 4 + nI c)), a_settings, a_queuePc, a_queueNext, a_twoBit, a_jumpDelta, a_ePc, a_ePredicted, a_eState, a_eRemaining, a_eValue, a_eFault, a_eNext, a_eWait1, a_eVal1, a_eWait2, a_eVal2)) : wpY_flush post (f_pc, f_epc, f_cause, f_handling, f_vector, f_phase, (nI len), f_fetchPc, f_parked, (nI qc), (nI c), a_regs, a_memory, a_progOp, a_progA, a_progB, a_progC, a_counters, a_settings, a_queuePc, a_queueNext, a_twoBit, a_jumpDelta, a_ePc, a_ePredicted, a_eState, a_eRemaining, a_eValue, a_eFault, a_eNext, a_eWait1, a_eVal1, a_eWait2, a_eVal2) := nm_e H
end
end
section
/-! trap, return from a trap, the sequential step: both sides at once, as one outcome in the architectural names -/
section
variable {w rs len qh qc h c : Nat} {f_stations f_queueSize f_phase f_pc f_epc f_cause f_handling f_vector f_fetchPc f_parked f_waitingCount f_memCount : Int32} {a_regs a_memory a_progOp a_progA a_progB a_progC a_latency a_counters a_fqPc a_fqNext a_twoBit a_jumpDelta a_robPc a_robPredicted a_robState a_robRemaining a_robValue a_robFault a_robNext a_robSrc1 a_robVal1 a_robSrc2 a_robVal2 a_robOp a_robC a_robDest a_mapSlot a_unitBusy a_settings a_queuePc a_queueNext a_ePc a_ePredicted a_eState a_eRemaining a_eValue a_eFault a_eNext a_eWait1 a_eVal1 a_eWait2 a_eVal2 : Nat → Int32}
theorem j_trap (why : Int32) (hb : f_handling = 0 ∨ f_handling = 1) : ∃ ph pc ep ca hd ct, (hd = 0 ∨ hd = 1) ∧ (∀ post : SX → Prop, post ((nI rs), f_stations, f_queueSize, (nI w), ph, pc, ep, ca, hd, f_vector, (nI len), f_fetchPc, f_parked, (nI qh), (nI qc), (nI h), (nI c), f_waitingCount, f_memCount, a_regs, a_memory, a_progOp, a_progA, a_progB, a_progC, a_latency, ct, a_fqPc, a_fqNext, a_twoBit, a_jumpDelta, a_robPc, a_robPredicted, a_robState, a_robRemaining, a_robValue, a_robFault, a_robNext, a_robSrc1, a_robVal1, a_robSrc2, a_robVal2, a_robOp, a_robC, a_robDest, a_mapSlot, a_unitBusy) → wpX_trap post ((nI rs), f_stations, f_queueSize, (nI w), f_phase, f_pc, f_epc, f_cause, f_handling, f_vector, (nI len), f_fetchPc, f_parked, (nI qh), (nI qc), (nI h), (nI c), f_waitingCount, f_memCount, a_regs, a_memory, a_progOp, a_progA, a_progB, a_progC, a_latency, a_counters, a_fqPc, a_fqNext, a_twoBit, a_jumpDelta, a_robPc, a_robPredicted, a_robState, a_robRemaining, a_robValue, a_robFault, a_robNext, a_robSrc1, a_robVal1, a_robSrc2, a_robVal2, a_robOp, a_robC, a_robDest, a_mapSlot, a_unitBusy) why) ∧ (∀ post : SY → Prop, post (pc, ep, ca, hd, f_vector, ph, (nI len), f_fetchPc, f_parked, (nI qc), (nI c), a_regs, a_memory, a_progOp, a_progA, a_progB, a_progC, ct, a_settings, a_queuePc, a_queueNext, a_twoBit, a_jumpDelta, a_ePc, a_ePredicted, a_eState, a_eRemaining, a_eValue, a_eFault, a_eNext, a_eWait1, a_eVal1, a_eWait2, a_eVal2) → wpY_trap post (f_pc, f_epc, f_cause, f_handling, f_vector, f_phase, (nI len), f_fetchPc, f_parked, (nI qc), (nI c), a_regs, a_memory, a_progOp, a_progA, a_progB, a_progC, a_counters, a_settings, a_queuePc, a_queueNext, a_twoBit, a_jumpDelta, a_ePc, a_ePredicted, a_eState, a_eRemaining, a_eValue, a_eFault, a_eNext, a_eWait1, a_eVal1, a_eWait2, a_eVal2) why) := by
  by_cases hv : f_vector = -1
  · exact ⟨3, f_pc, f_pc, why, f_handling, upd a_counters 2 (a_counters 2 + 1), hb, fun post H => nm_e (br_t hv H), fun post H => nm_e (br_t hv H)⟩
  · by_cases hz : f_handling = 0
    · exact ⟨f_phase, f_vector, f_pc, why, 1, upd a_counters 2 (a_counters 2 + 1), Or.inr rfl, fun post H => nm_e (br_f hv (br_t hz H)), fun post H => nm_e (br_f hv (br_t hz H))⟩
    · exact ⟨3, f_pc, f_pc, why, f_handling, upd a_counters 2 (a_counters 2 + 1), hb, fun post H => nm_e (br_f hv (br_f hz H)), fun post H => nm_e (br_f hv (br_f hz H))⟩
theorem j_ret (p : Int32) (hb : f_handling = 0 ∨ f_handling = 1) : ∃ ph pc ep ca hd ct, (hd = 0 ∨ hd = 1) ∧ (∀ post : SX → Prop, post ((nI rs), f_stations, f_queueSize, (nI w), ph, pc, ep, ca, hd, f_vector, (nI len), f_fetchPc, f_parked, (nI qh), (nI qc), (nI h), (nI c), f_waitingCount, f_memCount, a_regs, a_memory, a_progOp, a_progA, a_progB, a_progC, a_latency, ct, a_fqPc, a_fqNext, a_twoBit, a_jumpDelta, a_robPc, a_robPredicted, a_robState, a_robRemaining, a_robValue, a_robFault, a_robNext, a_robSrc1, a_robVal1, a_robSrc2, a_robVal2, a_robOp, a_robC, a_robDest, a_mapSlot, a_unitBusy) → wpX_returnFromTrap post ((nI rs), f_stations, f_queueSize, (nI w), f_phase, f_pc, f_epc, f_cause, f_handling, f_vector, (nI len), f_fetchPc, f_parked, (nI qh), (nI qc), (nI h), (nI c), f_waitingCount, f_memCount, a_regs, a_memory, a_progOp, a_progA, a_progB, a_progC, a_latency, a_counters, a_fqPc, a_fqNext, a_twoBit, a_jumpDelta, a_robPc, a_robPredicted, a_robState, a_robRemaining, a_robValue, a_robFault, a_robNext, a_robSrc1, a_robVal1, a_robSrc2, a_robVal2, a_robOp, a_robC, a_robDest, a_mapSlot, a_unitBusy) p) ∧ (∀ post : SY → Prop, post (pc, ep, ca, hd, f_vector, ph, (nI len), f_fetchPc, f_parked, (nI qc), (nI c), a_regs, a_memory, a_progOp, a_progA, a_progB, a_progC, ct, a_settings, a_queuePc, a_queueNext, a_twoBit, a_jumpDelta, a_ePc, a_ePredicted, a_eState, a_eRemaining, a_eValue, a_eFault, a_eNext, a_eWait1, a_eVal1, a_eWait2, a_eVal2) → wpY_leaveHandler post (f_pc, f_epc, f_cause, f_handling, f_vector, f_phase, (nI len), f_fetchPc, f_parked, (nI qc), (nI c), a_regs, a_memory, a_progOp, a_progA, a_progB, a_progC, a_counters, a_settings, a_queuePc, a_queueNext, a_twoBit, a_jumpDelta, a_ePc, a_ePredicted, a_eState, a_eRemaining, a_eValue, a_eFault, a_eNext, a_eWait1, a_eVal1, a_eWait2, a_eVal2) p) := by
  by_cases hz : f_handling = 0
  · obtain ⟨ph, pc, ep, ca, hd, ct, h1, hX, hY⟩ := j_trap (w := w) (rs := rs) (len := len) (qh := qh) (qc := qc) (h := h) (c := c) (f_stations := f_stations) (f_queueSize := f_queueSize) (f_phase := f_phase) (f_pc := f_pc) (f_epc := f_epc) (f_cause := f_cause) (f_handling := f_handling) (f_vector := f_vector) (f_fetchPc := f_fetchPc) (f_parked := f_parked) (f_waitingCount := f_waitingCount) (f_memCount := f_memCount) (a_regs := a_regs) (a_memory := a_memory) (a_progOp := a_progOp) (a_progA := a_progA) (a_progB := a_progB) (a_progC := a_progC) (a_latency := a_latency) (a_counters := a_counters) (a_fqPc := a_fqPc) (a_fqNext := a_fqNext) (a_twoBit := a_twoBit) (a_jumpDelta := a_jumpDelta) (a_robPc := a_robPc) (a_robPredicted := a_robPredicted) (a_robState := a_robState) (a_robRemaining := a_robRemaining) (a_robValue := a_robValue) (a_robFault := a_robFault) (a_robNext := a_robNext) (a_robSrc1 := a_robSrc1) (a_robVal1 := a_robVal1) (a_robSrc2 := a_robSrc2) (a_robVal2 := a_robVal2) (a_robOp := a_robOp) (a_robC := a_robC) (a_robDest := a_robDest) (a_mapSlot := a_mapSlot) (a_unitBusy := a_unitBusy) (a_settings := a_settings) (a_queuePc := a_queuePc) (a_queueNext := a_queueNext) (a_ePc := a_ePc) (a_ePredicted := a_ePredicted) (a_eState := a_eState) (a_eRemaining := a_eRemaining) (a_eValue := a_eValue) (a_eFault := a_eFault) (a_eNext := a_eNext) (a_eWait1 := a_eWait1) (a_eVal1 := a_eVal1) (a_eWait2 := a_eWait2) (a_eVal2 := a_eVal2) 4 hb
    exact ⟨ph, pc, ep, ca, hd, ct, h1, fun post H => br_t hz (hX _ H), fun post H => br_t hz (hY _ H)⟩
  · by_cases h1 : p = 1
    · exact ⟨f_phase, f_epc, f_epc, f_cause, 0, a_counters, Or.inl rfl, fun post H => br_f hz (br_t h1 H), fun post H => br_f hz (br_t h1 H)⟩
    · exact ⟨f_phase, f_epc + 1, f_epc, f_cause, 0, a_counters, Or.inl rfl, fun post H => br_f hz (br_f h1 (nm_e H)), fun post H => br_f hz (br_f h1 (nm_e H))⟩
theorem y_writeReg {post : SY → Prop} {j : Nat} {v : Int32} (hj : j ≤ 7) (H : post (f_pc, f_epc, f_cause, f_handling, f_vector, f_phase, (nI len), f_fetchPc, f_parked, (nI qc), (nI c), (upd a_regs j v), a_memory, a_progOp, a_progA, a_progB, a_progC, a_counters, a_settings, a_queuePc, a_queueNext, a_twoBit, a_jumpDelta, a_ePc, a_ePredicted, a_eState, a_eRemaining, a_eValue, a_eFault, a_eNext, a_eWait1, a_eVal1, a_eWait2, a_eVal2)) : wpY_writeReg post (f_pc, f_epc, f_cause, f_handling, f_vector, f_phase, (nI len), f_fetchPc, f_parked, (nI qc), (nI c), a_regs, a_memory, a_progOp, a_progA, a_progB, a_progC, a_counters, a_settings, a_queuePc, a_queueNext, a_twoBit, a_jumpDelta, a_ePc, a_ePredicted, a_eState, a_eRemaining, a_eValue, a_eFault, a_eNext, a_eWait1, a_eVal1, a_eWait2, a_eVal2) (nI j) v := by
  refine br_f (nI_pos (by omega)) (br_f (nI_nlt (a := 7) (b := j) (by omega) (by omega)) (And.intro (vp_in_nI (by omega) (by omega)) (nm_r (e' := upd a_regs j v) ?_ H)))
  rw [nI_clamp (by omega)]
theorem y_writeMem {post : SY → Prop} {j : Nat} {v : Int32} (hj : j ≤ 63) (H : post (f_pc, f_epc, f_cause, f_handling, f_vector, f_phase, (nI len), f_fetchPc, f_parked, (nI qc), (nI c), a_regs, (upd a_memory j v), a_progOp, a_progA, a_progB, a_progC, a_counters, a_settings, a_queuePc, a_queueNext, a_twoBit, a_jumpDelta, a_ePc, a_ePredicted, a_eState, a_eRemaining, a_eValue, a_eFault, a_eNext, a_eWait1, a_eVal1, a_eWait2, a_eVal2)) : wpY_writeMem post (f_pc, f_epc, f_cause, f_handling, f_vector, f_phase, (nI len), f_fetchPc, f_parked, (nI qc), (nI c), a_regs, a_memory, a_progOp, a_progA, a_progB, a_progC, a_counters, a_settings, a_queuePc, a_queueNext, a_twoBit, a_jumpDelta, a_ePc, a_ePredicted, a_eState, a_eRemaining, a_eValue, a_eFault, a_eNext, a_eWait1, a_eVal1, a_eWait2, a_eVal2) (nI j) v := by
  refine br_f (nI_pos (by omega)) (br_f (nI_nlt (a := 63) (b := j) (by omega) (by omega)) (And.intro (vp_in_nI (by omega) (by omega)) (nm_r (e' := upd a_memory j v) ?_ H)))
  rw [nI_clamp (by omega)]
theorem ga_c (x : Int32) : (rc_ga x = 0 ∧ (x < 0 ∨ ¬ x < 0 ∧ ¬ x ≤ 63)) ∨ (∃ m, m ≤ 63 ∧ x = nI m ∧ rc_ga x = 1) := by
  by_cases h0 : x < 0
  · exact Or.inl ⟨if_pos h0, Or.inl h0⟩
  · by_cases h1 : x ≤ 63
    · obtain ⟨m, hm, e⟩ := nI_of2 (n := 63) (by decide) h0 h1
      refine Or.inr ⟨m, hm, e, ?_⟩
      rw [rc_ga, if_neg h0, if_neg]
      rw [e]
      exact nI_ge (b := 64) (by omega) (by omega)
    · refine Or.inl ⟨?_, Or.inr ⟨h0, h1⟩⟩
      rw [rc_ga, if_neg h0, if_pos]
      exact rc_63.mp (Int32.not_le.mp h1)
theorem j_s45 {op y x cc : Int32} {ja : Nat} (ha : ja ≤ 7) : (∀ post : SX → Prop, post ((nI rs), f_stations, f_queueSize, (nI w), f_phase, (f_pc + 1), f_epc, f_cause, f_handling, f_vector, (nI len), f_fetchPc, f_parked, (nI qh), (nI qc), (nI h), (nI c), f_waitingCount, f_memCount, (upd a_regs ja (rc_cp op x y cc)), a_memory, a_progOp, a_progA, a_progB, a_progC, a_latency, a_counters, a_fqPc, a_fqNext, a_twoBit, a_jumpDelta, a_robPc, a_robPredicted, a_robState, a_robRemaining, a_robValue, a_robFault, a_robNext, a_robSrc1, a_robVal1, a_robSrc2, a_robVal2, a_robOp, a_robC, a_robDest, a_mapSlot, a_unitBusy) → wX_stepCompute_45 post op (nI ja) cc x y (nI rs) f_stations f_queueSize (nI w) f_phase f_pc f_epc f_cause f_handling f_vector (nI len) f_fetchPc f_parked (nI qh) (nI qc) (nI h) (nI c) f_waitingCount f_memCount a_regs a_memory a_progOp a_progA a_progB a_progC a_latency a_counters a_fqPc a_fqNext a_twoBit a_jumpDelta a_robPc a_robPredicted a_robState a_robRemaining a_robValue a_robFault a_robNext a_robSrc1 a_robVal1 a_robSrc2 a_robVal2 a_robOp a_robC a_robDest a_mapSlot a_unitBusy) ∧ (∀ post : SY → Prop, post ((f_pc + 1), f_epc, f_cause, f_handling, f_vector, f_phase, (nI len), f_fetchPc, f_parked, (nI qc), (nI c), (upd a_regs ja (rc_cp op x y cc)), a_memory, a_progOp, a_progA, a_progB, a_progC, a_counters, a_settings, a_queuePc, a_queueNext, a_twoBit, a_jumpDelta, a_ePc, a_ePredicted, a_eState, a_eRemaining, a_eValue, a_eFault, a_eNext, a_eWait1, a_eVal1, a_eWait2, a_eVal2) → wY_sequentialStep_125 post f_pc op (nI ja) cc x y f_pc f_epc f_cause f_handling f_vector f_phase (nI len) f_fetchPc f_parked (nI qc) (nI c) a_regs a_memory a_progOp a_progA a_progB a_progC a_counters a_settings a_queuePc a_queueNext a_twoBit a_jumpDelta a_ePc a_ePredicted a_eState a_eRemaining a_eValue a_eFault a_eNext a_eWait1 a_eVal1 a_eWait2 a_eVal2) := by
  have hcl : (nI ja).toNatClampNeg = ja := nI_clamp (by omega)
  constructor
  · intro post H
    refine x_compute (And.intro (vp_in_nI (by omega) (by omega)) ?_)
    rw [hcl]
    exact nm_e (nm_e H)
  · intro post H
    exact y_result (y_writeReg ha (nm_e H))
theorem j_s29 {op y x cc : Int32} {ja : Nat} (ha : ja ≤ 7) (hb : f_handling = 0 ∨ f_handling = 1) : ∃ ph pc ep ca hd ct rg, (hd = 0 ∨ hd = 1) ∧ (∀ post : SX → Prop, post ((nI rs), f_stations, f_queueSize, (nI w), ph, pc, ep, ca, hd, f_vector, (nI len), f_fetchPc, f_parked, (nI qh), (nI qc), (nI h), (nI c), f_waitingCount, f_memCount, rg, a_memory, a_progOp, a_progA, a_progB, a_progC, a_latency, ct, a_fqPc, a_fqNext, a_twoBit, a_jumpDelta, a_robPc, a_robPredicted, a_robState, a_robRemaining, a_robValue, a_robFault, a_robNext, a_robSrc1, a_robVal1, a_robSrc2, a_robVal2, a_robOp, a_robC, a_robDest, a_mapSlot, a_unitBusy) → wX_stepCompute_29 post op (nI ja) cc x y (nI rs) f_stations f_queueSize (nI w) f_phase f_pc f_epc f_cause f_handling f_vector (nI len) f_fetchPc f_parked (nI qh) (nI qc) (nI h) (nI c) f_waitingCount f_memCount a_regs a_memory a_progOp a_progA a_progB a_progC a_latency a_counters a_fqPc a_fqNext a_twoBit a_jumpDelta a_robPc a_robPredicted a_robState a_robRemaining a_robValue a_robFault a_robNext a_robSrc1 a_robVal1 a_robSrc2 a_robVal2 a_robOp a_robC a_robDest a_mapSlot a_unitBusy) ∧ (∀ post : SY → Prop, post (pc, ep, ca, hd, f_vector, ph, (nI len), f_fetchPc, f_parked, (nI qc), (nI c), rg, a_memory, a_progOp, a_progA, a_progB, a_progC, ct, a_settings, a_queuePc, a_queueNext, a_twoBit, a_jumpDelta, a_ePc, a_ePredicted, a_eState, a_eRemaining, a_eValue, a_eFault, a_eNext, a_eWait1, a_eVal1, a_eWait2, a_eVal2) → wY_sequentialStep_107 post f_pc op (nI ja) cc x y f_pc f_epc f_cause f_handling f_vector f_phase (nI len) f_fetchPc f_parked (nI qc) (nI c) a_regs a_memory a_progOp a_progA a_progB a_progC a_counters a_settings a_queuePc a_queueNext a_twoBit a_jumpDelta a_ePc a_ePredicted a_eState a_eRemaining a_eValue a_eFault a_eNext a_eWait1 a_eVal1 a_eWait2 a_eVal2) := by
  obtain ⟨gX, gY⟩ := j_s45 (w := w) (rs := rs) (len := len) (qh := qh) (qc := qc) (h := h) (c := c) (f_stations := f_stations) (f_queueSize := f_queueSize) (f_phase := f_phase) (f_pc := f_pc) (f_epc := f_epc) (f_cause := f_cause) (f_handling := f_handling) (f_vector := f_vector) (f_fetchPc := f_fetchPc) (f_parked := f_parked) (f_waitingCount := f_waitingCount) (f_memCount := f_memCount) (a_regs := a_regs) (a_memory := a_memory) (a_progOp := a_progOp) (a_progA := a_progA) (a_progB := a_progB) (a_progC := a_progC) (a_latency := a_latency) (a_counters := a_counters) (a_fqPc := a_fqPc) (a_fqNext := a_fqNext) (a_twoBit := a_twoBit) (a_jumpDelta := a_jumpDelta) (a_robPc := a_robPc) (a_robPredicted := a_robPredicted) (a_robState := a_robState) (a_robRemaining := a_robRemaining) (a_robValue := a_robValue) (a_robFault := a_robFault) (a_robNext := a_robNext) (a_robSrc1 := a_robSrc1) (a_robVal1 := a_robVal1) (a_robSrc2 := a_robSrc2) (a_robVal2 := a_robVal2) (a_robOp := a_robOp) (a_robC := a_robC) (a_robDest := a_robDest) (a_mapSlot := a_mapSlot) (a_unitBusy := a_unitBusy) (a_settings := a_settings) (a_queuePc := a_queuePc) (a_queueNext := a_queueNext) (a_ePc := a_ePc) (a_ePredicted := a_ePredicted) (a_eState := a_eState) (a_eRemaining := a_eRemaining) (a_eValue := a_eValue) (a_eFault := a_eFault) (a_eNext := a_eNext) (a_eWait1 := a_eWait1) (a_eVal1 := a_eVal1) (a_eWait2 := a_eWait2) (a_eVal2 := a_eVal2) (op := op) (y := y) (x := x) (cc := cc) ha
  by_cases h4 : op = 4
  · by_cases hy : y = 0
    · obtain ⟨ph, pc, ep, ca, hd, ct, h1, hX, hY⟩ := j_trap (w := w) (rs := rs) (len := len) (qh := qh) (qc := qc) (h := h) (c := c) (f_stations := f_stations) (f_queueSize := f_queueSize) (f_phase := f_phase) (f_pc := f_pc) (f_epc := f_epc) (f_cause := f_cause) (f_handling := f_handling) (f_vector := f_vector) (f_fetchPc := f_fetchPc) (f_parked := f_parked) (f_waitingCount := f_waitingCount) (f_memCount := f_memCount) (a_regs := a_regs) (a_memory := a_memory) (a_progOp := a_progOp) (a_progA := a_progA) (a_progB := a_progB) (a_progC := a_progC) (a_latency := a_latency) (a_counters := a_counters) (a_fqPc := a_fqPc) (a_fqNext := a_fqNext) (a_twoBit := a_twoBit) (a_jumpDelta := a_jumpDelta) (a_robPc := a_robPc) (a_robPredicted := a_robPredicted) (a_robState := a_robState) (a_robRemaining := a_robRemaining) (a_robValue := a_robValue) (a_robFault := a_robFault) (a_robNext := a_robNext) (a_robSrc1 := a_robSrc1) (a_robVal1 := a_robVal1) (a_robSrc2 := a_robSrc2) (a_robVal2 := a_robVal2) (a_robOp := a_robOp) (a_robC := a_robC) (a_robDest := a_robDest) (a_mapSlot := a_mapSlot) (a_unitBusy := a_unitBusy) (a_settings := a_settings) (a_queuePc := a_queuePc) (a_queueNext := a_queueNext) (a_ePc := a_ePc) (a_ePredicted := a_ePredicted) (a_eState := a_eState) (a_eRemaining := a_eRemaining) (a_eValue := a_eValue) (a_eFault := a_eFault) (a_eNext := a_eNext) (a_eWait1 := a_eWait1) (a_eVal1 := a_eVal1) (a_eWait2 := a_eWait2) (a_eVal2 := a_eVal2) 2 hb
      exact ⟨ph, pc, ep, ca, hd, ct, a_regs, h1, fun post H => br_t h4 (br_t hy (hX _ H)), fun post H => br_t h4 (br_t hy (hY _ H))⟩
    · exact ⟨f_phase, f_pc + 1, f_epc, f_cause, f_handling, a_counters, _, hb, fun post H => br_t h4 (br_f hy (gX _ H)), fun post H => br_t h4 (br_f hy (gY _ H))⟩
  · exact ⟨f_phase, f_pc + 1, f_epc, f_cause, f_handling, a_counters, _, hb, fun post H => br_f h4 (gX _ H), fun post H => br_f h4 (gY _ H)⟩
theorem in_8 {j : Nat} (h : j ≤ 7) : vp_in (nI j) 8 := vp_in_nI (by omega) (by omega)
theorem in_64 {j : Nat} (h : j ≤ 63) : vp_in (nI j) 64 := vp_in_nI (by omega) (by omega)
/-- the memory step of X, at a load and at a store -/
theorem x_smBad {post : SX → Prop} {op cc : Int32} {ja jb : Nat} (hb : jb ≤ 7) (hx : a_regs jb + cc < 0 ∨ ¬ a_regs jb + cc < 0 ∧ ¬ a_regs jb + cc ≤ 63) (H : wpX_trap post ((nI rs), f_stations, f_queueSize, (nI w), f_phase, f_pc, f_epc, f_cause, f_handling, f_vector, (nI len), f_fetchPc, f_parked, (nI qh), (nI qc), (nI h), (nI c), f_waitingCount, f_memCount, a_regs, a_memory, a_progOp, a_progA, a_progB, a_progC, a_latency, a_counters, a_fqPc, a_fqNext, a_twoBit, a_jumpDelta, a_robPc, a_robPredicted, a_robState, a_robRemaining, a_robValue, a_robFault, a_robNext, a_robSrc1, a_robVal1, a_robSrc2, a_robVal2, a_robOp, a_robC, a_robDest, a_mapSlot, a_unitBusy) 3) : wpX_stepMemory post ((nI rs), f_stations, f_queueSize, (nI w), f_phase, f_pc, f_epc, f_cause, f_handling, f_vector, (nI len), f_fetchPc, f_parked, (nI qh), (nI qc), (nI h), (nI c), f_waitingCount, f_memCount, a_regs, a_memory, a_progOp, a_progA, a_progB, a_progC, a_latency, a_counters, a_fqPc, a_fqNext, a_twoBit, a_jumpDelta, a_robPc, a_robPredicted, a_robState, a_robRemaining, a_robValue, a_robFault, a_robNext, a_robSrc1, a_robVal1, a_robSrc2, a_robVal2, a_robOp, a_robC, a_robDest, a_mapSlot, a_unitBusy) op (nI ja) (nI jb) cc := by
  have hcl : (nI jb).toNatClampNeg = jb := nI_clamp (by omega)
  refine And.intro (in_8 hb) (nm_r (e' := a_regs jb + cc) (by rw [hcl]) ?_)
  rcases hx with hx | ⟨h0, h1⟩
  · exact br_t hx H
  · exact br_f h0 (br_f h1 H)
theorem x_smLd {post : SX → Prop} {cc : Int32} {ja jb m : Nat} (ha : ja ≤ 7) (hb : jb ≤ 7) (hm : m ≤ 63) (hx : a_regs jb + cc = nI m) (H : post ((nI rs), f_stations, f_queueSize, (nI w), f_phase, (f_pc + 1), f_epc, f_cause, f_handling, f_vector, (nI len), f_fetchPc, f_parked, (nI qh), (nI qc), (nI h), (nI c), f_waitingCount, f_memCount, (upd a_regs ja (a_memory m)), a_memory, a_progOp, a_progA, a_progB, a_progC, a_latency, a_counters, a_fqPc, a_fqNext, a_twoBit, a_jumpDelta, a_robPc, a_robPredicted, a_robState, a_robRemaining, a_robValue, a_robFault, a_robNext, a_robSrc1, a_robVal1, a_robSrc2, a_robVal2, a_robOp, a_robC, a_robDest, a_mapSlot, a_unitBusy)) : wpX_stepMemory post ((nI rs), f_stations, f_queueSize, (nI w), f_phase, f_pc, f_epc, f_cause, f_handling, f_vector, (nI len), f_fetchPc, f_parked, (nI qh), (nI qc), (nI h), (nI c), f_waitingCount, f_memCount, a_regs, a_memory, a_progOp, a_progA, a_progB, a_progC, a_latency, a_counters, a_fqPc, a_fqNext, a_twoBit, a_jumpDelta, a_robPc, a_robPredicted, a_robState, a_robRemaining, a_robValue, a_robFault, a_robNext, a_robSrc1, a_robVal1, a_robSrc2, a_robVal2, a_robOp, a_robC, a_robDest, a_mapSlot, a_unitBusy) 10 (nI ja) (nI jb) cc := by
  have hcl : (nI jb).toNatClampNeg = jb := nI_clamp (by omega)
  refine And.intro (in_8 hb) (nm_r (e' := nI m) (by rw [hcl, hx]) ?_)
  refine br_f (nI_pos (by omega)) (br_t (nI_le (b := 63) hm (by omega)) (br_t rfl (And.intro (in_64 hm) (And.intro (in_8 ha) (nm_r (e' := upd a_regs ja (a_memory m)) ?_ (nm_e H))))))
  rw [nI_clamp (by omega), nI_clamp (by omega)]
theorem x_smSt {post : SX → Prop} {cc : Int32} {ja jb m : Nat} (ha : ja ≤ 7) (hb : jb ≤ 7) (hm : m ≤ 63) (hx : a_regs jb + cc = nI m) (H : post ((nI rs), f_stations, f_queueSize, (nI w), f_phase, (f_pc + 1), f_epc, f_cause, f_handling, f_vector, (nI len), f_fetchPc, f_parked, (nI qh), (nI qc), (nI h), (nI c), f_waitingCount, f_memCount, a_regs, (upd a_memory m (a_regs ja)), a_progOp, a_progA, a_progB, a_progC, a_latency, a_counters, a_fqPc, a_fqNext, a_twoBit, a_jumpDelta, a_robPc, a_robPredicted, a_robState, a_robRemaining, a_robValue, a_robFault, a_robNext, a_robSrc1, a_robVal1, a_robSrc2, a_robVal2, a_robOp, a_robC, a_robDest, a_mapSlot, a_unitBusy)) : wpX_stepMemory post ((nI rs), f_stations, f_queueSize, (nI w), f_phase, f_pc, f_epc, f_cause, f_handling, f_vector, (nI len), f_fetchPc, f_parked, (nI qh), (nI qc), (nI h), (nI c), f_waitingCount, f_memCount, a_regs, a_memory, a_progOp, a_progA, a_progB, a_progC, a_latency, a_counters, a_fqPc, a_fqNext, a_twoBit, a_jumpDelta, a_robPc, a_robPredicted, a_robState, a_robRemaining, a_robValue, a_robFault, a_robNext, a_robSrc1, a_robVal1, a_robSrc2, a_robVal2, a_robOp, a_robC, a_robDest, a_mapSlot, a_unitBusy) 11 (nI ja) (nI jb) cc := by
  have hcl : (nI jb).toNatClampNeg = jb := nI_clamp (by omega)
  refine And.intro (in_8 hb) (nm_r (e' := nI m) (by rw [hcl, hx]) ?_)
  refine br_f (nI_pos (by omega)) (br_t (nI_le (b := 63) hm (by omega)) (br_f (by decide) (And.intro (in_8 ha) (And.intro (in_64 hm) (nm_r (e' := upd a_memory m (a_regs ja)) ?_ (nm_e H))))))
  rw [nI_clamp (by omega), nI_clamp (by omega)]
/-- the step, both sides -/
theorem j_step (P : rc_Pg len a_progOp a_progA a_progB a_progC) (hb : f_handling = 0 ∨ f_handling = 1) : ∃ ph pc ep ca hd ct rg mm, (hd = 0 ∨ hd = 1) ∧ (∀ post : SX → Prop, post ((nI rs), f_stations, f_queueSize, (nI w), ph, pc, ep, ca, hd, f_vector, (nI len), f_fetchPc, f_parked, (nI qh), (nI qc), (nI h), (nI c), f_waitingCount, f_memCount, rg, mm, a_progOp, a_progA, a_progB, a_progC, a_latency, ct, a_fqPc, a_fqNext, a_twoBit, a_jumpDelta, a_robPc, a_robPredicted, a_robState, a_robRemaining, a_robValue, a_robFault, a_robNext, a_robSrc1, a_robVal1, a_robSrc2, a_robVal2, a_robOp, a_robC, a_robDest, a_mapSlot, a_unitBusy) → wpX_step post ((nI rs), f_stations, f_queueSize, (nI w), f_phase, f_pc, f_epc, f_cause, f_handling, f_vector, (nI len), f_fetchPc, f_parked, (nI qh), (nI qc), (nI h), (nI c), f_waitingCount, f_memCount, a_regs, a_memory, a_progOp, a_progA, a_progB, a_progC, a_latency, a_counters, a_fqPc, a_fqNext, a_twoBit, a_jumpDelta, a_robPc, a_robPredicted, a_robState, a_robRemaining, a_robValue, a_robFault, a_robNext, a_robSrc1, a_robVal1, a_robSrc2, a_robVal2, a_robOp, a_robC, a_robDest, a_mapSlot, a_unitBusy)) ∧ (∀ post : SY → Prop, post (pc, ep, ca, hd, f_vector, ph, (nI len), f_fetchPc, f_parked, (nI qc), (nI c), rg, mm, a_progOp, a_progA, a_progB, a_progC, ct, a_settings, a_queuePc, a_queueNext, a_twoBit, a_jumpDelta, a_ePc, a_ePredicted, a_eState, a_eRemaining, a_eValue, a_eFault, a_eNext, a_eWait1, a_eVal1, a_eWait2, a_eVal2) → wpY_sequentialStep post (f_pc, f_epc, f_cause, f_handling, f_vector, f_phase, (nI len), f_fetchPc, f_parked, (nI qc), (nI c), a_regs, a_memory, a_progOp, a_progA, a_progB, a_progC, a_counters, a_settings, a_queuePc, a_queueNext, a_twoBit, a_jumpDelta, a_ePc, a_ePredicted, a_eState, a_eRemaining, a_eValue, a_eFault, a_eNext, a_eWait1, a_eVal1, a_eWait2, a_eVal2)) := by
  have hl := P.1
  rcases pg_c P f_pc with ⟨eo, ea, eb, ec, _⟩ | ⟨j, hj64, hj, ej, h0, h1, eo, ea, eb, ec, ⟨⟨o, ho, qo⟩, ⟨ja, ha, qa⟩, ⟨jb, hbb, qb⟩, hcc⟩⟩
  · obtain ⟨ph, pc, ep, ca, hd, ct, h1, hX, hY⟩ := j_trap (w := w) (rs := rs) (len := len) (qh := qh) (qc := qc) (h := h) (c := c) (f_stations := f_stations) (f_queueSize := f_queueSize) (f_phase := f_phase) (f_pc := f_pc) (f_epc := f_epc) (f_cause := f_cause) (f_handling := f_handling) (f_vector := f_vector) (f_fetchPc := f_fetchPc) (f_parked := f_parked) (f_waitingCount := f_waitingCount) (f_memCount := f_memCount) (a_regs := a_regs) (a_memory := a_memory) (a_progOp := a_progOp) (a_progA := a_progA) (a_progB := a_progB) (a_progC := a_progC) (a_latency := a_latency) (a_counters := upd a_counters 1 (a_counters 1 + 1)) (a_fqPc := a_fqPc) (a_fqNext := a_fqNext) (a_twoBit := a_twoBit) (a_jumpDelta := a_jumpDelta) (a_robPc := a_robPc) (a_robPredicted := a_robPredicted) (a_robState := a_robState) (a_robRemaining := a_robRemaining) (a_robValue := a_robValue) (a_robFault := a_robFault) (a_robNext := a_robNext) (a_robSrc1 := a_robSrc1) (a_robVal1 := a_robVal1) (a_robSrc2 := a_robSrc2) (a_robVal2 := a_robVal2) (a_robOp := a_robOp) (a_robC := a_robC) (a_robDest := a_robDest) (a_mapSlot := a_mapSlot) (a_unitBusy := a_unitBusy) (a_settings := a_settings) (a_queuePc := a_queuePc) (a_queueNext := a_queueNext) (a_ePc := a_ePc) (a_ePredicted := a_ePredicted) (a_eState := a_eState) (a_eRemaining := a_eRemaining) (a_eValue := a_eValue) (a_eFault := a_eFault) (a_eNext := a_eNext) (a_eWait1 := a_eWait1) (a_eVal1 := a_eVal1) (a_eWait2 := a_eWait2) (a_eVal2 := a_eVal2) 1 hb
    refine ⟨ph, pc, ep, ca, hd, ct, a_regs, a_memory, h1, fun post H => ?_, fun post H => ?_⟩
    · refine nm_e (x_opAt hl ?_)
      rw [eo]
      exact br_t rfl (hX _ H)
    · refine nm_e (y_opAt hl (y_aAt hl (y_bAt hl (y_cAt hl (y_reg (y_reg ?_))))))
      rw [eo]
      exact br_f (by decide) (hY _ H)
  · have hin : vp_in f_pc 64 := pg_in hl h0 h1
    have ecl : f_pc.toNatClampNeg = j := by rw [ej]; exact nI_clamp (by omega)
    have eqA : a_progA f_pc.toNatClampNeg = nI ja := by rw [ecl, qa]
    have eqB : a_progB f_pc.toNatClampNeg = nI jb := by rw [ecl, qb]
    have eqC : a_progC f_pc.toNatClampNeg = a_progC j := by rw [ecl]
    have hcb : (nI jb).toNatClampNeg = jb := nI_clamp (by omega)
    have hca : (nI ja).toNatClampNeg = ja := nI_clamp (by omega)
    have cases : o = 0 ∨ (1 ≤ o ∧ o ≤ 9) ∨ o = 10 ∨ o = 11 ∨ o = 12 ∨ o = 13 ∨ o = 14 ∨ o = 15 := by omega
    rcases cases with rfl | ⟨o1, o9⟩ | rfl | rfl | rfl | rfl | rfl | rfl
    · refine ⟨2, f_pc, f_epc, f_cause, f_handling, upd a_counters 1 (a_counters 1 + 1), a_regs, a_memory, hb, fun post H => ?_, fun post H => ?_⟩
      · 
        refine nm_e (x_opAt hl ?_)
        rw [eo, qo]
        refine br_f (rc_nm1 (by omega)) (And.intro hin (nm_r (e' := nI ja) eqA (And.intro hin (nm_r (e' := nI jb) eqB (And.intro hin (nm_r (e' := a_progC j) eqC ?_))))))
        exact br_t rfl H
      · 
        refine nm_e (y_opAt hl (y_aAt hl (y_bAt hl (y_cAt hl (y_reg (y_reg ?_))))))
        rw [eo, qo, ea, qa, eb, qb, ec, rg_n ha, rg_n hbb]
        exact br_t (by decide) (br_t rfl H)
    · have hne : ¬ nI o = 0 := nI_ne0 (by omega) (by omega)
      have h9 : ¬ (9 : Int32) < nI o := nI_nlt (a := 9) (b := o) (by omega) (by omega)
      have hp : (0 : Int32) ≤ nI o := nI_pos' (by omega)
      by_cases o7 : 8 ≤ o
      · have h7 : (7 : Int32) < nI o := nI_lt (a := 7) (by omega) (by omega)
        obtain ⟨ph, pc, ep, ca, hd, ct, rg, g1, hX, hY⟩ := j_s29 (w := w) (rs := rs) (len := len) (qh := qh) (qc := qc) (h := h) (c := c) (f_stations := f_stations) (f_queueSize := f_queueSize) (f_phase := f_phase) (f_pc := f_pc) (f_epc := f_epc) (f_cause := f_cause) (f_handling := f_handling) (f_vector := f_vector) (f_fetchPc := f_fetchPc) (f_parked := f_parked) (f_waitingCount := f_waitingCount) (f_memCount := f_memCount) (a_regs := a_regs) (a_memory := a_memory) (a_progOp := a_progOp) (a_progA := a_progA) (a_progB := a_progB) (a_progC := a_progC) (a_latency := a_latency) (a_counters := upd a_counters 1 (a_counters 1 + 1)) (a_fqPc := a_fqPc) (a_fqNext := a_fqNext) (a_twoBit := a_twoBit) (a_jumpDelta := a_jumpDelta) (a_robPc := a_robPc) (a_robPredicted := a_robPredicted) (a_robState := a_robState) (a_robRemaining := a_robRemaining) (a_robValue := a_robValue) (a_robFault := a_robFault) (a_robNext := a_robNext) (a_robSrc1 := a_robSrc1) (a_robVal1 := a_robVal1) (a_robSrc2 := a_robSrc2) (a_robVal2 := a_robVal2) (a_robOp := a_robOp) (a_robC := a_robC) (a_robDest := a_robDest) (a_mapSlot := a_mapSlot) (a_unitBusy := a_unitBusy) (a_settings := a_settings) (a_queuePc := a_queuePc) (a_queueNext := a_queueNext) (a_ePc := a_ePc) (a_ePredicted := a_ePredicted) (a_eState := a_eState) (a_eRemaining := a_eRemaining) (a_eValue := a_eValue) (a_eFault := a_eFault) (a_eNext := a_eNext) (a_eWait1 := a_eWait1) (a_eVal1 := a_eVal1) (a_eWait2 := a_eWait2) (a_eVal2 := a_eVal2) (op := nI o) (y := 0) (x := a_regs jb) (cc := a_progC j) ha hb
        refine ⟨ph, pc, ep, ca, hd, ct, rg, a_memory, g1, fun post H => ?_, fun post H => ?_⟩
        · 
          refine nm_e (x_opAt hl ?_)
          rw [eo, qo]
          refine br_f (rc_nm1 (by omega)) (And.intro hin (nm_r (e' := nI ja) eqA (And.intro hin (nm_r (e' := nI jb) eqB (And.intro hin (nm_r (e' := a_progC j) eqC ?_))))))
          exact br_f hne (br_f h9 (And.intro (in_8 hbb) (nm_r (e' := a_regs jb) (by rw [hcb]) (br_t h7 (hX _ H)))))
        · 
          refine nm_e (y_opAt hl (y_aAt hl (y_bAt hl (y_cAt hl (y_reg (y_reg ?_))))))
          rw [eo, qo, ea, qa, eb, qb, ec, rg_n ha, rg_n hbb]
          exact br_t hp (br_f hne (br_f h9 (br_t h7 (hY _ H))))
      · have h7 : ¬ (7 : Int32) < nI o := nI_nlt (a := 7) (b := o) (by omega) (by omega)
        obtain ⟨jc, hjc, qc'⟩ := hcc (by rw [qo]; exact nI_le (a := 1) (by omega) (by omega)) (by rw [qo]; exact nI_le (b := 7) (by omega) (by omega))
        obtain ⟨ph, pc, ep, ca, hd, ct, rg, g1, hX, hY⟩ := j_s29 (w := w) (rs := rs) (len := len) (qh := qh) (qc := qc) (h := h) (c := c) (f_stations := f_stations) (f_queueSize := f_queueSize) (f_phase := f_phase) (f_pc := f_pc) (f_epc := f_epc) (f_cause := f_cause) (f_handling := f_handling) (f_vector := f_vector) (f_fetchPc := f_fetchPc) (f_parked := f_parked) (f_waitingCount := f_waitingCount) (f_memCount := f_memCount) (a_regs := a_regs) (a_memory := a_memory) (a_progOp := a_progOp) (a_progA := a_progA) (a_progB := a_progB) (a_progC := a_progC) (a_latency := a_latency) (a_counters := upd a_counters 1 (a_counters 1 + 1)) (a_fqPc := a_fqPc) (a_fqNext := a_fqNext) (a_twoBit := a_twoBit) (a_jumpDelta := a_jumpDelta) (a_robPc := a_robPc) (a_robPredicted := a_robPredicted) (a_robState := a_robState) (a_robRemaining := a_robRemaining) (a_robValue := a_robValue) (a_robFault := a_robFault) (a_robNext := a_robNext) (a_robSrc1 := a_robSrc1) (a_robVal1 := a_robVal1) (a_robSrc2 := a_robSrc2) (a_robVal2 := a_robVal2) (a_robOp := a_robOp) (a_robC := a_robC) (a_robDest := a_robDest) (a_mapSlot := a_mapSlot) (a_unitBusy := a_unitBusy) (a_settings := a_settings) (a_queuePc := a_queuePc) (a_queueNext := a_queueNext) (a_ePc := a_ePc) (a_ePredicted := a_ePredicted) (a_eState := a_eState) (a_eRemaining := a_eRemaining) (a_eValue := a_eValue) (a_eFault := a_eFault) (a_eNext := a_eNext) (a_eWait1 := a_eWait1) (a_eVal1 := a_eVal1) (a_eWait2 := a_eWait2) (a_eVal2 := a_eVal2) (op := nI o) (y := a_regs jc) (x := a_regs jb) (cc := a_progC j) ha hb
        refine ⟨ph, pc, ep, ca, hd, ct, rg, a_memory, g1, fun post H => ?_, fun post H => ?_⟩
        · 
          refine nm_e (x_opAt hl ?_)
          rw [eo, qo]
          refine br_f (rc_nm1 (by omega)) (And.intro hin (nm_r (e' := nI ja) eqA (And.intro hin (nm_r (e' := nI jb) eqB (And.intro hin (nm_r (e' := a_progC j) eqC ?_))))))
          refine br_f hne (br_f h9 (And.intro (in_8 hbb) (nm_r (e' := a_regs jb) (by rw [hcb]) (br_f h7 (And.intro ?_ (nm_r (e' := a_regs jc) ?_ (hX _ H)))))))
          · rw [qc', rc_and7 (by omega)]
            exact in_8 hjc
          · rw [qc', rc_and7 (by omega), nI_clamp (by omega)]
        · 
          refine nm_e (y_opAt hl (y_aAt hl (y_bAt hl (y_cAt hl (y_reg (y_reg ?_))))))
          rw [eo, qo, ea, qa, eb, qb, ec, rg_n ha, rg_n hbb]
          refine br_t hp (br_f hne (br_f h9 (br_f h7 (y_reg ?_))))
          have er : rc_rg a_regs (a_progC j) = a_regs jc := by rw [qc', rg_n hjc]
          rw [er]
          exact hY _ H
    · rcases ga_c (a_regs jb + a_progC j) with ⟨eg, hx⟩ | ⟨m, hm, hx, eg⟩
      · obtain ⟨ph, pc, ep, ca, hd, ct, g1, hX, hY⟩ := j_trap (w := w) (rs := rs) (len := len) (qh := qh) (qc := qc) (h := h) (c := c) (f_stations := f_stations) (f_queueSize := f_queueSize) (f_phase := f_phase) (f_pc := f_pc) (f_epc := f_epc) (f_cause := f_cause) (f_handling := f_handling) (f_vector := f_vector) (f_fetchPc := f_fetchPc) (f_parked := f_parked) (f_waitingCount := f_waitingCount) (f_memCount := f_memCount) (a_regs := a_regs) (a_memory := a_memory) (a_progOp := a_progOp) (a_progA := a_progA) (a_progB := a_progB) (a_progC := a_progC) (a_latency := a_latency) (a_counters := upd a_counters 1 (a_counters 1 + 1)) (a_fqPc := a_fqPc) (a_fqNext := a_fqNext) (a_twoBit := a_twoBit) (a_jumpDelta := a_jumpDelta) (a_robPc := a_robPc) (a_robPredicted := a_robPredicted) (a_robState := a_robState) (a_robRemaining := a_robRemaining) (a_robValue := a_robValue) (a_robFault := a_robFault) (a_robNext := a_robNext) (a_robSrc1 := a_robSrc1) (a_robVal1 := a_robVal1) (a_robSrc2 := a_robSrc2) (a_robVal2 := a_robVal2) (a_robOp := a_robOp) (a_robC := a_robC) (a_robDest := a_robDest) (a_mapSlot := a_mapSlot) (a_unitBusy := a_unitBusy) (a_settings := a_settings) (a_queuePc := a_queuePc) (a_queueNext := a_queueNext) (a_ePc := a_ePc) (a_ePredicted := a_ePredicted) (a_eState := a_eState) (a_eRemaining := a_eRemaining) (a_eValue := a_eValue) (a_eFault := a_eFault) (a_eNext := a_eNext) (a_eWait1 := a_eWait1) (a_eVal1 := a_eVal1) (a_eWait2 := a_eWait2) (a_eVal2 := a_eVal2) 3 hb
        refine ⟨ph, pc, ep, ca, hd, ct, a_regs, a_memory, g1, fun post H => ?_, fun post H => ?_⟩
        · 
          refine nm_e (x_opAt hl ?_)
          rw [eo, qo]
          refine br_f (rc_nm1 (by omega)) (And.intro hin (nm_r (e' := nI ja) eqA (And.intro hin (nm_r (e' := nI jb) eqB (And.intro hin (nm_r (e' := a_progC j) eqC ?_))))))
          exact br_f (by decide) (br_t (by decide) (br_f (by decide) (x_smBad hbb hx (hX _ H))))
        · 
          refine nm_e (y_opAt hl (y_aAt hl (y_bAt hl (y_cAt hl (y_reg (y_reg ?_))))))
          rw [eo, qo, ea, qa, eb, qb, ec, rg_n ha, rg_n hbb]
          refine br_t (by decide) (br_f (by decide) (br_t (by decide) (br_t rfl (nm_e (y_goodAddress ?_)))))
          rw [eg]
          exact br_t rfl (hY _ H)
      · refine ⟨f_phase, f_pc + 1, f_epc, f_cause, f_handling, upd a_counters 1 (a_counters 1 + 1), upd a_regs ja (a_memory m), a_memory, hb, fun post H => ?_, fun post H => ?_⟩
        · 
          refine nm_e (x_opAt hl ?_)
          rw [eo, qo]
          refine br_f (rc_nm1 (by omega)) (And.intro hin (nm_r (e' := nI ja) eqA (And.intro hin (nm_r (e' := nI jb) eqB (And.intro hin (nm_r (e' := a_progC j) eqC ?_))))))
          exact br_f (by decide) (br_t (by decide) (br_f (by decide) (x_smLd ha hbb hm hx H)))
        · 
          refine nm_e (y_opAt hl (y_aAt hl (y_bAt hl (y_cAt hl (y_reg (y_reg ?_))))))
          rw [eo, qo, ea, qa, eb, qb, ec, rg_n ha, rg_n hbb]
          refine br_t (by decide) (br_f (by decide) (br_t (by decide) (br_t rfl (nm_e (y_goodAddress ?_)))))
          rw [eg, hx]
          refine br_f (by decide) ?_
          refine y_mem ?_
          rw [mm_n hm]
          exact y_writeReg ha (nm_e H)
    · rcases ga_c (a_regs jb + a_progC j) with ⟨eg, hx⟩ | ⟨m, hm, hx, eg⟩
      · obtain ⟨ph, pc, ep, ca, hd, ct, g1, hX, hY⟩ := j_trap (w := w) (rs := rs) (len := len) (qh := qh) (qc := qc) (h := h) (c := c) (f_stations := f_stations) (f_queueSize := f_queueSize) (f_phase := f_phase) (f_pc := f_pc) (f_epc := f_epc) (f_cause := f_cause) (f_handling := f_handling) (f_vector := f_vector) (f_fetchPc := f_fetchPc) (f_parked := f_parked) (f_waitingCount := f_waitingCount) (f_memCount := f_memCount) (a_regs := a_regs) (a_memory := a_memory) (a_progOp := a_progOp) (a_progA := a_progA) (a_progB := a_progB) (a_progC := a_progC) (a_latency := a_latency) (a_counters := upd a_counters 1 (a_counters 1 + 1)) (a_fqPc := a_fqPc) (a_fqNext := a_fqNext) (a_twoBit := a_twoBit) (a_jumpDelta := a_jumpDelta) (a_robPc := a_robPc) (a_robPredicted := a_robPredicted) (a_robState := a_robState) (a_robRemaining := a_robRemaining) (a_robValue := a_robValue) (a_robFault := a_robFault) (a_robNext := a_robNext) (a_robSrc1 := a_robSrc1) (a_robVal1 := a_robVal1) (a_robSrc2 := a_robSrc2) (a_robVal2 := a_robVal2) (a_robOp := a_robOp) (a_robC := a_robC) (a_robDest := a_robDest) (a_mapSlot := a_mapSlot) (a_unitBusy := a_unitBusy) (a_settings := a_settings) (a_queuePc := a_queuePc) (a_queueNext := a_queueNext) (a_ePc := a_ePc) (a_ePredicted := a_ePredicted) (a_eState := a_eState) (a_eRemaining := a_eRemaining) (a_eValue := a_eValue) (a_eFault := a_eFault) (a_eNext := a_eNext) (a_eWait1 := a_eWait1) (a_eVal1 := a_eVal1) (a_eWait2 := a_eWait2) (a_eVal2 := a_eVal2) 3 hb
        refine ⟨ph, pc, ep, ca, hd, ct, a_regs, a_memory, g1, fun post H => ?_, fun post H => ?_⟩
        · 
          refine nm_e (x_opAt hl ?_)
          rw [eo, qo]
          refine br_f (rc_nm1 (by omega)) (And.intro hin (nm_r (e' := nI ja) eqA (And.intro hin (nm_r (e' := nI jb) eqB (And.intro hin (nm_r (e' := a_progC j) eqC ?_))))))
          exact br_f (by decide) (br_t (by decide) (br_f (by decide) (x_smBad hbb hx (hX _ H))))
        · 
          refine nm_e (y_opAt hl (y_aAt hl (y_bAt hl (y_cAt hl (y_reg (y_reg ?_))))))
          rw [eo, qo, ea, qa, eb, qb, ec, rg_n ha, rg_n hbb]
          refine br_t (by decide) (br_f (by decide) (br_t (by decide) (br_f (by decide) (br_t rfl (nm_e (y_goodAddress ?_))))))
          rw [eg]
          exact br_t rfl (hY _ H)
      · refine ⟨f_phase, f_pc + 1, f_epc, f_cause, f_handling, upd a_counters 1 (a_counters 1 + 1), a_regs, upd a_memory m (a_regs ja), hb, fun post H => ?_, fun post H => ?_⟩
        · 
          refine nm_e (x_opAt hl ?_)
          rw [eo, qo]
          refine br_f (rc_nm1 (by omega)) (And.intro hin (nm_r (e' := nI ja) eqA (And.intro hin (nm_r (e' := nI jb) eqB (And.intro hin (nm_r (e' := a_progC j) eqC ?_))))))
          exact br_f (by decide) (br_t (by decide) (br_f (by decide) (x_smSt ha hbb hm hx H)))
        · 
          refine nm_e (y_opAt hl (y_aAt hl (y_bAt hl (y_cAt hl (y_reg (y_reg ?_))))))
          rw [eo, qo, ea, qa, eb, qb, ec, rg_n ha, rg_n hbb]
          refine br_t (by decide) (br_f (by decide) (br_t (by decide) (br_f (by decide) (br_t rfl (nm_e (y_goodAddress ?_))))))
          rw [eg, hx]
          refine br_f (by decide) ?_
          exact y_writeMem hm (nm_e H)
    · by_cases hq : a_regs ja = a_regs jb
      · have et : rc_tk (nI 12) (a_regs ja) (a_regs jb) = 1 := by rw [rc_tk, if_pos (by decide), if_pos hq]
        refine ⟨f_phase, f_pc + a_progC j, f_epc, f_cause, f_handling, upd a_counters 1 (a_counters 1 + 1), a_regs, a_memory, hb, fun post H => ?_, fun post H => ?_⟩
        · 
          refine nm_e (x_opAt hl ?_)
          rw [eo, qo]
          refine br_f (rc_nm1 (by omega)) (And.intro hin (nm_r (e' := nI ja) eqA (And.intro hin (nm_r (e' := nI jb) eqB (And.intro hin (nm_r (e' := a_progC j) eqC ?_))))))
          refine br_f (by decide) (br_t (by decide) (br_t (by decide) (br_f (by decide) (br_f (by decide) (And.intro (in_8 ha) (And.intro (in_8 hbb) (x_taken ?_)))))))
          rw [hca, hcb, et]
          exact br_f (by decide) (nm_e H)
        · 
          refine nm_e (y_opAt hl (y_aAt hl (y_bAt hl (y_cAt hl (y_reg (y_reg ?_))))))
          rw [eo, qo, ea, qa, eb, qb, ec, rg_n ha, rg_n hbb]
          exact br_t (by decide) (br_f (by decide) (br_t (by decide) (br_f (by decide) (br_f (by decide) (br_t rfl (br_t hq (nm_e H)))))))
      · have et : rc_tk (nI 12) (a_regs ja) (a_regs jb) = 0 := by rw [rc_tk, if_pos (by decide), if_neg hq]
        refine ⟨f_phase, f_pc + 1, f_epc, f_cause, f_handling, upd a_counters 1 (a_counters 1 + 1), a_regs, a_memory, hb, fun post H => ?_, fun post H => ?_⟩
        · 
          refine nm_e (x_opAt hl ?_)
          rw [eo, qo]
          refine br_f (rc_nm1 (by omega)) (And.intro hin (nm_r (e' := nI ja) eqA (And.intro hin (nm_r (e' := nI jb) eqB (And.intro hin (nm_r (e' := a_progC j) eqC ?_))))))
          refine br_f (by decide) (br_t (by decide) (br_t (by decide) (br_f (by decide) (br_f (by decide) (And.intro (in_8 ha) (And.intro (in_8 hbb) (x_taken ?_)))))))
          rw [hca, hcb, et]
          exact br_t rfl (nm_e H)
        · 
          refine nm_e (y_opAt hl (y_aAt hl (y_bAt hl (y_cAt hl (y_reg (y_reg ?_))))))
          rw [eo, qo, ea, qa, eb, qb, ec, rg_n ha, rg_n hbb]
          exact br_t (by decide) (br_f (by decide) (br_t (by decide) (br_f (by decide) (br_f (by decide) (br_t rfl (br_f hq (nm_e H)))))))
    · by_cases hq : a_regs jb ≤ a_regs ja
      · have et : rc_tk (nI 13) (a_regs ja) (a_regs jb) = 0 := by rw [rc_tk, if_neg (by decide), if_pos hq]
        refine ⟨f_phase, f_pc + 1, f_epc, f_cause, f_handling, upd a_counters 1 (a_counters 1 + 1), a_regs, a_memory, hb, fun post H => ?_, fun post H => ?_⟩
        · 
          refine nm_e (x_opAt hl ?_)
          rw [eo, qo]
          refine br_f (rc_nm1 (by omega)) (And.intro hin (nm_r (e' := nI ja) eqA (And.intro hin (nm_r (e' := nI jb) eqB (And.intro hin (nm_r (e' := a_progC j) eqC ?_))))))
          refine br_f (by decide) (br_t (by decide) (br_t (by decide) (br_f (by decide) (br_f (by decide) (And.intro (in_8 ha) (And.intro (in_8 hbb) (x_taken ?_)))))))
          rw [hca, hcb, et]
          exact br_t rfl (nm_e H)
        · 
          refine nm_e (y_opAt hl (y_aAt hl (y_bAt hl (y_cAt hl (y_reg (y_reg ?_))))))
          rw [eo, qo, ea, qa, eb, qb, ec, rg_n ha, rg_n hbb]
          exact br_t (by decide) (br_f (by decide) (br_t (by decide) (br_f (by decide) (br_f (by decide) (br_f (by decide) (br_t rfl (br_t hq (nm_e H))))))))
      · have et : rc_tk (nI 13) (a_regs ja) (a_regs jb) = 1 := by rw [rc_tk, if_neg (by decide), if_neg hq]
        refine ⟨f_phase, f_pc + a_progC j, f_epc, f_cause, f_handling, upd a_counters 1 (a_counters 1 + 1), a_regs, a_memory, hb, fun post H => ?_, fun post H => ?_⟩
        · 
          refine nm_e (x_opAt hl ?_)
          rw [eo, qo]
          refine br_f (rc_nm1 (by omega)) (And.intro hin (nm_r (e' := nI ja) eqA (And.intro hin (nm_r (e' := nI jb) eqB (And.intro hin (nm_r (e' := a_progC j) eqC ?_))))))
          refine br_f (by decide) (br_t (by decide) (br_t (by decide) (br_f (by decide) (br_f (by decide) (And.intro (in_8 ha) (And.intro (in_8 hbb) (x_taken ?_)))))))
          rw [hca, hcb, et]
          exact br_f (by decide) (nm_e H)
        · 
          refine nm_e (y_opAt hl (y_aAt hl (y_bAt hl (y_cAt hl (y_reg (y_reg ?_))))))
          rw [eo, qo, ea, qa, eb, qb, ec, rg_n ha, rg_n hbb]
          exact br_t (by decide) (br_f (by decide) (br_t (by decide) (br_f (by decide) (br_f (by decide) (br_f (by decide) (br_t rfl (br_f hq (nm_e H))))))))
    · refine ⟨f_phase, a_regs jb + a_progC j, f_epc, f_cause, f_handling, upd a_counters 1 (a_counters 1 + 1), upd a_regs ja (f_pc + 1), a_memory, hb, fun post H => ?_, fun post H => ?_⟩
      · 
        refine nm_e (x_opAt hl ?_)
        rw [eo, qo]
        refine br_f (rc_nm1 (by omega)) (And.intro hin (nm_r (e' := nI ja) eqA (And.intro hin (nm_r (e' := nI jb) eqB (And.intro hin (nm_r (e' := a_progC j) eqC ?_))))))
        refine br_f (by decide) (br_t (by decide) (br_t (by decide) (br_f (by decide) (br_t rfl (And.intro (in_8 hbb) (nm_r (e' := a_regs jb + a_progC j) (by rw [hcb]) (And.intro (in_8 ha) (nm_r (e' := upd a_regs ja (f_pc + 1)) (by rw [hca]) H))))))))
      · 
        refine nm_e (y_opAt hl (y_aAt hl (y_bAt hl (y_cAt hl (y_reg (y_reg ?_))))))
        rw [eo, qo, ea, qa, eb, qb, ec, rg_n ha, rg_n hbb]
        exact br_t (by decide) (br_f (by decide) (br_t (by decide) (br_f (by decide) (br_f (by decide) (br_f (by decide) (br_f (by decide) (br_t rfl (nm_e (y_writeReg ha H)))))))))
    · by_cases c0 : a_progC j = 0
      · obtain ⟨ph, pc, ep, ca, hd, ct, g1, hX, hY⟩ := j_trap (w := w) (rs := rs) (len := len) (qh := qh) (qc := qc) (h := h) (c := c) (f_stations := f_stations) (f_queueSize := f_queueSize) (f_phase := f_phase) (f_pc := f_pc) (f_epc := f_epc) (f_cause := f_cause) (f_handling := f_handling) (f_vector := f_vector) (f_fetchPc := f_fetchPc) (f_parked := f_parked) (f_waitingCount := f_waitingCount) (f_memCount := f_memCount) (a_regs := a_regs) (a_memory := a_memory) (a_progOp := a_progOp) (a_progA := a_progA) (a_progB := a_progB) (a_progC := a_progC) (a_latency := a_latency) (a_counters := upd a_counters 1 (a_counters 1 + 1)) (a_fqPc := a_fqPc) (a_fqNext := a_fqNext) (a_twoBit := a_twoBit) (a_jumpDelta := a_jumpDelta) (a_robPc := a_robPc) (a_robPredicted := a_robPredicted) (a_robState := a_robState) (a_robRemaining := a_robRemaining) (a_robValue := a_robValue) (a_robFault := a_robFault) (a_robNext := a_robNext) (a_robSrc1 := a_robSrc1) (a_robVal1 := a_robVal1) (a_robSrc2 := a_robSrc2) (a_robVal2 := a_robVal2) (a_robOp := a_robOp) (a_robC := a_robC) (a_robDest := a_robDest) (a_mapSlot := a_mapSlot) (a_unitBusy := a_unitBusy) (a_settings := a_settings) (a_queuePc := a_queuePc) (a_queueNext := a_queueNext) (a_ePc := a_ePc) (a_ePredicted := a_ePredicted) (a_eState := a_eState) (a_eRemaining := a_eRemaining) (a_eValue := a_eValue) (a_eFault := a_eFault) (a_eNext := a_eNext) (a_eWait1 := a_eWait1) (a_eVal1 := a_eVal1) (a_eWait2 := a_eWait2) (a_eVal2 := a_eVal2) 5 hb
        refine ⟨ph, pc, ep, ca, hd, ct, a_regs, a_memory, g1, fun post H => ?_, fun post H => ?_⟩
        · 
          refine nm_e (x_opAt hl ?_)
          rw [eo, qo]
          refine br_f (rc_nm1 (by omega)) (And.intro hin (nm_r (e' := nI ja) eqA (And.intro hin (nm_r (e' := nI jb) eqB (And.intro hin (nm_r (e' := a_progC j) eqC ?_))))))
          exact br_f (by decide) (br_t (by decide) (br_t (by decide) (br_t (by decide) (br_f (by rw [c0]; decide) (br_f (by rw [c0]; decide) (br_t c0 (hX _ H)))))))
        · 
          refine nm_e (y_opAt hl (y_aAt hl (y_bAt hl (y_cAt hl (y_reg (y_reg ?_))))))
          rw [eo, qo, ea, qa, eb, qb, ec, rg_n ha, rg_n hbb]
          exact br_t (by decide) (br_f (by decide) (br_t (by decide) (br_f (by decide) (br_f (by decide) (br_f (by decide) (br_f (by decide) (br_f (by decide) (br_t c0 (hY _ H)))))))))
      · by_cases c1 : a_progC j = 1
        · obtain ⟨ph, pc, ep, ca, hd, ct, g1, hX, hY⟩ := j_ret (w := w) (rs := rs) (len := len) (qh := qh) (qc := qc) (h := h) (c := c) (f_stations := f_stations) (f_queueSize := f_queueSize) (f_phase := f_phase) (f_pc := f_pc) (f_epc := f_epc) (f_cause := f_cause) (f_handling := f_handling) (f_vector := f_vector) (f_fetchPc := f_fetchPc) (f_parked := f_parked) (f_waitingCount := f_waitingCount) (f_memCount := f_memCount) (a_regs := a_regs) (a_memory := a_memory) (a_progOp := a_progOp) (a_progA := a_progA) (a_progB := a_progB) (a_progC := a_progC) (a_latency := a_latency) (a_counters := upd a_counters 1 (a_counters 1 + 1)) (a_fqPc := a_fqPc) (a_fqNext := a_fqNext) (a_twoBit := a_twoBit) (a_jumpDelta := a_jumpDelta) (a_robPc := a_robPc) (a_robPredicted := a_robPredicted) (a_robState := a_robState) (a_robRemaining := a_robRemaining) (a_robValue := a_robValue) (a_robFault := a_robFault) (a_robNext := a_robNext) (a_robSrc1 := a_robSrc1) (a_robVal1 := a_robVal1) (a_robSrc2 := a_robSrc2) (a_robVal2 := a_robVal2) (a_robOp := a_robOp) (a_robC := a_robC) (a_robDest := a_robDest) (a_mapSlot := a_mapSlot) (a_unitBusy := a_unitBusy) (a_settings := a_settings) (a_queuePc := a_queuePc) (a_queueNext := a_queueNext) (a_ePc := a_ePc) (a_ePredicted := a_ePredicted) (a_eState := a_eState) (a_eRemaining := a_eRemaining) (a_eValue := a_eValue) (a_eFault := a_eFault) (a_eNext := a_eNext) (a_eWait1 := a_eWait1) (a_eVal1 := a_eVal1) (a_eWait2 := a_eWait2) (a_eVal2 := a_eVal2) (a_progC j) hb
          refine ⟨ph, pc, ep, ca, hd, ct, a_regs, a_memory, g1, fun post H => ?_, fun post H => ?_⟩
          · 
            refine nm_e (x_opAt hl ?_)
            rw [eo, qo]
            refine br_f (rc_nm1 (by omega)) (And.intro hin (nm_r (e' := nI ja) eqA (And.intro hin (nm_r (e' := nI jb) eqB (And.intro hin (nm_r (e' := a_progC j) eqC ?_))))))
            exact br_f (by decide) (br_t (by decide) (br_t (by decide) (br_t (by decide) (br_f (by rw [c1]; decide) (br_f (by rw [c1]; decide) (br_f c0 (br_t c1 (hX _ H))))))))
          · 
            refine nm_e (y_opAt hl (y_aAt hl (y_bAt hl (y_cAt hl (y_reg (y_reg ?_))))))
            rw [eo, qo, ea, qa, eb, qb, ec, rg_n ha, rg_n hbb]
            exact br_t (by decide) (br_f (by decide) (br_t (by decide) (br_f (by decide) (br_f (by decide) (br_f (by decide) (br_f (by decide) (br_f (by decide) (br_f c0 (br_t c1 (hY _ H))))))))))
        · by_cases c2 : a_progC j = 2
          · obtain ⟨ph, pc, ep, ca, hd, ct, g1, hX, hY⟩ := j_ret (w := w) (rs := rs) (len := len) (qh := qh) (qc := qc) (h := h) (c := c) (f_stations := f_stations) (f_queueSize := f_queueSize) (f_phase := f_phase) (f_pc := f_pc) (f_epc := f_epc) (f_cause := f_cause) (f_handling := f_handling) (f_vector := f_vector) (f_fetchPc := f_fetchPc) (f_parked := f_parked) (f_waitingCount := f_waitingCount) (f_memCount := f_memCount) (a_regs := a_regs) (a_memory := a_memory) (a_progOp := a_progOp) (a_progA := a_progA) (a_progB := a_progB) (a_progC := a_progC) (a_latency := a_latency) (a_counters := upd a_counters 1 (a_counters 1 + 1)) (a_fqPc := a_fqPc) (a_fqNext := a_fqNext) (a_twoBit := a_twoBit) (a_jumpDelta := a_jumpDelta) (a_robPc := a_robPc) (a_robPredicted := a_robPredicted) (a_robState := a_robState) (a_robRemaining := a_robRemaining) (a_robValue := a_robValue) (a_robFault := a_robFault) (a_robNext := a_robNext) (a_robSrc1 := a_robSrc1) (a_robVal1 := a_robVal1) (a_robSrc2 := a_robSrc2) (a_robVal2 := a_robVal2) (a_robOp := a_robOp) (a_robC := a_robC) (a_robDest := a_robDest) (a_mapSlot := a_mapSlot) (a_unitBusy := a_unitBusy) (a_settings := a_settings) (a_queuePc := a_queuePc) (a_queueNext := a_queueNext) (a_ePc := a_ePc) (a_ePredicted := a_ePredicted) (a_eState := a_eState) (a_eRemaining := a_eRemaining) (a_eValue := a_eValue) (a_eFault := a_eFault) (a_eNext := a_eNext) (a_eWait1 := a_eWait1) (a_eVal1 := a_eVal1) (a_eWait2 := a_eWait2) (a_eVal2 := a_eVal2) (a_progC j) hb
            refine ⟨ph, pc, ep, ca, hd, ct, a_regs, a_memory, g1, fun post H => ?_, fun post H => ?_⟩
            · 
              refine nm_e (x_opAt hl ?_)
              rw [eo, qo]
              refine br_f (rc_nm1 (by omega)) (And.intro hin (nm_r (e' := nI ja) eqA (And.intro hin (nm_r (e' := nI jb) eqB (And.intro hin (nm_r (e' := a_progC j) eqC ?_))))))
              exact br_f (by decide) (br_t (by decide) (br_t (by decide) (br_t (by decide) (br_f (by rw [c2]; decide) (br_f (by rw [c2]; decide) (br_f c0 (br_f c1 (br_t c2 (hX _ H)))))))))
            · 
              refine nm_e (y_opAt hl (y_aAt hl (y_bAt hl (y_cAt hl (y_reg (y_reg ?_))))))
              rw [eo, qo, ea, qa, eb, qb, ec, rg_n ha, rg_n hbb]
              exact br_t (by decide) (br_f (by decide) (br_t (by decide) (br_f (by decide) (br_f (by decide) (br_f (by decide) (br_f (by decide) (br_f (by decide) (br_f c0 (br_f c1 (br_t c2 (hY _ H)))))))))))
          · by_cases c3 : a_progC j = 3
            · refine ⟨f_phase, f_pc + 1, f_epc, f_cause, f_handling, upd a_counters 1 (a_counters 1 + 1), upd a_regs ja f_epc, a_memory, hb, fun post H => ?_, fun post H => ?_⟩
              · 
                refine nm_e (x_opAt hl ?_)
                rw [eo, qo]
                refine br_f (rc_nm1 (by omega)) (And.intro hin (nm_r (e' := nI ja) eqA (And.intro hin (nm_r (e' := nI jb) eqB (And.intro hin (nm_r (e' := a_progC j) eqC ?_))))))
                exact br_f (by decide) (br_t (by decide) (br_t (by decide) (br_t (by decide) (br_f (by rw [c3]; decide) (br_f (by rw [c3]; decide) (br_f c0 (br_f c1 (br_f c2 (br_t c3 (And.intro (in_8 ha) (nm_r (e' := upd a_regs ja f_epc) (by rw [hca]) (nm_e H))))))))))))
              · 
                refine nm_e (y_opAt hl (y_aAt hl (y_bAt hl (y_cAt hl (y_reg (y_reg ?_))))))
                rw [eo, qo, ea, qa, eb, qb, ec, rg_n ha, rg_n hbb]
                exact br_t (by decide) (br_f (by decide) (br_t (by decide) (br_f (by decide) (br_f (by decide) (br_f (by decide) (br_f (by decide) (br_f (by decide) (br_f c0 (br_f c1 (br_f c2 (br_t c3 (y_writeReg ha (nm_e H)))))))))))))
            · by_cases c4 : a_progC j = 4
              · refine ⟨f_phase, f_pc + 1, f_epc, f_cause, f_handling, upd a_counters 1 (a_counters 1 + 1), upd a_regs ja f_cause, a_memory, hb, fun post H => ?_, fun post H => ?_⟩
                · 
                  refine nm_e (x_opAt hl ?_)
                  rw [eo, qo]
                  refine br_f (rc_nm1 (by omega)) (And.intro hin (nm_r (e' := nI ja) eqA (And.intro hin (nm_r (e' := nI jb) eqB (And.intro hin (nm_r (e' := a_progC j) eqC ?_))))))
                  exact br_f (by decide) (br_t (by decide) (br_t (by decide) (br_t (by decide) (br_f (by rw [c4]; decide) (br_f (by rw [c4]; decide) (br_f c0 (br_f c1 (br_f c2 (br_f c3 (br_t c4 (And.intro (in_8 ha) (nm_r (e' := upd a_regs ja f_cause) (by rw [hca]) (nm_e H)))))))))))))
                · 
                  refine nm_e (y_opAt hl (y_aAt hl (y_bAt hl (y_cAt hl (y_reg (y_reg ?_))))))
                  rw [eo, qo, ea, qa, eb, qb, ec, rg_n ha, rg_n hbb]
                  exact br_t (by decide) (br_f (by decide) (br_t (by decide) (br_f (by decide) (br_f (by decide) (br_f (by decide) (br_f (by decide) (br_f (by decide) (br_f c0 (br_f c1 (br_f c2 (br_f c3 (br_t c4 (y_writeReg ha (nm_e H))))))))))))))
              · obtain ⟨ph, pc, ep, ca, hd, ct, g1, hX, hY⟩ := j_trap (w := w) (rs := rs) (len := len) (qh := qh) (qc := qc) (h := h) (c := c) (f_stations := f_stations) (f_queueSize := f_queueSize) (f_phase := f_phase) (f_pc := f_pc) (f_epc := f_epc) (f_cause := f_cause) (f_handling := f_handling) (f_vector := f_vector) (f_fetchPc := f_fetchPc) (f_parked := f_parked) (f_waitingCount := f_waitingCount) (f_memCount := f_memCount) (a_regs := a_regs) (a_memory := a_memory) (a_progOp := a_progOp) (a_progA := a_progA) (a_progB := a_progB) (a_progC := a_progC) (a_latency := a_latency) (a_counters := upd a_counters 1 (a_counters 1 + 1)) (a_fqPc := a_fqPc) (a_fqNext := a_fqNext) (a_twoBit := a_twoBit) (a_jumpDelta := a_jumpDelta) (a_robPc := a_robPc) (a_robPredicted := a_robPredicted) (a_robState := a_robState) (a_robRemaining := a_robRemaining) (a_robValue := a_robValue) (a_robFault := a_robFault) (a_robNext := a_robNext) (a_robSrc1 := a_robSrc1) (a_robVal1 := a_robVal1) (a_robSrc2 := a_robSrc2) (a_robVal2 := a_robVal2) (a_robOp := a_robOp) (a_robC := a_robC) (a_robDest := a_robDest) (a_mapSlot := a_mapSlot) (a_unitBusy := a_unitBusy) (a_settings := a_settings) (a_queuePc := a_queuePc) (a_queueNext := a_queueNext) (a_ePc := a_ePc) (a_ePredicted := a_ePredicted) (a_eState := a_eState) (a_eRemaining := a_eRemaining) (a_eValue := a_eValue) (a_eFault := a_eFault) (a_eNext := a_eNext) (a_eWait1 := a_eWait1) (a_eVal1 := a_eVal1) (a_eWait2 := a_eWait2) (a_eVal2 := a_eVal2) 4 hb
                refine ⟨ph, pc, ep, ca, hd, ct, a_regs, a_memory, g1, fun post H => ?_, fun post H => ?_⟩
                · 
                  refine nm_e (x_opAt hl ?_)
                  rw [eo, qo]
                  refine br_f (rc_nm1 (by omega)) (And.intro hin (nm_r (e' := nI ja) eqA (And.intro hin (nm_r (e' := nI jb) eqB (And.intro hin (nm_r (e' := a_progC j) eqC ?_))))))
                  exact br_f (by decide) (br_t (by decide) (br_t (by decide) (br_t (by decide) (br_c (fun _ => hX _ H) (fun _ => br_c (fun _ => hX _ H) (fun _ => br_f c0 (br_f c1 (br_f c2 (br_f c3 (br_f c4 (trivial)))))))))))
                · 
                  refine nm_e (y_opAt hl (y_aAt hl (y_bAt hl (y_cAt hl (y_reg (y_reg ?_))))))
                  rw [eo, qo, ea, qa, eb, qb, ec, rg_n ha, rg_n hbb]
                  exact br_t (by decide) (br_f (by decide) (br_t (by decide) (br_f (by decide) (br_f (by decide) (br_f (by decide) (br_f (by decide) (br_f (by decide) (br_f c0 (br_f c1 (br_f c2 (br_f c3 (br_f c4 (hY _ H)))))))))))))
end
end
section
/-! flush as one outcome; the oldest goes, on X and on Y -/
section
variable {w rs len qh qc h c : Nat} {f_stations f_queueSize f_phase f_pc f_epc f_cause f_handling f_vector f_fetchPc f_parked f_waitingCount f_memCount : Int32} {a_regs a_memory a_progOp a_progA a_progB a_progC a_latency a_counters a_fqPc a_fqNext a_twoBit a_jumpDelta a_robPc a_robPredicted a_robState a_robRemaining a_robValue a_robFault a_robNext a_robSrc1 a_robVal1 a_robSrc2 a_robVal2 a_robOp a_robC a_robDest a_mapSlot a_unitBusy a_settings a_queuePc a_queueNext a_ePc a_ePredicted a_eState a_eRemaining a_eValue a_eFault a_eNext a_eWait1 a_eVal1 a_eWait2 a_eVal2 : Nat → Int32}
theorem j_flush (H : rc_F0 w rs len qh qc h c f_stations f_queueSize f_waitingCount f_memCount a_latency a_settings a_progOp a_progA a_progB a_progC a_fqPc a_fqNext a_queuePc a_queueNext a_robPc a_robPredicted a_robState a_robRemaining a_robValue a_robFault a_robNext a_robSrc1 a_robVal1 a_robSrc2 a_robVal2 a_robOp a_robC a_robDest a_ePc a_ePredicted a_eState a_eRemaining a_eValue a_eFault a_eNext a_eWait1 a_eVal1 a_eWait2 a_eVal2 a_mapSlot a_unitBusy) : ∃ wc mc ms ub ct, rc_F0 w rs len 0 0 h 0 f_stations f_queueSize wc mc a_latency a_settings a_progOp a_progA a_progB a_progC a_fqPc a_fqNext a_queuePc a_queueNext a_robPc a_robPredicted a_robState a_robRemaining a_robValue a_robFault a_robNext a_robSrc1 a_robVal1 a_robSrc2 a_robVal2 a_robOp a_robC a_robDest a_ePc a_ePredicted a_eState a_eRemaining a_eValue a_eFault a_eNext a_eWait1 a_eVal1 a_eWait2 a_eVal2 ms ub ∧ (∀ post : SX → Prop, post ((nI rs), f_stations, f_queueSize, (nI w), f_phase, f_pc, f_epc, f_cause, f_handling, f_vector, (nI len), f_pc, 0, (nI 0), (nI 0), (nI h), (nI 0), wc, mc, a_regs, a_memory, a_progOp, a_progA, a_progB, a_progC, a_latency, ct, a_fqPc, a_fqNext, a_twoBit, a_jumpDelta, a_robPc, a_robPredicted, a_robState, a_robRemaining, a_robValue, a_robFault, a_robNext, a_robSrc1, a_robVal1, a_robSrc2, a_robVal2, a_robOp, a_robC, a_robDest, ms, ub) → wpX_flush post ((nI rs), f_stations, f_queueSize, (nI w), f_phase, f_pc, f_epc, f_cause, f_handling, f_vector, (nI len), f_fetchPc, f_parked, (nI qh), (nI qc), (nI h), (nI c), f_waitingCount, f_memCount, a_regs, a_memory, a_progOp, a_progA, a_progB, a_progC, a_latency, a_counters, a_fqPc, a_fqNext, a_twoBit, a_jumpDelta, a_robPc, a_robPredicted, a_robState, a_robRemaining, a_robValue, a_robFault, a_robNext, a_robSrc1, a_robVal1, a_robSrc2, a_robVal2, a_robOp, a_robC, a_robDest, a_mapSlot, a_unitBusy)) ∧ (∀ post : SY → Prop, post (f_pc, f_epc, f_cause, f_handling, f_vector, f_phase, (nI len), f_pc, 0, (nI 0), (nI 0), a_regs, a_memory, a_progOp, a_progA, a_progB, a_progC, ct, a_settings, a_queuePc, a_queueNext, a_twoBit, a_jumpDelta, a_ePc, a_ePredicted, a_eState, a_eRemaining, a_eValue, a_eFault, a_eNext, a_eWait1, a_eVal1, a_eWait2, a_eVal2) → wpY_flush post (f_pc, f_epc, f_cause, f_handling, f_vector, f_phase, (nI len), f_fetchPc, f_parked, (nI qc), (nI c), a_regs, a_memory, a_progOp, a_progA, a_progB, a_progC, a_counters, a_settings, a_queuePc, a_queueNext, a_twoBit, a_jumpDelta, a_ePc, a_ePredicted, a_eState, a_eRemaining, a_eValue, a_eFault, a_eNext, a_eWait1, a_eVal1, a_eWait2, a_eVal2)) := by
  obtain ⟨wc, mc, ms, ub, hF, hX⟩ := x_flush (w := w) (rs := rs) (len := len) (qh := qh) (qc := qc) (h := h) (c := c) (f_stations := f_stations) (f_queueSize := f_queueSize) (f_phase := f_phase) (f_pc := f_pc) (f_epc := f_epc) (f_cause := f_cause) (f_handling := f_handling) (f_vector := f_vector) (f_fetchPc := f_fetchPc) (f_parked := f_parked) (f_waitingCount := f_waitingCount) (f_memCount := f_memCount) (a_regs := a_regs) (a_memory := a_memory) (a_progOp := a_progOp) (a_progA := a_progA) (a_progB := a_progB) (a_progC := a_progC) (a_latency := a_latency) (a_counters := a_counters) (a_fqPc := a_fqPc) (a_fqNext := a_fqNext) (a_twoBit := a_twoBit) (a_jumpDelta := a_jumpDelta) (a_robPc := a_robPc) (a_robPredicted := a_robPredicted) (a_robState := a_robState) (a_robRemaining := a_robRemaining) (a_robValue := a_robValue) (a_robFault := a_robFault) (a_robNext := a_robNext) (a_robSrc1 := a_robSrc1) (a_robVal1 := a_robVal1) (a_robSrc2 := a_robSrc2) (a_robVal2 := a_robVal2) (a_robOp := a_robOp) (a_robC := a_robC) (a_robDest := a_robDest) (a_mapSlot := a_mapSlot) (a_unitBusy := a_unitBusy) H
  exact ⟨wc, mc, ms, ub, _, hF, hX, fun post h => y_flush h⟩
theorem x_ro39 {post : SX → Prop} (hh : h < 16) (H : post ((nI rs), f_stations, f_queueSize, (nI w), f_phase, f_pc, f_epc, f_cause, f_handling, f_vector, (nI len), f_fetchPc, f_parked, (nI qh), (nI qc), (nI ((h + 1) % 16)), (nI c), f_waitingCount, (rl_m f_memCount (a_robOp h)), a_regs, a_memory, a_progOp, a_progA, a_progB, a_progC, a_latency, a_counters, a_fqPc, a_fqNext, a_twoBit, a_jumpDelta, a_robPc, a_robPredicted, a_robState, a_robRemaining, a_robValue, a_robFault, a_robNext, a_robSrc1, a_robVal1, a_robSrc2, a_robVal2, a_robOp, a_robC, a_robDest, a_mapSlot, a_unitBusy)) : wX_removeOldest_39 post (nI h) (nI rs) f_stations f_queueSize (nI w) f_phase f_pc f_epc f_cause f_handling f_vector (nI len) f_fetchPc f_parked (nI qh) (nI qc) (nI h) (nI (c + 1)) f_waitingCount f_memCount a_regs a_memory a_progOp a_progA a_progB a_progC a_latency a_counters a_fqPc a_fqNext a_twoBit a_jumpDelta a_robPc a_robPredicted a_robState a_robRemaining a_robValue a_robFault a_robNext a_robSrc1 a_robVal1 a_robSrc2 a_robVal2 a_robOp a_robC a_robDest a_mapSlot a_unitBusy := by
  refine And.intro (vp_in_nI hh (by omega)) ?_
  rw [nI_clamp (by omega)]
  refine x_isMemory ?_
  by_cases q : a_robOp h = 10 ∨ a_robOp h = 11
  · rw [rl_m, if_pos q] at H
    rw [im_1 q]
    exact br_f (by decide) (nm_e (nm_r (rc_slot1 hh) (nm_r (nI_pred c) H)))
  · rw [rl_m, if_neg q] at H
    rw [im_0 q]
    exact br_t rfl (nm_r (rc_slot1 hh) (nm_r (nI_pred c) H))
theorem x_removeOldest (H : rc_F0 w rs len qh qc h (c + 1) f_stations f_queueSize f_waitingCount f_memCount a_latency a_settings a_progOp a_progA a_progB a_progC a_fqPc a_fqNext a_queuePc a_queueNext a_robPc a_robPredicted a_robState a_robRemaining a_robValue a_robFault a_robNext a_robSrc1 a_robVal1 a_robSrc2 a_robVal2 a_robOp a_robC a_robDest a_ePc a_ePredicted a_eState a_eRemaining a_eValue a_eFault a_eNext a_eWait1 a_eVal1 a_eWait2 a_eVal2 a_mapSlot a_unitBusy) : ∃ mc ms, (mc = if rc_op len a_progOp (a_ePc 0) = 10 ∨ rc_op len a_progOp (a_ePc 0) = 11 then f_memCount - 1 else f_memCount) ∧ (∀ r, r < 8 → ms r = if rc_dt len a_progOp a_progA a_progC (a_ePc 0) = nI r ∧ a_mapSlot r = nI h then -1 else a_mapSlot r) ∧ ∀ post : SX → Prop, post ((nI rs), f_stations, f_queueSize, (nI w), f_phase, f_pc, f_epc, f_cause, f_handling, f_vector, (nI len), f_fetchPc, f_parked, (nI qh), (nI qc), (nI ((h + 1) % 16)), (nI c), f_waitingCount, mc, a_regs, a_memory, a_progOp, a_progA, a_progB, a_progC, a_latency, a_counters, a_fqPc, a_fqNext, a_twoBit, a_jumpDelta, a_robPc, a_robPredicted, a_robState, a_robRemaining, a_robValue, a_robFault, a_robNext, a_robSrc1, a_robVal1, a_robSrc2, a_robVal2, a_robOp, a_robC, a_robDest, ms, a_unitBusy) → wpX_removeOldest post ((nI rs), f_stations, f_queueSize, (nI w), f_phase, f_pc, f_epc, f_cause, f_handling, f_vector, (nI len), f_fetchPc, f_parked, (nI qh), (nI qc), (nI h), (nI (c + 1)), f_waitingCount, f_memCount, a_regs, a_memory, a_progOp, a_progA, a_progB, a_progC, a_latency, a_counters, a_fqPc, a_fqNext, a_twoBit, a_jumpDelta, a_robPc, a_robPredicted, a_robState, a_robRemaining, a_robValue, a_robFault, a_robNext, a_robSrc1, a_robVal1, a_robSrc2, a_robVal2, a_robOp, a_robC, a_robDest, a_mapSlot, a_unitBusy) := by
  obtain ⟨hS, hP, hQ, ⟨hh, hc, r1, r2, r3, r4, r5, r6, r7, r8, r9, r10, r11, r12, r13, r14⟩, hI, hw, hm, hM, hU⟩ := H
  have hz : (h + 0) % 16 = h := by omega
  have e12 : a_robOp h = rc_op len a_progOp (a_ePc 0) := by have := r12 0 (by omega); rw [hz] at this; exact this
  have e14 : a_robDest h = rc_dt len a_progOp a_progA a_progC (a_ePc 0) := by have := r14 0 (by omega); rw [hz] at this; exact this
  have hcl : (nI h).toNatClampNeg = h := nI_clamp (by omega)
  have hin : vp_in (nI h) 16 := vp_in_nI hh (by omega)
  rcases dt_8 hP (a_ePc 0) with e | ⟨j, hj, e⟩
  · refine ⟨rl_m f_memCount (a_robOp h), a_mapSlot, by rw [rl_m, e12], fun r hr => ?_, fun post hp => ?_⟩
    · rw [if_neg (fun q => rc_nm1 (k := r) (by omega) (q.1.symm.trans e))]
    · exact And.intro hin (nm_r (e' := -1) (by rw [hcl, e14, e]) (br_t (by decide) (x_ro39 hh hp)))
  · by_cases q : a_mapSlot j = nI h
    · refine ⟨rl_m f_memCount (a_robOp h), upd a_mapSlot j (-1), by rw [rl_m, e12], fun r hr => ?_, fun post hp => ?_⟩
      · by_cases q1 : r = j
        · subst q1
          rw [pk_us, if_pos ⟨e, q⟩]
        · rw [pk_un q1, if_neg (fun q2 => q1 ((nI_eq (by omega) (by omega)).mp (q2.1.symm.trans e)))]
      · refine And.intro hin (nm_r (e' := nI j) (by rw [hcl, e14, e]) (br_f (nI_pos (by omega)) ?_))
        rw [rc_and7 (by omega), nI_clamp (n := j) (by omega)]
        exact And.intro (in_8 hj) (br_t q (And.intro (in_8 hj) (nm_e (x_ro39 hh hp))))
    · refine ⟨rl_m f_memCount (a_robOp h), a_mapSlot, by rw [rl_m, e12], fun r hr => ?_, fun post hp => ?_⟩
      · rw [if_neg]
        intro q2
        have q1 : r = j := (nI_eq (by omega) (by omega)).mp (q2.1.symm.trans e)
        exact q (q1 ▸ q2.2)
      · refine And.intro hin (nm_r (e' := nI j) (by rw [hcl, e14, e]) (br_f (nI_pos (by omega)) ?_))
        rw [rc_and7 (by omega), nI_clamp (n := j) (by omega)]
        exact And.intro (in_8 hj) (br_f q (x_ro39 hh hp))
/-! Y's shift -/
def rc_sh (i : Nat) (a b : Nat → Int32) : Prop := (∀ k, k < i → b k = a (k + 1)) ∧ ∀ k, i ≤ k → b k = a k
def rc_sw (i : Nat) (a b : Nat → Int32) : Prop := (∀ k, k < i → b k = rc_dc (a (k + 1))) ∧ ∀ k, i ≤ k → b k = a k
theorem sh_0 {a : Nat → Int32} : rc_sh 0 a a := ⟨fun k hk => absurd hk (by omega), fun _ _ => rfl⟩
theorem sw_0 {a : Nat → Int32} : rc_sw 0 a a := ⟨fun k hk => absurd hk (by omega), fun _ _ => rfl⟩
theorem sh_s {i : Nat} {a b : Nat → Int32} (S : rc_sh i a b) : rc_sh (i + 1) a (upd b i (b (i + 1))) := by
  constructor
  · intro k hk
    by_cases e : k = i
    · rw [e, pk_us]
      exact S.2 (i + 1) (by omega)
    · rw [pk_un e]
      exact S.1 k (by omega)
  · intro k hk
    rw [pk_un (by omega)]
    exact S.2 k (by omega)
theorem sw_s {i : Nat} {a b : Nat → Int32} (S : rc_sw i a b) : rc_sw (i + 1) a (upd (upd b i (b (i + 1))) i (rc_dc (upd b i (b (i + 1)) i))) := by
  constructor
  · intro k hk
    by_cases e : k = i
    · rw [e, pk_us, pk_us, S.2 (i + 1) (by omega)]
    · rw [pk_un e, pk_un e]
      exact S.1 k (by omega)
  · intro k hk
    rw [pk_un (by omega), pk_un (by omega)]
    exact S.2 k (by omega)
theorem up_same {a : Nat → Int32} {i : Nat} {v : Int32} (e : v = a i) : upd a i v = a := by
  funext k
  by_cases q : k = i
  · rw [q, pk_us, e]
  · rw [pk_un q]
theorem y_ro195 {post : SY → Prop} {J2 : Int32 → (Nat → Int32) → (Nat → Int32) → (Nat → Int32) → (Nat → Int32) → (Nat → Int32) → (Nat → Int32) → (Nat → Int32) → (Nat → Int32) → (Nat → Int32) → (Nat → Int32) → (Nat → Int32) → (Nat → Int32) → (Nat → Int32) → (Nat → Int32) → (Nat → Int32) → (Nat → Int32) → (Nat → Int32) → (Nat → Int32) → (Nat → Int32) → (Nat → Int32) → (Nat → Int32) → (Nat → Int32) → (Nat → Int32) → Prop} {i : Nat} (hi : i < 16) (H : J2 (nI (i + 1)) a_regs a_memory a_progOp a_progA a_progB a_progC a_counters a_settings a_queuePc a_queueNext a_twoBit a_jumpDelta a_ePc a_ePredicted a_eState a_eRemaining a_eValue a_eFault a_eNext a_eWait1 a_eVal1 (upd a_eWait2 i (rc_dc (a_eWait2 i))) a_eVal2) : wY_removeOldest_195 post J2 (nI i) f_pc f_epc f_cause f_handling f_vector f_phase (nI len) f_fetchPc f_parked (nI qc) (nI c) a_regs a_memory a_progOp a_progA a_progB a_progC a_counters a_settings a_queuePc a_queueNext a_twoBit a_jumpDelta a_ePc a_ePredicted a_eState a_eRemaining a_eValue a_eFault a_eNext a_eWait1 a_eVal1 a_eWait2 a_eVal2 := by
  have hin : vp_in (nI i) 16 := vp_in_nI hi (by omega)
  refine And.intro hin ?_
  rw [nI_clamp (by omega)]
  refine br_c (fun hle => ?_) (fun hgt => ?_)
  · rw [up_same (by rw [rc_dc, if_pos hle])] at H
    exact nm_r (nI_1 i) H
  · rw [rc_dc, if_neg hgt] at H
    exact And.intro hin (And.intro hin (nm_e (nm_r (nI_1 i) H)))
theorem y_ro2 (hc : c ≤ 15) : ∀ (d i : Nat) (y1 y2 y3 y4 y5 y6 y7 y8 y9 y10 y11 : Nat → Int32), i + d = c → rc_sh i a_ePc y1 → rc_sh i a_ePredicted y2 → rc_sh i a_eState y3 → rc_sh i a_eRemaining y4 → rc_sh i a_eValue y5 → rc_sh i a_eFault y6 → rc_sh i a_eNext y7 → rc_sw i a_eWait1 y8 → rc_sh i a_eVal1 y9 → rc_sw i a_eWait2 y10 → rc_sh i a_eVal2 y11 →
    ∃ z1 z2 z3 z4 z5 z6 z7 z8 z9 z10 z11, rc_sh c a_ePc z1 ∧ rc_sh c a_ePredicted z2 ∧ rc_sh c a_eState z3 ∧ rc_sh c a_eRemaining z4 ∧ rc_sh c a_eValue z5 ∧ rc_sh c a_eFault z6 ∧ rc_sh c a_eNext z7 ∧ rc_sw c a_eWait1 z8 ∧ rc_sh c a_eVal1 z9 ∧ rc_sw c a_eWait2 z10 ∧ rc_sh c a_eVal2 z11 ∧
      ∀ (post : SY → Prop) (n : Nat), d < n → post (f_pc, f_epc, f_cause, f_handling, f_vector, f_phase, (nI len), f_fetchPc, f_parked, (nI qc), (nI c), a_regs, a_memory, a_progOp, a_progA, a_progB, a_progC, a_counters, a_settings, a_queuePc, a_queueNext, a_twoBit, a_jumpDelta, z1, z2, z3, z4, z5, z6, z7, z8, z9, z10, z11) → wY_removeOldest_2 post f_pc f_epc f_cause f_handling f_vector f_phase (nI len) f_fetchPc f_parked (nI qc) (nI (c + 1)) n (nI i) a_regs a_memory a_progOp a_progA a_progB a_progC a_counters a_settings a_queuePc a_queueNext a_twoBit a_jumpDelta y1 y2 y3 y4 y5 y6 y7 y8 y9 y10 y11 := by
  intro d
  induction d with
  | zero =>
    intro i y1 y2 y3 y4 y5 y6 y7 y8 y9 y10 y11 hi s1 s2 s3 s4 s5 s6 s7 s8 s9 s10 s11
    have hi : i = c := by omega
    subst hi
    refine ⟨y1, y2, y3, y4, y5, y6, y7, y8, y9, y10, y11, s1, s2, s3, s4, s5, s6, s7, s8, s9, s10, s11, fun post n hn H => ?_⟩
    obtain ⟨n, rfl⟩ : ∃ m, n = m + 1 := ⟨n - 1, by omega⟩
    refine br_c (fun _ => nm_r (nI_pred i) H) (fun _ => br_t ?_ (nm_r (nI_pred i) H))
    rw [nI_1]
    exact nI_le (Nat.le_refl _) (by omega)
  | succ d ih =>
    intro i y1 y2 y3 y4 y5 y6 y7 y8 y9 y10 y11 hi s1 s2 s3 s4 s5 s6 s7 s8 s9 s10 s11
    obtain ⟨z1, z2, z3, z4, z5, z6, z7, z8, z9, z10, z11, t1, t2, t3, t4, t5, t6, t7, t8, t9, t10, t11, hw⟩ := ih (i + 1) _ _ _ _ _ _ _ _ _ _ _ (by omega) (sh_s s1) (sh_s s2) (sh_s s3) (sh_s s4) (sh_s s5) (sh_s s6) (sh_s s7) (sw_s s8) (sh_s s9) (sw_s s10) (sh_s s11)
    refine ⟨z1, z2, z3, z4, z5, z6, z7, z8, z9, z10, z11, t1, t2, t3, t4, t5, t6, t7, t8, t9, t10, t11, fun post n hn H => ?_⟩
    obtain ⟨n, rfl⟩ : ∃ m, n = m + 1 := ⟨n - 1, by omega⟩
    have hw' := hw post n (by omega) H
    have hin : vp_in (nI i) 16 := vp_in_nI (by omega) (by omega)
    have hin1 : vp_in (nI (i + 1)) 16 := vp_in_nI (by omega) (by omega)
    refine br_f (nI_ge (b := 15) (by omega) (by omega)) ?_
    rw [nI_1 i]
    refine br_f (nI_ge (by omega) (by omega)) ?_
    rw [nI_clamp (n := i + 1) (by omega), nI_clamp (n := i) (by omega)]
    refine And.intro hin1 (And.intro hin (nm_e (And.intro hin1 (And.intro hin (nm_e (And.intro hin1 (And.intro hin (nm_e (And.intro hin1 (And.intro hin (nm_e (And.intro hin1 (And.intro hin (nm_e (And.intro hin1 (And.intro hin (nm_e (And.intro hin1 (And.intro hin (nm_e (And.intro hin1 (And.intro hin (nm_e (And.intro hin1 (And.intro hin (nm_e (And.intro hin1 (And.intro hin (nm_e (And.intro hin1 (And.intro hin (nm_e (And.intro hin ?_)))))))))))))))))))))))))))))))))
    refine br_c (fun hle => ?_) (fun hgt => And.intro hin (And.intro hin (nm_e ?_)))
    · refine y_ro195 (by omega) ?_
      rw [up_same (a := upd y8 i (y8 (i + 1))) (by rw [rc_dc, if_pos hle])] at hw'
      exact hw'
    · refine y_ro195 (by omega) ?_
      have e : rc_dc (upd y8 i (y8 (i + 1)) i) = upd y8 i (y8 (i + 1)) i - 1 := by rw [rc_dc, if_neg hgt]
      rw [e] at hw'
      exact hw'
theorem y_removeOldest (hc : c ≤ 15) : ∃ z1 z2 z3 z4 z5 z6 z7 z8 z9 z10 z11, rc_sh c a_ePc z1 ∧ rc_sh c a_ePredicted z2 ∧ rc_sh c a_eState z3 ∧ rc_sh c a_eRemaining z4 ∧ rc_sh c a_eValue z5 ∧ rc_sh c a_eFault z6 ∧ rc_sh c a_eNext z7 ∧ rc_sw c a_eWait1 z8 ∧ rc_sh c a_eVal1 z9 ∧ rc_sw c a_eWait2 z10 ∧ rc_sh c a_eVal2 z11 ∧ ∀ (post : SY → Prop), post (f_pc, f_epc, f_cause, f_handling, f_vector, f_phase, (nI len), f_fetchPc, f_parked, (nI qc), (nI c), a_regs, a_memory, a_progOp, a_progA, a_progB, a_progC, a_counters, a_settings, a_queuePc, a_queueNext, a_twoBit, a_jumpDelta, z1, z2, z3, z4, z5, z6, z7, z8, z9, z10, z11) → wpY_removeOldest post (f_pc, f_epc, f_cause, f_handling, f_vector, f_phase, (nI len), f_fetchPc, f_parked, (nI qc), (nI (c + 1)), a_regs, a_memory, a_progOp, a_progA, a_progB, a_progC, a_counters, a_settings, a_queuePc, a_queueNext, a_twoBit, a_jumpDelta, a_ePc, a_ePredicted, a_eState, a_eRemaining, a_eValue, a_eFault, a_eNext, a_eWait1, a_eVal1, a_eWait2, a_eVal2) := by
  obtain ⟨z1, z2, z3, z4, z5, z6, z7, z8, z9, z10, z11, t1, t2, t3, t4, t5, t6, t7, t8, t9, t10, t11, hw⟩ := y_ro2 (len := len) (qc := qc) (c := c) (f_phase := f_phase) (f_pc := f_pc) (f_epc := f_epc) (f_cause := f_cause) (f_handling := f_handling) (f_vector := f_vector) (f_fetchPc := f_fetchPc) (f_parked := f_parked) (a_regs := a_regs) (a_memory := a_memory) (a_progOp := a_progOp) (a_progA := a_progA) (a_progB := a_progB) (a_progC := a_progC) (a_counters := a_counters) (a_settings := a_settings) (a_queuePc := a_queuePc) (a_queueNext := a_queueNext) (a_twoBit := a_twoBit) (a_jumpDelta := a_jumpDelta) (a_ePc := a_ePc) (a_ePredicted := a_ePredicted) (a_eState := a_eState) (a_eRemaining := a_eRemaining) (a_eValue := a_eValue) (a_eFault := a_eFault) (a_eNext := a_eNext) (a_eWait1 := a_eWait1) (a_eVal1 := a_eVal1) (a_eWait2 := a_eWait2) (a_eVal2 := a_eVal2) hc c 0 _ _ _ _ _ _ _ _ _ _ _ (by omega) sh_0 sh_0 sh_0 sh_0 sh_0 sh_0 sh_0 sw_0 sh_0 sw_0 sh_0
  exact ⟨z1, z2, z3, z4, z5, z6, z7, z8, z9, z10, z11, t1, t2, t3, t4, t5, t6, t7, t8, t9, t10, t11, fun post H => ⟨c + 1, hw post (c + 1) (by omega) H⟩⟩
/-- the oldest goes, on both sides -/
theorem j_pop (H : rc_F0 w rs len qh qc h (c + 1) f_stations f_queueSize f_waitingCount f_memCount a_latency a_settings a_progOp a_progA a_progB a_progC a_fqPc a_fqNext a_queuePc a_queueNext a_robPc a_robPredicted a_robState a_robRemaining a_robValue a_robFault a_robNext a_robSrc1 a_robVal1 a_robSrc2 a_robVal2 a_robOp a_robC a_robDest a_ePc a_ePredicted a_eState a_eRemaining a_eValue a_eFault a_eNext a_eWait1 a_eVal1 a_eWait2 a_eVal2 a_mapSlot a_unitBusy) (h0 : a_eState 0 = 3) : ∃ mc ms z1 z2 z3 z4 z5 z6 z7 z8 z9 z10 z11, rc_F0 w rs len qh qc ((h + 1) % 16) c f_stations f_queueSize f_waitingCount mc a_latency a_settings a_progOp a_progA a_progB a_progC a_fqPc a_fqNext a_queuePc a_queueNext a_robPc a_robPredicted a_robState a_robRemaining a_robValue a_robFault a_robNext a_robSrc1 a_robVal1 a_robSrc2 a_robVal2 a_robOp a_robC a_robDest z1 z2 z3 z4 z5 z6 z7 z8 z9 z10 z11 ms a_unitBusy ∧ (∀ post : SX → Prop, post ((nI rs), f_stations, f_queueSize, (nI w), f_phase, f_pc, f_epc, f_cause, f_handling, f_vector, (nI len), f_fetchPc, f_parked, (nI qh), (nI qc), (nI ((h + 1) % 16)), (nI c), f_waitingCount, mc, a_regs, a_memory, a_progOp, a_progA, a_progB, a_progC, a_latency, a_counters, a_fqPc, a_fqNext, a_twoBit, a_jumpDelta, a_robPc, a_robPredicted, a_robState, a_robRemaining, a_robValue, a_robFault, a_robNext, a_robSrc1, a_robVal1, a_robSrc2, a_robVal2, a_robOp, a_robC, a_robDest, ms, a_unitBusy) → wpX_removeOldest post ((nI rs), f_stations, f_queueSize, (nI w), f_phase, f_pc, f_epc, f_cause, f_handling, f_vector, (nI len), f_fetchPc, f_parked, (nI qh), (nI qc), (nI h), (nI (c + 1)), f_waitingCount, f_memCount, a_regs, a_memory, a_progOp, a_progA, a_progB, a_progC, a_latency, a_counters, a_fqPc, a_fqNext, a_twoBit, a_jumpDelta, a_robPc, a_robPredicted, a_robState, a_robRemaining, a_robValue, a_robFault, a_robNext, a_robSrc1, a_robVal1, a_robSrc2, a_robVal2, a_robOp, a_robC, a_robDest, a_mapSlot, a_unitBusy)) ∧ (∀ (post : SY → Prop), post (f_pc, f_epc, f_cause, f_handling, f_vector, f_phase, (nI len), f_fetchPc, f_parked, (nI qc), (nI c), a_regs, a_memory, a_progOp, a_progA, a_progB, a_progC, a_counters, a_settings, a_queuePc, a_queueNext, a_twoBit, a_jumpDelta, z1, z2, z3, z4, z5, z6, z7, z8, z9, z10, z11) → wpY_removeOldest post (f_pc, f_epc, f_cause, f_handling, f_vector, f_phase, (nI len), f_fetchPc, f_parked, (nI qc), (nI (c + 1)), a_regs, a_memory, a_progOp, a_progA, a_progB, a_progC, a_counters, a_settings, a_queuePc, a_queueNext, a_twoBit, a_jumpDelta, a_ePc, a_ePredicted, a_eState, a_eRemaining, a_eValue, a_eFault, a_eNext, a_eWait1, a_eVal1, a_eWait2, a_eVal2)) := by
  have hc : c + 1 ≤ 16 := H.2.2.2.1.2.1
  obtain ⟨mc, ms, e1, e2, hX⟩ := x_removeOldest (w := w) (rs := rs) (len := len) (qh := qh) (qc := qc) (h := h) (c := c) (f_stations := f_stations) (f_queueSize := f_queueSize) (f_phase := f_phase) (f_pc := f_pc) (f_epc := f_epc) (f_cause := f_cause) (f_handling := f_handling) (f_vector := f_vector) (f_fetchPc := f_fetchPc) (f_parked := f_parked) (f_waitingCount := f_waitingCount) (f_memCount := f_memCount) (a_regs := a_regs) (a_memory := a_memory) (a_progOp := a_progOp) (a_progA := a_progA) (a_progB := a_progB) (a_progC := a_progC) (a_latency := a_latency) (a_counters := a_counters) (a_fqPc := a_fqPc) (a_fqNext := a_fqNext) (a_twoBit := a_twoBit) (a_jumpDelta := a_jumpDelta) (a_robPc := a_robPc) (a_robPredicted := a_robPredicted) (a_robState := a_robState) (a_robRemaining := a_robRemaining) (a_robValue := a_robValue) (a_robFault := a_robFault) (a_robNext := a_robNext) (a_robSrc1 := a_robSrc1) (a_robVal1 := a_robVal1) (a_robSrc2 := a_robSrc2) (a_robVal2 := a_robVal2) (a_robOp := a_robOp) (a_robC := a_robC) (a_robDest := a_robDest) (a_mapSlot := a_mapSlot) (a_unitBusy := a_unitBusy) H
  obtain ⟨z1, z2, z3, z4, z5, z6, z7, z8, z9, z10, z11, t1, t2, t3, t4, t5, t6, t7, t8, t9, t10, t11, hY⟩ := y_removeOldest (len := len) (qc := qc) (c := c) (f_phase := f_phase) (f_pc := f_pc) (f_epc := f_epc) (f_cause := f_cause) (f_handling := f_handling) (f_vector := f_vector) (f_fetchPc := f_fetchPc) (f_parked := f_parked) (a_regs := a_regs) (a_memory := a_memory) (a_progOp := a_progOp) (a_progA := a_progA) (a_progB := a_progB) (a_progC := a_progC) (a_counters := a_counters) (a_settings := a_settings) (a_queuePc := a_queuePc) (a_queueNext := a_queueNext) (a_twoBit := a_twoBit) (a_jumpDelta := a_jumpDelta) (a_ePc := a_ePc) (a_ePredicted := a_ePredicted) (a_eState := a_eState) (a_eRemaining := a_eRemaining) (a_eValue := a_eValue) (a_eFault := a_eFault) (a_eNext := a_eNext) (a_eWait1 := a_eWait1) (a_eVal1 := a_eVal1) (a_eWait2 := a_eWait2) (a_eVal2 := a_eVal2) (by omega)
  exact ⟨mc, ms, z1, z2, z3, z4, z5, z6, z7, z8, z9, z10, z11, f0_pop H h0 t1.1 t2.1 t3.1 t4.1 t5.1 t6.1 t7.1 t8.1 t9.1 t10.1 t11.1 e1 e2, hX, hY⟩
end
end
section
/-! one tuple for both states; the loops as predicates of a state; the lockstep loop -/
abbrev rc_Z : Type := Nat × Nat × Nat × Nat × Nat × Nat × Nat × Int32 × Int32 × Int32 × Int32 × Int32 × Int32 × Int32 × Int32 × Int32 × Int32 × Int32 × Int32 × (Nat → Int32) × (Nat → Int32) × (Nat → Int32) × (Nat → Int32) × (Nat → Int32) × (Nat → Int32) × (Nat → Int32) × (Nat → Int32) × (Nat → Int32) × (Nat → Int32) × (Nat → Int32) × (Nat → Int32) × (Nat → Int32) × (Nat → Int32) × (Nat → Int32) × (Nat → Int32) × (Nat → Int32) × (Nat → Int32) × (Nat → Int32) × (Nat → Int32) × (Nat → Int32) × (Nat → Int32) × (Nat → Int32) × (Nat → Int32) × (Nat → Int32) × (Nat → Int32) × (Nat → Int32) × (Nat → Int32) × (Nat → Int32) × (Nat → Int32) × (Nat → Int32) × (Nat → Int32) × (Nat → Int32) × (Nat → Int32) × (Nat → Int32) × (Nat → Int32) × (Nat → Int32) × (Nat → Int32) × (Nat → Int32) × (Nat → Int32) × (Nat → Int32) × (Nat → Int32)
def rc_zX (z : rc_Z) : SX := match z with
  | (w, rs, len, qh, qc, h, c, f_stations, f_queueSize, f_phase, f_pc, f_epc, f_cause, f_handling, f_vector, f_fetchPc, f_parked, f_waitingCount, f_memCount, a_regs, a_memory, a_progOp, a_progA, a_progB, a_progC, a_latency, a_counters, a_fqPc, a_fqNext, a_twoBit, a_jumpDelta, a_robPc, a_robPredicted, a_robState, a_robRemaining, a_robValue, a_robFault, a_robNext, a_robSrc1, a_robVal1, a_robSrc2, a_robVal2, a_robOp, a_robC, a_robDest, a_mapSlot, a_unitBusy, a_settings, a_queuePc, a_queueNext, a_ePc, a_ePredicted, a_eState, a_eRemaining, a_eValue, a_eFault, a_eNext, a_eWait1, a_eVal1, a_eWait2, a_eVal2) => ((nI rs), f_stations, f_queueSize, (nI w), f_phase, f_pc, f_epc, f_cause, f_handling, f_vector, (nI len), f_fetchPc, f_parked, (nI qh), (nI qc), (nI h), (nI c), f_waitingCount, f_memCount, a_regs, a_memory, a_progOp, a_progA, a_progB, a_progC, a_latency, a_counters, a_fqPc, a_fqNext, a_twoBit, a_jumpDelta, a_robPc, a_robPredicted, a_robState, a_robRemaining, a_robValue, a_robFault, a_robNext, a_robSrc1, a_robVal1, a_robSrc2, a_robVal2, a_robOp, a_robC, a_robDest, a_mapSlot, a_unitBusy)
def rc_zY (z : rc_Z) : SY := match z with
  | (w, rs, len, qh, qc, h, c, f_stations, f_queueSize, f_phase, f_pc, f_epc, f_cause, f_handling, f_vector, f_fetchPc, f_parked, f_waitingCount, f_memCount, a_regs, a_memory, a_progOp, a_progA, a_progB, a_progC, a_latency, a_counters, a_fqPc, a_fqNext, a_twoBit, a_jumpDelta, a_robPc, a_robPredicted, a_robState, a_robRemaining, a_robValue, a_robFault, a_robNext, a_robSrc1, a_robVal1, a_robSrc2, a_robVal2, a_robOp, a_robC, a_robDest, a_mapSlot, a_unitBusy, a_settings, a_queuePc, a_queueNext, a_ePc, a_ePredicted, a_eState, a_eRemaining, a_eValue, a_eFault, a_eNext, a_eWait1, a_eVal1, a_eWait2, a_eVal2) => (f_pc, f_epc, f_cause, f_handling, f_vector, f_phase, (nI len), f_fetchPc, f_parked, (nI qc), (nI c), a_regs, a_memory, a_progOp, a_progA, a_progB, a_progC, a_counters, a_settings, a_queuePc, a_queueNext, a_twoBit, a_jumpDelta, a_ePc, a_ePredicted, a_eState, a_eRemaining, a_eValue, a_eFault, a_eNext, a_eWait1, a_eVal1, a_eWait2, a_eVal2)
def rc_FZ (z : rc_Z) : Prop := match z with
  | (w, rs, len, qh, qc, h, c, f_stations, f_queueSize, f_phase, f_pc, f_epc, f_cause, f_handling, f_vector, f_fetchPc, f_parked, f_waitingCount, f_memCount, a_regs, a_memory, a_progOp, a_progA, a_progB, a_progC, a_latency, a_counters, a_fqPc, a_fqNext, a_twoBit, a_jumpDelta, a_robPc, a_robPredicted, a_robState, a_robRemaining, a_robValue, a_robFault, a_robNext, a_robSrc1, a_robVal1, a_robSrc2, a_robVal2, a_robOp, a_robC, a_robDest, a_mapSlot, a_unitBusy, a_settings, a_queuePc, a_queueNext, a_ePc, a_ePredicted, a_eState, a_eRemaining, a_eValue, a_eFault, a_eNext, a_eWait1, a_eVal1, a_eWait2, a_eVal2) => (rc_F0 w rs len qh qc h c f_stations f_queueSize f_waitingCount f_memCount a_latency a_settings a_progOp a_progA a_progB a_progC a_fqPc a_fqNext a_queuePc a_queueNext a_robPc a_robPredicted a_robState a_robRemaining a_robValue a_robFault a_robNext a_robSrc1 a_robVal1 a_robSrc2 a_robVal2 a_robOp a_robC a_robDest a_ePc a_ePredicted a_eState a_eRemaining a_eValue a_eFault a_eNext a_eWait1 a_eVal1 a_eWait2 a_eVal2 a_mapSlot a_unitBusy) ∧ (f_handling = 0 ∨ f_handling = 1) ∧ (f_parked = 0 ∨ f_parked = 1) ∧ (f_phase = 1 ∨ c = 0)
def rc_zw (z : rc_Z) : Nat := match z with
  | (w, rs, len, qh, qc, h, c, f_stations, f_queueSize, f_phase, f_pc, f_epc, f_cause, f_handling, f_vector, f_fetchPc, f_parked, f_waitingCount, f_memCount, a_regs, a_memory, a_progOp, a_progA, a_progB, a_progC, a_latency, a_counters, a_fqPc, a_fqNext, a_twoBit, a_jumpDelta, a_robPc, a_robPredicted, a_robState, a_robRemaining, a_robValue, a_robFault, a_robNext, a_robSrc1, a_robVal1, a_robSrc2, a_robVal2, a_robOp, a_robC, a_robDest, a_mapSlot, a_unitBusy, a_settings, a_queuePc, a_queueNext, a_ePc, a_ePredicted, a_eState, a_eRemaining, a_eValue, a_eFault, a_eNext, a_eWait1, a_eVal1, a_eWait2, a_eVal2) => w
def rc_zp (z : rc_Z) : Int32 := match z with
  | (w, rs, len, qh, qc, h, c, f_stations, f_queueSize, f_phase, f_pc, f_epc, f_cause, f_handling, f_vector, f_fetchPc, f_parked, f_waitingCount, f_memCount, a_regs, a_memory, a_progOp, a_progA, a_progB, a_progC, a_latency, a_counters, a_fqPc, a_fqNext, a_twoBit, a_jumpDelta, a_robPc, a_robPredicted, a_robState, a_robRemaining, a_robValue, a_robFault, a_robNext, a_robSrc1, a_robVal1, a_robSrc2, a_robVal2, a_robOp, a_robC, a_robDest, a_mapSlot, a_unitBusy, a_settings, a_queuePc, a_queueNext, a_ePc, a_ePredicted, a_eState, a_eRemaining, a_eValue, a_eFault, a_eNext, a_eWait1, a_eVal1, a_eWait2, a_eVal2) => f_phase
def rc_zc (z : rc_Z) : Nat := match z with
  | (w, rs, len, qh, qc, h, c, f_stations, f_queueSize, f_phase, f_pc, f_epc, f_cause, f_handling, f_vector, f_fetchPc, f_parked, f_waitingCount, f_memCount, a_regs, a_memory, a_progOp, a_progA, a_progB, a_progC, a_latency, a_counters, a_fqPc, a_fqNext, a_twoBit, a_jumpDelta, a_robPc, a_robPredicted, a_robState, a_robRemaining, a_robValue, a_robFault, a_robNext, a_robSrc1, a_robVal1, a_robSrc2, a_robVal2, a_robOp, a_robC, a_robDest, a_mapSlot, a_unitBusy, a_settings, a_queuePc, a_queueNext, a_ePc, a_ePredicted, a_eState, a_eRemaining, a_eValue, a_eFault, a_eNext, a_eWait1, a_eVal1, a_eWait2, a_eVal2) => c
theorem rc_el {P : rc_Z → Prop} (H : ∀ (w rs len qh qc h c : Nat) (f_stations f_queueSize f_phase f_pc f_epc f_cause f_handling f_vector f_fetchPc f_parked f_waitingCount f_memCount : Int32) (a_regs a_memory a_progOp a_progA a_progB a_progC a_latency a_counters a_fqPc a_fqNext a_twoBit a_jumpDelta a_robPc a_robPredicted a_robState a_robRemaining a_robValue a_robFault a_robNext a_robSrc1 a_robVal1 a_robSrc2 a_robVal2 a_robOp a_robC a_robDest a_mapSlot a_unitBusy a_settings a_queuePc a_queueNext a_ePc a_ePredicted a_eState a_eRemaining a_eValue a_eFault a_eNext a_eWait1 a_eVal1 a_eWait2 a_eVal2 : Nat → Int32), P (w, rs, len, qh, qc, h, c, f_stations, f_queueSize, f_phase, f_pc, f_epc, f_cause, f_handling, f_vector, f_fetchPc, f_parked, f_waitingCount, f_memCount, a_regs, a_memory, a_progOp, a_progA, a_progB, a_progC, a_latency, a_counters, a_fqPc, a_fqNext, a_twoBit, a_jumpDelta, a_robPc, a_robPredicted, a_robState, a_robRemaining, a_robValue, a_robFault, a_robNext, a_robSrc1, a_robVal1, a_robSrc2, a_robVal2, a_robOp, a_robC, a_robDest, a_mapSlot, a_unitBusy, a_settings, a_queuePc, a_queueNext, a_ePc, a_ePredicted, a_eState, a_eRemaining, a_eValue, a_eFault, a_eNext, a_eWait1, a_eVal1, a_eWait2, a_eVal2)) (z : rc_Z) : P z := H z.1 z.2.1 z.2.2.1 z.2.2.2.1 z.2.2.2.2.1 z.2.2.2.2.2.1 z.2.2.2.2.2.2.1 z.2.2.2.2.2.2.2.1 z.2.2.2.2.2.2.2.2.1 z.2.2.2.2.2.2.2.2.2.1 z.2.2.2.2.2.2.2.2.2.2.1 z.2.2.2.2.2.2.2.2.2.2.2.1 z.2.2.2.2.2.2.2.2.2.2.2.2.1 z.2.2.2.2.2.2.2.2.2.2.2.2.2.1 z.2.2.2.2.2.2.2.2.2.2.2.2.2.2.1 z.2.2.2.2.2.2.2.2.2.2.2.2.2.2.2.1 z.2.2.2.2.2.2.2.2.2.2.2.2.2.2.2.2.1 z.2.2.2.2.2.2.2.2.2.2.2.2.2.2.2.2.2.1 z.2.2.2.2.2.2.2.2.2.2.2.2.2.2.2.2.2.2.1 z.2.2.2.2.2.2.2.2.2.2.2.2.2.2.2.2.2.2.2.1 z.2.2.2.2.2.2.2.2.2.2.2.2.2.2.2.2.2.2.2.2.1 z.2.2.2.2.2.2.2.2.2.2.2.2.2.2.2.2.2.2.2.2.2.1 z.2.2.2.2.2.2.2.2.2.2.2.2.2.2.2.2.2.2.2.2.2.2.1 z.2.2.2.2.2.2.2.2.2.2.2.2.2.2.2.2.2.2.2.2.2.2.2.1 z.2.2.2.2.2.2.2.2.2.2.2.2.2.2.2.2.2.2.2.2.2.2.2.2.1 z.2.2.2.2.2.2.2.2.2.2.2.2.2.2.2.2.2.2.2.2.2.2.2.2.2.1 z.2.2.2.2.2.2.2.2.2.2.2.2.2.2.2.2.2.2.2.2.2.2.2.2.2.2.1 z.2.2.2.2.2.2.2.2.2.2.2.2.2.2.2.2.2.2.2.2.2.2.2.2.2.2.2.1 z.2.2.2.2.2.2.2.2.2.2.2.2.2.2.2.2.2.2.2.2.2.2.2.2.2.2.2.2.1 z.2.2.2.2.2.2.2.2.2.2.2.2.2.2.2.2.2.2.2.2.2.2.2.2.2.2.2.2.2.1 z.2.2.2.2.2.2.2.2.2.2.2.2.2.2.2.2.2.2.2.2.2.2.2.2.2.2.2.2.2.2.1 z.2.2.2.2.2.2.2.2.2.2.2.2.2.2.2.2.2.2.2.2.2.2.2.2.2.2.2.2.2.2.2.1 z.2.2.2.2.2.2.2.2.2.2.2.2.2.2.2.2.2.2.2.2.2.2.2.2.2.2.2.2.2.2.2.2.1 z.2.2.2.2.2.2.2.2.2.2.2.2.2.2.2.2.2.2.2.2.2.2.2.2.2.2.2.2.2.2.2.2.2.1 z.2.2.2.2.2.2.2.2.2.2.2.2.2.2.2.2.2.2.2.2.2.2.2.2.2.2.2.2.2.2.2.2.2.2.1 z.2.2.2.2.2.2.2.2.2.2.2.2.2.2.2.2.2.2.2.2.2.2.2.2.2.2.2.2.2.2.2.2.2.2.2.1 z.2.2.2.2.2.2.2.2.2.2.2.2.2.2.2.2.2.2.2.2.2.2.2.2.2.2.2.2.2.2.2.2.2.2.2.2.1 z.2.2.2.2.2.2.2.2.2.2.2.2.2.2.2.2.2.2.2.2.2.2.2.2.2.2.2.2.2.2.2.2.2.2.2.2.2.1 z.2.2.2.2.2.2.2.2.2.2.2.2.2.2.2.2.2.2.2.2.2.2.2.2.2.2.2.2.2.2.2.2.2.2.2.2.2.2.1 z.2.2.2.2.2.2.2.2.2.2.2.2.2.2.2.2.2.2.2.2.2.2.2.2.2.2.2.2.2.2.2.2.2.2.2.2.2.2.2.1 z.2.2.2.2.2.2.2.2.2.2.2.2.2.2.2.2.2.2.2.2.2.2.2.2.2.2.2.2.2.2.2.2.2.2.2.2.2.2.2.2.1 z.2.2.2.2.2.2.2.2.2.2.2.2.2.2.2.2.2.2.2.2.2.2.2.2.2.2.2.2.2.2.2.2.2.2.2.2.2.2.2.2.2.1 z.2.2.2.2.2.2.2.2.2.2.2.2.2.2.2.2.2.2.2.2.2.2.2.2.2.2.2.2.2.2.2.2.2.2.2.2.2.2.2.2.2.2.1 z.2.2.2.2.2.2.2.2.2.2.2.2.2.2.2.2.2.2.2.2.2.2.2.2.2.2.2.2.2.2.2.2.2.2.2.2.2.2.2.2.2.2.2.1 z.2.2.2.2.2.2.2.2.2.2.2.2.2.2.2.2.2.2.2.2.2.2.2.2.2.2.2.2.2.2.2.2.2.2.2.2.2.2.2.2.2.2.2.2.1 z.2.2.2.2.2.2.2.2.2.2.2.2.2.2.2.2.2.2.2.2.2.2.2.2.2.2.2.2.2.2.2.2.2.2.2.2.2.2.2.2.2.2.2.2.2.1 z.2.2.2.2.2.2.2.2.2.2.2.2.2.2.2.2.2.2.2.2.2.2.2.2.2.2.2.2.2.2.2.2.2.2.2.2.2.2.2.2.2.2.2.2.2.2.1 z.2.2.2.2.2.2.2.2.2.2.2.2.2.2.2.2.2.2.2.2.2.2.2.2.2.2.2.2.2.2.2.2.2.2.2.2.2.2.2.2.2.2.2.2.2.2.2.1 z.2.2.2.2.2.2.2.2.2.2.2.2.2.2.2.2.2.2.2.2.2.2.2.2.2.2.2.2.2.2.2.2.2.2.2.2.2.2.2.2.2.2.2.2.2.2.2.2.1 z.2.2.2.2.2.2.2.2.2.2.2.2.2.2.2.2.2.2.2.2.2.2.2.2.2.2.2.2.2.2.2.2.2.2.2.2.2.2.2.2.2.2.2.2.2.2.2.2.2.1 z.2.2.2.2.2.2.2.2.2.2.2.2.2.2.2.2.2.2.2.2.2.2.2.2.2.2.2.2.2.2.2.2.2.2.2.2.2.2.2.2.2.2.2.2.2.2.2.2.2.2.1 z.2.2.2.2.2.2.2.2.2.2.2.2.2.2.2.2.2.2.2.2.2.2.2.2.2.2.2.2.2.2.2.2.2.2.2.2.2.2.2.2.2.2.2.2.2.2.2.2.2.2.2.1 z.2.2.2.2.2.2.2.2.2.2.2.2.2.2.2.2.2.2.2.2.2.2.2.2.2.2.2.2.2.2.2.2.2.2.2.2.2.2.2.2.2.2.2.2.2.2.2.2.2.2.2.2.1 z.2.2.2.2.2.2.2.2.2.2.2.2.2.2.2.2.2.2.2.2.2.2.2.2.2.2.2.2.2.2.2.2.2.2.2.2.2.2.2.2.2.2.2.2.2.2.2.2.2.2.2.2.2.1 z.2.2.2.2.2.2.2.2.2.2.2.2.2.2.2.2.2.2.2.2.2.2.2.2.2.2.2.2.2.2.2.2.2.2.2.2.2.2.2.2.2.2.2.2.2.2.2.2.2.2.2.2.2.2.1 z.2.2.2.2.2.2.2.2.2.2.2.2.2.2.2.2.2.2.2.2.2.2.2.2.2.2.2.2.2.2.2.2.2.2.2.2.2.2.2.2.2.2.2.2.2.2.2.2.2.2.2.2.2.2.2.1 z.2.2.2.2.2.2.2.2.2.2.2.2.2.2.2.2.2.2.2.2.2.2.2.2.2.2.2.2.2.2.2.2.2.2.2.2.2.2.2.2.2.2.2.2.2.2.2.2.2.2.2.2.2.2.2.2.1 z.2.2.2.2.2.2.2.2.2.2.2.2.2.2.2.2.2.2.2.2.2.2.2.2.2.2.2.2.2.2.2.2.2.2.2.2.2.2.2.2.2.2.2.2.2.2.2.2.2.2.2.2.2.2.2.2.2.1 z.2.2.2.2.2.2.2.2.2.2.2.2.2.2.2.2.2.2.2.2.2.2.2.2.2.2.2.2.2.2.2.2.2.2.2.2.2.2.2.2.2.2.2.2.2.2.2.2.2.2.2.2.2.2.2.2.2.2.1 z.2.2.2.2.2.2.2.2.2.2.2.2.2.2.2.2.2.2.2.2.2.2.2.2.2.2.2.2.2.2.2.2.2.2.2.2.2.2.2.2.2.2.2.2.2.2.2.2.2.2.2.2.2.2.2.2.2.2.2.1 z.2.2.2.2.2.2.2.2.2.2.2.2.2.2.2.2.2.2.2.2.2.2.2.2.2.2.2.2.2.2.2.2.2.2.2.2.2.2.2.2.2.2.2.2.2.2.2.2.2.2.2.2.2.2.2.2.2.2.2.2
def rc_cX (post : SX → Prop) (n k : Nat) (u : SX) : Prop := match u with
  | (f_reorderSize, f_stations, f_queueSize, f_width, f_phase, f_pc, f_epc, f_cause, f_handling, f_vector, f_length, f_fetchPc, f_parked, f_fqHead, f_fqCount, f_head, f_count, f_waitingCount, f_memCount, a_regs, a_memory, a_progOp, a_progA, a_progB, a_progC, a_latency, a_counters, a_fqPc, a_fqNext, a_twoBit, a_jumpDelta, a_robPc, a_robPredicted, a_robState, a_robRemaining, a_robValue, a_robFault, a_robNext, a_robSrc1, a_robVal1, a_robSrc2, a_robVal2, a_robOp, a_robC, a_robDest, a_mapSlot, a_unitBusy) => wX_commitStage_4 post n 1 (nI k) f_reorderSize f_stations f_queueSize f_width f_phase f_pc f_epc f_cause f_handling f_vector f_length f_fetchPc f_parked f_fqHead f_fqCount f_head f_count f_waitingCount f_memCount a_regs a_memory a_progOp a_progA a_progB a_progC a_latency a_counters a_fqPc a_fqNext a_twoBit a_jumpDelta a_robPc a_robPredicted a_robState a_robRemaining a_robValue a_robFault a_robNext a_robSrc1 a_robVal1 a_robSrc2 a_robVal2 a_robOp a_robC a_robDest a_mapSlot a_unitBusy
def rc_cY (post : SY → Prop) (n k : Nat) (v : SY) : Prop := match v with
  | (f_pcNow, f_epcNow, f_causeNow, f_inHandler, f_vectorNow, f_phaseNow, f_length, f_fetchPc, f_parkedNow, f_queueCount, f_count, a_regs, a_cells, a_progOp, a_progA, a_progB, a_progC, a_counters, a_settings, a_queuePc, a_queueNext, a_twoBit, a_delta, a_ePc, a_ePredicted, a_eState, a_eRemaining, a_eValue, a_eFault, a_eNext, a_eWait1, a_eVal1, a_eWait2, a_eVal2) => wY_commitStage_2 post n (nI k) f_pcNow f_epcNow f_causeNow f_inHandler f_vectorNow f_phaseNow f_length f_fetchPc f_parkedNow f_queueCount f_count a_regs a_cells a_progOp a_progA a_progB a_progC a_counters a_settings a_queuePc a_queueNext a_twoBit a_delta a_ePc a_ePredicted a_eState a_eRemaining a_eValue a_eFault a_eNext a_eWait1 a_eVal1 a_eWait2 a_eVal2
def rc_bX (post : SX → Prop) (n k : Nat) (u : SX) : Prop := match u with
  | (f_reorderSize, f_stations, f_queueSize, f_width, f_phase, f_pc, f_epc, f_cause, f_handling, f_vector, f_length, f_fetchPc, f_parked, f_fqHead, f_fqCount, f_head, f_count, f_waitingCount, f_memCount, a_regs, a_memory, a_progOp, a_progA, a_progB, a_progC, a_latency, a_counters, a_fqPc, a_fqNext, a_twoBit, a_jumpDelta, a_robPc, a_robPredicted, a_robState, a_robRemaining, a_robValue, a_robFault, a_robNext, a_robSrc1, a_robVal1, a_robSrc2, a_robVal2, a_robOp, a_robC, a_robDest, a_mapSlot, a_unitBusy) => wX_busStage_6 post n (nI k) f_reorderSize f_stations f_queueSize f_width f_phase f_pc f_epc f_cause f_handling f_vector f_length f_fetchPc f_parked f_fqHead f_fqCount f_head f_count f_waitingCount f_memCount a_regs a_memory a_progOp a_progA a_progB a_progC a_latency a_counters a_fqPc a_fqNext a_twoBit a_jumpDelta a_robPc a_robPredicted a_robState a_robRemaining a_robValue a_robFault a_robNext a_robSrc1 a_robVal1 a_robSrc2 a_robVal2 a_robOp a_robC a_robDest a_mapSlot a_unitBusy
def rc_bY (post : SY → Prop) (n k : Nat) (v : SY) : Prop := match v with
  | (f_pcNow, f_epcNow, f_causeNow, f_inHandler, f_vectorNow, f_phaseNow, f_length, f_fetchPc, f_parkedNow, f_queueCount, f_count, a_regs, a_cells, a_progOp, a_progA, a_progB, a_progC, a_counters, a_settings, a_queuePc, a_queueNext, a_twoBit, a_delta, a_ePc, a_ePredicted, a_eState, a_eRemaining, a_eValue, a_eFault, a_eNext, a_eWait1, a_eVal1, a_eWait2, a_eVal2) => wY_busStage_57 post f_pcNow f_epcNow f_causeNow f_inHandler f_vectorNow f_phaseNow f_length n (nI k) f_fetchPc f_parkedNow f_queueCount f_count a_regs a_cells a_progOp a_progA a_progB a_progC a_counters a_settings a_queuePc a_queueNext a_twoBit a_delta a_ePc a_ePredicted a_eState a_eRemaining a_eValue a_eFault a_eNext a_eWait1 a_eVal1 a_eWait2 a_eVal2
def rc_dX (post : SX → Prop) (n k : Nat) (u : SX) : Prop := match u with
  | (f_reorderSize, f_stations, f_queueSize, f_width, f_phase, f_pc, f_epc, f_cause, f_handling, f_vector, f_length, f_fetchPc, f_parked, f_fqHead, f_fqCount, f_head, f_count, f_waitingCount, f_memCount, a_regs, a_memory, a_progOp, a_progA, a_progB, a_progC, a_latency, a_counters, a_fqPc, a_fqNext, a_twoBit, a_jumpDelta, a_robPc, a_robPredicted, a_robState, a_robRemaining, a_robValue, a_robFault, a_robNext, a_robSrc1, a_robVal1, a_robSrc2, a_robVal2, a_robOp, a_robC, a_robDest, a_mapSlot, a_unitBusy) => wX_dispatchStage_2 post n (nI k) f_reorderSize f_stations f_queueSize f_width f_phase f_pc f_epc f_cause f_handling f_vector f_length f_fetchPc f_parked f_fqHead f_fqCount f_head f_count f_waitingCount f_memCount a_regs a_memory a_progOp a_progA a_progB a_progC a_latency a_counters a_fqPc a_fqNext a_twoBit a_jumpDelta a_robPc a_robPredicted a_robState a_robRemaining a_robValue a_robFault a_robNext a_robSrc1 a_robVal1 a_robSrc2 a_robVal2 a_robOp a_robC a_robDest a_mapSlot a_unitBusy
def rc_dY (post : SY → Prop) (n k : Nat) (v : SY) : Prop := match v with
  | (f_pcNow, f_epcNow, f_causeNow, f_inHandler, f_vectorNow, f_phaseNow, f_length, f_fetchPc, f_parkedNow, f_queueCount, f_count, a_regs, a_cells, a_progOp, a_progA, a_progB, a_progC, a_counters, a_settings, a_queuePc, a_queueNext, a_twoBit, a_delta, a_ePc, a_ePredicted, a_eState, a_eRemaining, a_eValue, a_eFault, a_eNext, a_eWait1, a_eVal1, a_eWait2, a_eVal2) => wY_dispatchStage_2 post f_pcNow f_epcNow f_causeNow f_inHandler f_vectorNow f_phaseNow f_length f_fetchPc f_parkedNow n (nI k) f_queueCount f_count a_regs a_cells a_progOp a_progA a_progB a_progC a_counters a_settings a_queuePc a_queueNext a_twoBit a_delta a_ePc a_ePredicted a_eState a_eRemaining a_eValue a_eFault a_eNext a_eWait1 a_eVal1 a_eWait2 a_eVal2
def rc_tX (post : SX → Prop) (n k : Nat) (u : SX) : Prop := match u with
  | (f_reorderSize, f_stations, f_queueSize, f_width, f_phase, f_pc, f_epc, f_cause, f_handling, f_vector, f_length, f_fetchPc, f_parked, f_fqHead, f_fqCount, f_head, f_count, f_waitingCount, f_memCount, a_regs, a_memory, a_progOp, a_progA, a_progB, a_progC, a_latency, a_counters, a_fqPc, a_fqNext, a_twoBit, a_jumpDelta, a_robPc, a_robPredicted, a_robState, a_robRemaining, a_robValue, a_robFault, a_robNext, a_robSrc1, a_robVal1, a_robSrc2, a_robVal2, a_robOp, a_robC, a_robDest, a_mapSlot, a_unitBusy) => wX_fetchStage_2 post n (nI k) f_reorderSize f_stations f_queueSize f_width f_phase f_pc f_epc f_cause f_handling f_vector f_length f_fetchPc f_parked f_fqHead f_fqCount f_head f_count f_waitingCount f_memCount a_regs a_memory a_progOp a_progA a_progB a_progC a_latency a_counters a_fqPc a_fqNext a_twoBit a_jumpDelta a_robPc a_robPredicted a_robState a_robRemaining a_robValue a_robFault a_robNext a_robSrc1 a_robVal1 a_robSrc2 a_robVal2 a_robOp a_robC a_robDest a_mapSlot a_unitBusy
def rc_tY (post : SY → Prop) (n k : Nat) (v : SY) : Prop := match v with
  | (f_pcNow, f_epcNow, f_causeNow, f_inHandler, f_vectorNow, f_phaseNow, f_length, f_fetchPc, f_parkedNow, f_queueCount, f_count, a_regs, a_cells, a_progOp, a_progA, a_progB, a_progC, a_counters, a_settings, a_queuePc, a_queueNext, a_twoBit, a_delta, a_ePc, a_ePredicted, a_eState, a_eRemaining, a_eValue, a_eFault, a_eNext, a_eWait1, a_eVal1, a_eWait2, a_eVal2) => wY_fetchStage_2 post f_pcNow f_epcNow f_causeNow f_inHandler f_vectorNow f_phaseNow f_length f_count n (nI k) f_fetchPc f_parkedNow f_queueCount a_regs a_cells a_progOp a_progA a_progB a_progC a_counters a_settings a_queuePc a_queueNext a_twoBit a_delta a_ePc a_ePredicted a_eState a_eRemaining a_eValue a_eFault a_eNext a_eWait1 a_eVal1 a_eWait2 a_eVal2
def rc_iX (post : SX → Prop) (n q k : Nat) (u : SX) : Prop := match u with
  | (f_reorderSize, f_stations, f_queueSize, f_width, f_phase, f_pc, f_epc, f_cause, f_handling, f_vector, f_length, f_fetchPc, f_parked, f_fqHead, f_fqCount, f_head, f_count, f_waitingCount, f_memCount, a_regs, a_memory, a_progOp, a_progA, a_progB, a_progC, a_latency, a_counters, a_fqPc, a_fqNext, a_twoBit, a_jumpDelta, a_robPc, a_robPredicted, a_robState, a_robRemaining, a_robValue, a_robFault, a_robNext, a_robSrc1, a_robVal1, a_robSrc2, a_robVal2, a_robOp, a_robC, a_robDest, a_mapSlot, a_unitBusy) => wX_issueStage_4 post n (nI q) (nI k) f_reorderSize f_stations f_queueSize f_width f_phase f_pc f_epc f_cause f_handling f_vector f_length f_fetchPc f_parked f_fqHead f_fqCount f_head f_count f_waitingCount f_memCount a_regs a_memory a_progOp a_progA a_progB a_progC a_latency a_counters a_fqPc a_fqNext a_twoBit a_jumpDelta a_robPc a_robPredicted a_robState a_robRemaining a_robValue a_robFault a_robNext a_robSrc1 a_robVal1 a_robSrc2 a_robVal2 a_robOp a_robC a_robDest a_mapSlot a_unitBusy
def rc_iY (post : SY → Prop) (n q k : Nat) (v : SY) : Prop := match v with
  | (f_pcNow, f_epcNow, f_causeNow, f_inHandler, f_vectorNow, f_phaseNow, f_length, f_fetchPc, f_parkedNow, f_queueCount, f_count, a_regs, a_cells, a_progOp, a_progA, a_progB, a_progC, a_counters, a_settings, a_queuePc, a_queueNext, a_twoBit, a_delta, a_ePc, a_ePredicted, a_eState, a_eRemaining, a_eValue, a_eFault, a_eNext, a_eWait1, a_eVal1, a_eWait2, a_eVal2) => wY_issueStage_4 post n (nI q) (nI k) f_pcNow f_epcNow f_causeNow f_inHandler f_vectorNow f_phaseNow f_length f_fetchPc f_parkedNow f_queueCount f_count a_regs a_cells a_progOp a_progA a_progB a_progC a_counters a_settings a_queuePc a_queueNext a_twoBit a_delta a_ePc a_ePredicted a_eState a_eRemaining a_eValue a_eFault a_eNext a_eWait1 a_eVal1 a_eWait2 a_eVal2
/-- a step of a lockstep loop: it ends at z', or goes on at z' -/
def rc_ST (WX : (SX → Prop) → Nat → Nat → SX → Prop) (WY : (SY → Prop) → Nat → Nat → SY → Prop) (I F : rc_Z → Prop) (k : Nat) (z : rc_Z) : Prop :=
  (∃ z', F z' ∧ (∀ post n, post (rc_zX z') → WX post (n + 2) k (rc_zX z)) ∧ (∀ post n, post (rc_zY z') → WY post (n + 1) k (rc_zY z))) ∨ (∃ z', I z' ∧ (∀ post n, WX post n (k + 1) (rc_zX z') → WX post (n + 1) k (rc_zX z)) ∧ (∀ post n, WY post n (k + 1) (rc_zY z') → WY post (n + 1) k (rc_zY z)))
theorem rc_loop {WX : (SX → Prop) → Nat → Nat → SX → Prop} {WY : (SY → Prop) → Nat → Nat → SY → Prop} {I F : rc_Z → Prop} {e : Nat}
    (hx : ∀ z, I z → F z ∧ (∀ post n, post (rc_zX z) → WX post (n + 1) e (rc_zX z)) ∧ (∀ post n, post (rc_zY z) → WY post (n + 1) e (rc_zY z)))
    (hs : ∀ k z, k < e → I z → rc_ST WX WY I F k z) :
    ∀ (d k : Nat) (z : rc_Z), k + d = e → I z → ∃ z', F z' ∧ (∀ post n, d + 1 < n → post (rc_zX z') → WX post n k (rc_zX z)) ∧ (∀ post n, d + 1 < n → post (rc_zY z') → WY post n k (rc_zY z)) := by
  intro d
  induction d with
  | zero =>
    intro k z hk hI
    have hk : k = e := by omega
    subst hk
    obtain ⟨h1, h2, h3⟩ := hx z hI
    refine ⟨z, h1, fun post n hn H => ?_, fun post n hn H => ?_⟩
    · obtain ⟨n, rfl⟩ : ∃ m, n = m + 1 := ⟨n - 1, by omega⟩
      exact h2 post n H
    · obtain ⟨n, rfl⟩ : ∃ m, n = m + 1 := ⟨n - 1, by omega⟩
      exact h3 post n H
  | succ d ih =>
    intro k z hk hI
    rcases hs k z (by omega) hI with ⟨z', h1, h2, h3⟩ | ⟨z', h1, h2, h3⟩
    · refine ⟨z', h1, fun post n hn H => ?_, fun post n hn H => ?_⟩
      · obtain ⟨n, rfl⟩ : ∃ m, n = m + 2 := ⟨n - 2, by omega⟩
        exact h2 post n H
      · obtain ⟨n, rfl⟩ : ∃ m, n = m + 1 := ⟨n - 1, by omega⟩
        exact h3 post n H
    · obtain ⟨z2, g1, g2, g3⟩ := ih (k + 1) z' (by omega) h1
      refine ⟨z2, g1, fun post n hn H => ?_, fun post n hn H => ?_⟩
      · obtain ⟨n, rfl⟩ : ∃ m, n = m + 1 := ⟨n - 1, by omega⟩
        exact h2 post n (g2 post n (by omega) H)
      · obtain ⟨n, rfl⟩ : ∃ m, n = m + 1 := ⟨n - 1, by omega⟩
        exact h3 post n (g3 post n (by omega) H)
/-- running, width e -/
def rc_RU (e : Nat) (z : rc_Z) : Prop := rc_FZ z ∧ rc_zp z = 1 ∧ rc_zw z = e
end
section
/-! an entry retires: both sides -/
section
variable {w rs len qh qc h c : Nat} {f_stations f_queueSize f_phase f_pc f_epc f_cause f_handling f_vector f_fetchPc f_parked f_waitingCount f_memCount : Int32} {a_regs a_memory a_progOp a_progA a_progB a_progC a_latency a_counters a_fqPc a_fqNext a_twoBit a_jumpDelta a_robPc a_robPredicted a_robState a_robRemaining a_robValue a_robFault a_robNext a_robSrc1 a_robVal1 a_robSrc2 a_robVal2 a_robOp a_robC a_robDest a_mapSlot a_unitBusy a_settings a_queuePc a_queueNext a_ePc a_ePredicted a_eState a_eRemaining a_eValue a_eFault a_eNext a_eWait1 a_eVal1 a_eWait2 a_eVal2 : Nat → Int32}
theorem j_train (p v : Int32) : ∃ tb, (∀ post : SX → Prop, post ((nI rs), f_stations, f_queueSize, (nI w), f_phase, f_pc, f_epc, f_cause, f_handling, f_vector, (nI len), f_fetchPc, f_parked, (nI qh), (nI qc), (nI h), (nI c), f_waitingCount, f_memCount, a_regs, a_memory, a_progOp, a_progA, a_progB, a_progC, a_latency, a_counters, a_fqPc, a_fqNext, tb, a_jumpDelta, a_robPc, a_robPredicted, a_robState, a_robRemaining, a_robValue, a_robFault, a_robNext, a_robSrc1, a_robVal1, a_robSrc2, a_robVal2, a_robOp, a_robC, a_robDest, a_mapSlot, a_unitBusy) → wpX_train post ((nI rs), f_stations, f_queueSize, (nI w), f_phase, f_pc, f_epc, f_cause, f_handling, f_vector, (nI len), f_fetchPc, f_parked, (nI qh), (nI qc), (nI h), (nI c), f_waitingCount, f_memCount, a_regs, a_memory, a_progOp, a_progA, a_progB, a_progC, a_latency, a_counters, a_fqPc, a_fqNext, a_twoBit, a_jumpDelta, a_robPc, a_robPredicted, a_robState, a_robRemaining, a_robValue, a_robFault, a_robNext, a_robSrc1, a_robVal1, a_robSrc2, a_robVal2, a_robOp, a_robC, a_robDest, a_mapSlot, a_unitBusy) (p &&& 15) v) ∧ (∀ (post : SY → Prop) J2 x1 nx op, wY_commitStage_292 post J2 x1 p nx op f_pc f_epc f_cause f_handling f_vector f_phase (nI len) f_fetchPc f_parked (nI qc) (nI c) a_regs a_memory a_progOp a_progA a_progB a_progC a_counters a_settings a_queuePc a_queueNext tb a_jumpDelta a_ePc a_ePredicted a_eState a_eRemaining a_eValue a_eFault a_eNext a_eWait1 a_eVal1 a_eWait2 a_eVal2 → wY_commitStage_225 post J2 x1 p v nx op f_pc f_epc f_cause f_handling f_vector f_phase (nI len) f_fetchPc f_parked (nI qc) (nI c) a_regs a_memory a_progOp a_progA a_progB a_progC a_counters a_settings a_queuePc a_queueNext a_twoBit a_jumpDelta a_ePc a_ePredicted a_eState a_eRemaining a_eValue a_eFault a_eNext a_eWait1 a_eVal1 a_eWait2 a_eVal2) := by
  obtain ⟨q, hq, e⟩ := pk_andE p (m := 15) 4 (by decide)
  have hq : q < 16 := hq
  have e2 : (p &&& 15) &&& 15 = nI q := by
    rw [e, rc_and15 (by omega)]
    exact congrArg nI (by omega)
  have hin : vp_in (nI q) 16 := vp_in_nI hq (by omega)
  have hcl : (nI q).toNatClampNeg = q := nI_clamp (by omega)
  by_cases h1 : v = 1
  · by_cases h3 : 3 ≤ a_twoBit q
    · refine ⟨a_twoBit, fun post H => nm_r e2 (br_t h1 (And.intro hin ?_)), fun post J2 x1 nx op H => nm_r e (br_t h1 (And.intro hin ?_))⟩
      · rw [hcl]
        exact br_t h3 H
      · rw [hcl]
        exact br_t h3 H
    · refine ⟨upd a_twoBit q (a_twoBit q + 1), fun post H => nm_r e2 (br_t h1 (And.intro hin ?_)), fun post J2 x1 nx op H => nm_r e (br_t h1 (And.intro hin ?_))⟩
      · rw [hcl]
        exact br_f h3 (And.intro hin (And.intro hin (nm_e H)))
      · rw [hcl]
        exact br_f h3 (And.intro hin (And.intro hin (nm_e H)))
  · by_cases h3 : a_twoBit q ≤ 0
    · refine ⟨a_twoBit, fun post H => nm_r e2 (br_f h1 (And.intro hin ?_)), fun post J2 x1 nx op H => nm_r e (br_f h1 (And.intro hin ?_))⟩
      · rw [hcl]
        exact br_t h3 H
      · rw [hcl]
        exact br_t h3 H
    · refine ⟨upd a_twoBit q (a_twoBit q - 1), fun post H => nm_r e2 (br_f h1 (And.intro hin ?_)), fun post J2 x1 nx op H => nm_r e (br_f h1 (And.intro hin ?_))⟩
      · rw [hcl]
        exact br_f h3 (And.intro hin (And.intro hin (nm_e H)))
      · rw [hcl]
        exact br_f h3 (And.intro hin (And.intro hin (nm_e H)))
theorem and7_in (p : Int32) : vp_in (p &&& 7) 8 := pk_andIn p 3 (by decide) (by decide)
theorem j_rt79 {s : Nat} {op p v nx : Int32} (hs : s < 16) (ep : a_robPc s = p) (ev : a_robValue s = v) (en : a_robNext s = nx) : ∃ tb jd, (∀ post : SX → Prop, post ((nI rs), f_stations, f_queueSize, (nI w), f_phase, nx, f_epc, f_cause, f_handling, f_vector, (nI len), f_fetchPc, f_parked, (nI qh), (nI qc), (nI h), (nI c), f_waitingCount, f_memCount, a_regs, a_memory, a_progOp, a_progA, a_progB, a_progC, a_latency, a_counters, a_fqPc, a_fqNext, tb, jd, a_robPc, a_robPredicted, a_robState, a_robRemaining, a_robValue, a_robFault, a_robNext, a_robSrc1, a_robVal1, a_robSrc2, a_robVal2, a_robOp, a_robC, a_robDest, a_mapSlot, a_unitBusy) → wX_retire_79 post (nI s) op (nI rs) f_stations f_queueSize (nI w) f_phase f_pc f_epc f_cause f_handling f_vector (nI len) f_fetchPc f_parked (nI qh) (nI qc) (nI h) (nI c) f_waitingCount f_memCount a_regs a_memory a_progOp a_progA a_progB a_progC a_latency a_counters a_fqPc a_fqNext a_twoBit a_jumpDelta a_robPc a_robPredicted a_robState a_robRemaining a_robValue a_robFault a_robNext a_robSrc1 a_robVal1 a_robSrc2 a_robVal2 a_robOp a_robC a_robDest a_mapSlot a_unitBusy) ∧ (∀ (post : SY → Prop) J2 (k : Nat), J2 (nI (k + 1)) nx f_epc f_cause f_handling f_vector f_phase (nI len) f_fetchPc f_parked (nI qc) (nI c) a_regs a_memory a_progOp a_progA a_progB a_progC a_counters a_settings a_queuePc a_queueNext tb jd a_ePc a_ePredicted a_eState a_eRemaining a_eValue a_eFault a_eNext a_eWait1 a_eVal1 a_eWait2 a_eVal2 → wY_commitStage_205 post J2 (nI k) p v nx op f_pc f_epc f_cause f_handling f_vector f_phase (nI len) f_fetchPc f_parked (nI qc) (nI c) a_regs a_memory a_progOp a_progA a_progB a_progC a_counters a_settings a_queuePc a_queueNext a_twoBit a_jumpDelta a_ePc a_ePredicted a_eState a_eRemaining a_eValue a_eFault a_eNext a_eWait1 a_eVal1 a_eWait2 a_eVal2) := by
  have hin : vp_in (nI s) 16 := vp_in_nI hs (by omega)
  have hcl : (nI s).toNatClampNeg = s := nI_clamp (by omega)
  obtain ⟨tb, tX, tY⟩ := j_train (w := w) (rs := rs) (len := len) (qh := qh) (qc := qc) (h := h) (c := c) (f_stations := f_stations) (f_queueSize := f_queueSize) (f_phase := f_phase) (f_pc := nx) (f_epc := f_epc) (f_cause := f_cause) (f_handling := f_handling) (f_vector := f_vector) (f_fetchPc := f_fetchPc) (f_parked := f_parked) (f_waitingCount := f_waitingCount) (f_memCount := f_memCount) (a_regs := a_regs) (a_memory := a_memory) (a_progOp := a_progOp) (a_progA := a_progA) (a_progB := a_progB) (a_progC := a_progC) (a_latency := a_latency) (a_counters := a_counters) (a_fqPc := a_fqPc) (a_fqNext := a_fqNext) (a_twoBit := a_twoBit) (a_jumpDelta := a_jumpDelta) (a_robPc := a_robPc) (a_robPredicted := a_robPredicted) (a_robState := a_robState) (a_robRemaining := a_robRemaining) (a_robValue := a_robValue) (a_robFault := a_robFault) (a_robNext := a_robNext) (a_robSrc1 := a_robSrc1) (a_robVal1 := a_robVal1) (a_robSrc2 := a_robSrc2) (a_robVal2 := a_robVal2) (a_robOp := a_robOp) (a_robC := a_robC) (a_robDest := a_robDest) (a_mapSlot := a_mapSlot) (a_unitBusy := a_unitBusy) (a_settings := a_settings) (a_queuePc := a_queuePc) (a_queueNext := a_queueNext) (a_ePc := a_ePc) (a_ePredicted := a_ePredicted) (a_eState := a_eState) (a_eRemaining := a_eRemaining) (a_eValue := a_eValue) (a_eFault := a_eFault) (a_eNext := a_eNext) (a_eWait1 := a_eWait1) (a_eVal1 := a_eVal1) (a_eWait2 := a_eWait2) (a_eVal2 := a_eVal2) p v
  by_cases h12 : op = 12
  · have h14 : ¬ op = 14 := by rw [h12]; decide
    refine ⟨tb, a_jumpDelta, fun post H => And.intro hin (nm_r (e' := nx) (by rw [hcl, en]) (br_t h12 (And.intro hin (And.intro hin ?_)))), fun post J2 k H => br_t h12 (tY _ _ _ _ _ (br_f h14 (nm_r (nI_1 k) H)))⟩
    rw [hcl, ep, ev]
    exact tX _ H
  · by_cases h13 : op = 13
    · have h14 : ¬ op = 14 := by rw [h13]; decide
      refine ⟨tb, a_jumpDelta, fun post H => And.intro hin (nm_r (e' := nx) (by rw [hcl, en]) (br_f h12 (br_t h13 (And.intro hin (And.intro hin ?_))))), fun post J2 k H => br_f h12 (br_t h13 (tY _ _ _ _ _ (br_f h14 (nm_r (nI_1 k) H))))⟩
      rw [hcl, ep, ev]
      exact tX _ H
    · by_cases h14 : op = 14
      · refine ⟨a_twoBit, upd a_jumpDelta (p &&& 7).toNatClampNeg (nx - (p + 1)), fun post H => And.intro hin (nm_r (e' := nx) (by rw [hcl, en]) (br_f h12 (br_f h13 (br_t h14 (And.intro hin (And.intro hin (And.intro hin ?_))))))), fun post J2 k H => br_f h12 (br_f h13 (br_t h14 (And.intro (and7_in p) (nm_e (nm_r (nI_1 k) H)))))⟩
        rw [hcl, ep, en]
        exact And.intro (and7_in p) (nm_e H)
      · exact ⟨a_twoBit, a_jumpDelta, fun post H => And.intro hin (nm_r (e' := nx) (by rw [hcl, en]) (br_f h12 (br_f h13 (br_f h14 H)))), fun post J2 k H => br_f h12 (br_f h13 (br_f h14 (nm_r (nI_1 k) H)))⟩
theorem y_wmBad {post : SY → Prop} {x v : Int32} (hx : x < 0 ∨ ¬ x < 0 ∧ ¬ x ≤ 63) (H : post (f_pc, f_epc, f_cause, f_handling, f_vector, f_phase, (nI len), f_fetchPc, f_parked, (nI qc), (nI c), a_regs, a_memory, a_progOp, a_progA, a_progB, a_progC, a_counters, a_settings, a_queuePc, a_queueNext, a_twoBit, a_jumpDelta, a_ePc, a_ePredicted, a_eState, a_eRemaining, a_eValue, a_eFault, a_eNext, a_eWait1, a_eVal1, a_eWait2, a_eVal2)) : wpY_writeMem post (f_pc, f_epc, f_cause, f_handling, f_vector, f_phase, (nI len), f_fetchPc, f_parked, (nI qc), (nI c), a_regs, a_memory, a_progOp, a_progA, a_progB, a_progC, a_counters, a_settings, a_queuePc, a_queueNext, a_twoBit, a_jumpDelta, a_ePc, a_ePredicted, a_eState, a_eRemaining, a_eValue, a_eFault, a_eNext, a_eWait1, a_eVal1, a_eWait2, a_eVal2) x v := by
  rcases hx with h | ⟨h0, h1⟩
  · exact br_t h H
  · exact br_f h0 (br_t (Int32.not_le.mp h1) H)
theorem j_rt33 {s : Nat} {op p v nx x cc : Int32} (hs : s < 16) (ep : a_robPc s = p) (ev : a_robValue s = v) (en : a_robNext s = nx) (ex : a_robVal1 s = x) (ec : a_robC s = cc) : ∃ mm tb jd, (∀ post : SX → Prop, post ((nI rs), f_stations, f_queueSize, (nI w), f_phase, nx, f_epc, f_cause, f_handling, f_vector, (nI len), f_fetchPc, f_parked, (nI qh), (nI qc), (nI h), (nI c), f_waitingCount, f_memCount, a_regs, mm, a_progOp, a_progA, a_progB, a_progC, a_latency, a_counters, a_fqPc, a_fqNext, tb, jd, a_robPc, a_robPredicted, a_robState, a_robRemaining, a_robValue, a_robFault, a_robNext, a_robSrc1, a_robVal1, a_robSrc2, a_robVal2, a_robOp, a_robC, a_robDest, a_mapSlot, a_unitBusy) → wX_retire_33 post (nI s) op (nI rs) f_stations f_queueSize (nI w) f_phase f_pc f_epc f_cause f_handling f_vector (nI len) f_fetchPc f_parked (nI qh) (nI qc) (nI h) (nI c) f_waitingCount f_memCount a_regs a_memory a_progOp a_progA a_progB a_progC a_latency a_counters a_fqPc a_fqNext a_twoBit a_jumpDelta a_robPc a_robPredicted a_robState a_robRemaining a_robValue a_robFault a_robNext a_robSrc1 a_robVal1 a_robSrc2 a_robVal2 a_robOp a_robC a_robDest a_mapSlot a_unitBusy) ∧ (∀ (post : SY → Prop) J2 (k : Nat), J2 (nI (k + 1)) nx f_epc f_cause f_handling f_vector f_phase (nI len) f_fetchPc f_parked (nI qc) (nI c) a_regs mm a_progOp a_progA a_progB a_progC a_counters a_settings a_queuePc a_queueNext tb jd a_ePc a_ePredicted a_eState a_eRemaining a_eValue a_eFault a_eNext a_eWait1 a_eVal1 a_eWait2 a_eVal2 → wY_commitStage_188 post J2 (nI k) p v nx x op cc f_pc f_epc f_cause f_handling f_vector f_phase (nI len) f_fetchPc f_parked (nI qc) (nI c) a_regs a_memory a_progOp a_progA a_progB a_progC a_counters a_settings a_queuePc a_queueNext a_twoBit a_jumpDelta a_ePc a_ePredicted a_eState a_eRemaining a_eValue a_eFault a_eNext a_eWait1 a_eVal1 a_eWait2 a_eVal2) := by
  have hin : vp_in (nI s) 16 := vp_in_nI hs (by omega)
  have hcl : (nI s).toNatClampNeg = s := nI_clamp (by omega)
  by_cases h11 : op = 11
  · rcases ga_c (x + cc) with ⟨_, hx⟩ | ⟨m, hm, hx, _⟩
    · obtain ⟨tb, jd, tX, tY⟩ := j_rt79 (w := w) (rs := rs) (len := len) (qh := qh) (qc := qc) (h := h) (c := c) (f_stations := f_stations) (f_queueSize := f_queueSize) (f_phase := f_phase) (f_pc := f_pc) (f_epc := f_epc) (f_cause := f_cause) (f_handling := f_handling) (f_vector := f_vector) (f_fetchPc := f_fetchPc) (f_parked := f_parked) (f_waitingCount := f_waitingCount) (f_memCount := f_memCount) (a_regs := a_regs) (a_memory := a_memory) (a_progOp := a_progOp) (a_progA := a_progA) (a_progB := a_progB) (a_progC := a_progC) (a_latency := a_latency) (a_counters := a_counters) (a_fqPc := a_fqPc) (a_fqNext := a_fqNext) (a_twoBit := a_twoBit) (a_jumpDelta := a_jumpDelta) (a_robPc := a_robPc) (a_robPredicted := a_robPredicted) (a_robState := a_robState) (a_robRemaining := a_robRemaining) (a_robValue := a_robValue) (a_robFault := a_robFault) (a_robNext := a_robNext) (a_robSrc1 := a_robSrc1) (a_robVal1 := a_robVal1) (a_robSrc2 := a_robSrc2) (a_robVal2 := a_robVal2) (a_robOp := a_robOp) (a_robC := a_robC) (a_robDest := a_robDest) (a_mapSlot := a_mapSlot) (a_unitBusy := a_unitBusy) (a_settings := a_settings) (a_queuePc := a_queuePc) (a_queueNext := a_queueNext) (a_ePc := a_ePc) (a_ePredicted := a_ePredicted) (a_eState := a_eState) (a_eRemaining := a_eRemaining) (a_eValue := a_eValue) (a_eFault := a_eFault) (a_eNext := a_eNext) (a_eWait1 := a_eWait1) (a_eVal1 := a_eVal1) (a_eWait2 := a_eWait2) (a_eVal2 := a_eVal2) (op := op) hs ep ev en
      refine ⟨a_memory, tb, jd, fun post H => br_t h11 (And.intro hin (And.intro hin (nm_r (e' := x + cc) (by rw [hcl, ex, ec]) ?_))), fun post J2 k H => br_t h11 (y_wmBad hx (tY _ _ _ H))⟩
      rcases hx with h | ⟨h0, h1⟩
      · exact br_t h (tX _ H)
      · exact br_f h0 (br_t (rc_63.mp (Int32.not_le.mp h1)) (tX _ H))
    · obtain ⟨tb, jd, tX, tY⟩ := j_rt79 (w := w) (rs := rs) (len := len) (qh := qh) (qc := qc) (h := h) (c := c) (f_stations := f_stations) (f_queueSize := f_queueSize) (f_phase := f_phase) (f_pc := f_pc) (f_epc := f_epc) (f_cause := f_cause) (f_handling := f_handling) (f_vector := f_vector) (f_fetchPc := f_fetchPc) (f_parked := f_parked) (f_waitingCount := f_waitingCount) (f_memCount := f_memCount) (a_regs := a_regs) (a_memory := upd a_memory m v) (a_progOp := a_progOp) (a_progA := a_progA) (a_progB := a_progB) (a_progC := a_progC) (a_latency := a_latency) (a_counters := a_counters) (a_fqPc := a_fqPc) (a_fqNext := a_fqNext) (a_twoBit := a_twoBit) (a_jumpDelta := a_jumpDelta) (a_robPc := a_robPc) (a_robPredicted := a_robPredicted) (a_robState := a_robState) (a_robRemaining := a_robRemaining) (a_robValue := a_robValue) (a_robFault := a_robFault) (a_robNext := a_robNext) (a_robSrc1 := a_robSrc1) (a_robVal1 := a_robVal1) (a_robSrc2 := a_robSrc2) (a_robVal2 := a_robVal2) (a_robOp := a_robOp) (a_robC := a_robC) (a_robDest := a_robDest) (a_mapSlot := a_mapSlot) (a_unitBusy := a_unitBusy) (a_settings := a_settings) (a_queuePc := a_queuePc) (a_queueNext := a_queueNext) (a_ePc := a_ePc) (a_ePredicted := a_ePredicted) (a_eState := a_eState) (a_eRemaining := a_eRemaining) (a_eValue := a_eValue) (a_eFault := a_eFault) (a_eNext := a_eNext) (a_eWait1 := a_eWait1) (a_eVal1 := a_eVal1) (a_eWait2 := a_eWait2) (a_eVal2 := a_eVal2) (op := op) hs ep ev en
      refine ⟨upd a_memory m v, tb, jd, fun post H => br_t h11 (And.intro hin (And.intro hin (nm_r (e' := nI m) (by rw [hcl, ex, ec, hx]) (br_f (nI_pos (by omega)) (br_f (nI_ge (b := 64) (by omega) (by omega)) (And.intro hin (And.intro (in_64 hm) (nm_r (e' := upd a_memory m v) (by rw [hcl, ev, nI_clamp (by omega)]) (tX _ H))))))))), fun post J2 k H => br_t h11 ?_⟩
      rw [hx]
      exact y_writeMem hm (tY _ _ _ H)
  · obtain ⟨tb, jd, tX, tY⟩ := j_rt79 (w := w) (rs := rs) (len := len) (qh := qh) (qc := qc) (h := h) (c := c) (f_stations := f_stations) (f_queueSize := f_queueSize) (f_phase := f_phase) (f_pc := f_pc) (f_epc := f_epc) (f_cause := f_cause) (f_handling := f_handling) (f_vector := f_vector) (f_fetchPc := f_fetchPc) (f_parked := f_parked) (f_waitingCount := f_waitingCount) (f_memCount := f_memCount) (a_regs := a_regs) (a_memory := a_memory) (a_progOp := a_progOp) (a_progA := a_progA) (a_progB := a_progB) (a_progC := a_progC) (a_latency := a_latency) (a_counters := a_counters) (a_fqPc := a_fqPc) (a_fqNext := a_fqNext) (a_twoBit := a_twoBit) (a_jumpDelta := a_jumpDelta) (a_robPc := a_robPc) (a_robPredicted := a_robPredicted) (a_robState := a_robState) (a_robRemaining := a_robRemaining) (a_robValue := a_robValue) (a_robFault := a_robFault) (a_robNext := a_robNext) (a_robSrc1 := a_robSrc1) (a_robVal1 := a_robVal1) (a_robSrc2 := a_robSrc2) (a_robVal2 := a_robVal2) (a_robOp := a_robOp) (a_robC := a_robC) (a_robDest := a_robDest) (a_mapSlot := a_mapSlot) (a_unitBusy := a_unitBusy) (a_settings := a_settings) (a_queuePc := a_queuePc) (a_queueNext := a_queueNext) (a_ePc := a_ePc) (a_ePredicted := a_ePredicted) (a_eState := a_eState) (a_eRemaining := a_eRemaining) (a_eValue := a_eValue) (a_eFault := a_eFault) (a_eNext := a_eNext) (a_eWait1 := a_eWait1) (a_eVal1 := a_eVal1) (a_eWait2 := a_eWait2) (a_eVal2 := a_eVal2) (op := op) hs ep ev en
    exact ⟨a_memory, tb, jd, fun post H => br_f h11 (tX _ H), fun post J2 k H => br_f h11 (tY _ _ _ H)⟩
theorem j_retire {s : Nat} {op p v nx x cc dd : Int32} (hs : s < 16) (hd : rc_d8 dd) (eo : a_robOp s = op) (ed : a_robDest s = dd) (ep : a_robPc s = p) (ev : a_robValue s = v) (en : a_robNext s = nx) (ex : a_robVal1 s = x) (ec : a_robC s = cc) : ∃ rg mm tb jd, (∀ post : SX → Prop, post ((nI rs), f_stations, f_queueSize, (nI w), f_phase, nx, f_epc, f_cause, f_handling, f_vector, (nI len), f_fetchPc, f_parked, (nI qh), (nI qc), (nI h), (nI c), f_waitingCount, f_memCount, rg, mm, a_progOp, a_progA, a_progB, a_progC, a_latency, a_counters, a_fqPc, a_fqNext, tb, jd, a_robPc, a_robPredicted, a_robState, a_robRemaining, a_robValue, a_robFault, a_robNext, a_robSrc1, a_robVal1, a_robSrc2, a_robVal2, a_robOp, a_robC, a_robDest, a_mapSlot, a_unitBusy) → wpX_retire post ((nI rs), f_stations, f_queueSize, (nI w), f_phase, f_pc, f_epc, f_cause, f_handling, f_vector, (nI len), f_fetchPc, f_parked, (nI qh), (nI qc), (nI h), (nI c), f_waitingCount, f_memCount, a_regs, a_memory, a_progOp, a_progA, a_progB, a_progC, a_latency, a_counters, a_fqPc, a_fqNext, a_twoBit, a_jumpDelta, a_robPc, a_robPredicted, a_robState, a_robRemaining, a_robValue, a_robFault, a_robNext, a_robSrc1, a_robVal1, a_robSrc2, a_robVal2, a_robOp, a_robC, a_robDest, a_mapSlot, a_unitBusy) (nI s)) ∧ (∀ (post : SY → Prop) J2 (k : Nat), J2 (nI (k + 1)) nx f_epc f_cause f_handling f_vector f_phase (nI len) f_fetchPc f_parked (nI qc) (nI c) rg mm a_progOp a_progA a_progB a_progC a_counters a_settings a_queuePc a_queueNext tb jd a_ePc a_ePredicted a_eState a_eRemaining a_eValue a_eFault a_eNext a_eWait1 a_eVal1 a_eWait2 a_eVal2 → wY_commitStage_175 post J2 (nI k) p v nx x op cc dd f_pc f_epc f_cause f_handling f_vector f_phase (nI len) f_fetchPc f_parked (nI qc) (nI c) a_regs a_memory a_progOp a_progA a_progB a_progC a_counters a_settings a_queuePc a_queueNext a_twoBit a_jumpDelta a_ePc a_ePredicted a_eState a_eRemaining a_eValue a_eFault a_eNext a_eWait1 a_eVal1 a_eWait2 a_eVal2) := by
  have hin : vp_in (nI s) 16 := vp_in_nI hs (by omega)
  have hcl : (nI s).toNatClampNeg = s := nI_clamp (by omega)
  rcases hd with e | ⟨j, hj, e⟩
  · obtain ⟨mm, tb, jd, tX, tY⟩ := j_rt33 (w := w) (rs := rs) (len := len) (qh := qh) (qc := qc) (h := h) (c := c) (f_stations := f_stations) (f_queueSize := f_queueSize) (f_phase := f_phase) (f_pc := f_pc) (f_epc := f_epc) (f_cause := f_cause) (f_handling := f_handling) (f_vector := f_vector) (f_fetchPc := f_fetchPc) (f_parked := f_parked) (f_waitingCount := f_waitingCount) (f_memCount := f_memCount) (a_regs := a_regs) (a_memory := a_memory) (a_progOp := a_progOp) (a_progA := a_progA) (a_progB := a_progB) (a_progC := a_progC) (a_latency := a_latency) (a_counters := a_counters) (a_fqPc := a_fqPc) (a_fqNext := a_fqNext) (a_twoBit := a_twoBit) (a_jumpDelta := a_jumpDelta) (a_robPc := a_robPc) (a_robPredicted := a_robPredicted) (a_robState := a_robState) (a_robRemaining := a_robRemaining) (a_robValue := a_robValue) (a_robFault := a_robFault) (a_robNext := a_robNext) (a_robSrc1 := a_robSrc1) (a_robVal1 := a_robVal1) (a_robSrc2 := a_robSrc2) (a_robVal2 := a_robVal2) (a_robOp := a_robOp) (a_robC := a_robC) (a_robDest := a_robDest) (a_mapSlot := a_mapSlot) (a_unitBusy := a_unitBusy) (a_settings := a_settings) (a_queuePc := a_queuePc) (a_queueNext := a_queueNext) (a_ePc := a_ePc) (a_ePredicted := a_ePredicted) (a_eState := a_eState) (a_eRemaining := a_eRemaining) (a_eValue := a_eValue) (a_eFault := a_eFault) (a_eNext := a_eNext) (a_eWait1 := a_eWait1) (a_eVal1 := a_eVal1) (a_eWait2 := a_eWait2) (a_eVal2 := a_eVal2) (op := op) hs ep ev en ex ec
    exact ⟨a_regs, mm, tb, jd, fun post H => And.intro hin (nm_r (e' := op) (by rw [hcl, eo]) (And.intro hin (nm_r (e' := -1) (by rw [hcl, ed, e]) (br_t (by decide) (tX _ H))))), fun post J2 k H => br_t e (tY _ _ _ H)⟩
  · obtain ⟨mm, tb, jd, tX, tY⟩ := j_rt33 (w := w) (rs := rs) (len := len) (qh := qh) (qc := qc) (h := h) (c := c) (f_stations := f_stations) (f_queueSize := f_queueSize) (f_phase := f_phase) (f_pc := f_pc) (f_epc := f_epc) (f_cause := f_cause) (f_handling := f_handling) (f_vector := f_vector) (f_fetchPc := f_fetchPc) (f_parked := f_parked) (f_waitingCount := f_waitingCount) (f_memCount := f_memCount) (a_regs := upd a_regs j v) (a_memory := a_memory) (a_progOp := a_progOp) (a_progA := a_progA) (a_progB := a_progB) (a_progC := a_progC) (a_latency := a_latency) (a_counters := a_counters) (a_fqPc := a_fqPc) (a_fqNext := a_fqNext) (a_twoBit := a_twoBit) (a_jumpDelta := a_jumpDelta) (a_robPc := a_robPc) (a_robPredicted := a_robPredicted) (a_robState := a_robState) (a_robRemaining := a_robRemaining) (a_robValue := a_robValue) (a_robFault := a_robFault) (a_robNext := a_robNext) (a_robSrc1 := a_robSrc1) (a_robVal1 := a_robVal1) (a_robSrc2 := a_robSrc2) (a_robVal2 := a_robVal2) (a_robOp := a_robOp) (a_robC := a_robC) (a_robDest := a_robDest) (a_mapSlot := a_mapSlot) (a_unitBusy := a_unitBusy) (a_settings := a_settings) (a_queuePc := a_queuePc) (a_queueNext := a_queueNext) (a_ePc := a_ePc) (a_ePredicted := a_ePredicted) (a_eState := a_eState) (a_eRemaining := a_eRemaining) (a_eValue := a_eValue) (a_eFault := a_eFault) (a_eNext := a_eNext) (a_eWait1 := a_eWait1) (a_eVal1 := a_eVal1) (a_eWait2 := a_eWait2) (a_eVal2 := a_eVal2) (op := op) hs ep ev en ex ec
    refine ⟨upd a_regs j v, mm, tb, jd, fun post H => And.intro hin (nm_r (e' := op) (by rw [hcl, eo]) (And.intro hin (nm_r (e' := nI j) (by rw [hcl, ed, e]) (br_f (nI_pos (by omega)) (And.intro hin ?_))))), fun post J2 k H => br_f (by rw [e]; exact rc_nm1 (by omega)) ?_⟩
    · rw [rc_and7 (by omega)]
      exact And.intro (in_8 hj) (nm_r (e' := upd a_regs j v) (by rw [hcl, ev, nI_clamp (by omega)]) (tX _ H))
    · rw [e]
      exact y_writeReg hj (tY _ _ _ H)
end
end
section
/-! the commit stage, in lockstep -/
section
variable {w rs len qh qc h c : Nat} {f_stations f_queueSize f_phase f_pc f_epc f_cause f_handling f_vector f_fetchPc f_parked f_waitingCount f_memCount : Int32} {a_regs a_memory a_progOp a_progA a_progB a_progC a_latency a_counters a_fqPc a_fqNext a_twoBit a_jumpDelta a_robPc a_robPredicted a_robState a_robRemaining a_robValue a_robFault a_robNext a_robSrc1 a_robVal1 a_robSrc2 a_robVal2 a_robOp a_robC a_robDest a_mapSlot a_unitBusy a_settings a_queuePc a_queueNext a_ePc a_ePredicted a_eState a_eRemaining a_eValue a_eFault a_eNext a_eWait1 a_eVal1 a_eWait2 a_eVal2 : Nat → Int32}
theorem j_co {k : Nat} (H : rc_F0 w rs len qh qc h (c + 1) f_stations f_queueSize f_waitingCount f_memCount a_latency a_settings a_progOp a_progA a_progB a_progC a_fqPc a_fqNext a_queuePc a_queueNext a_robPc a_robPredicted a_robState a_robRemaining a_robValue a_robFault a_robNext a_robSrc1 a_robVal1 a_robSrc2 a_robVal2 a_robOp a_robC a_robDest a_ePc a_ePredicted a_eState a_eRemaining a_eValue a_eFault a_eNext a_eWait1 a_eVal1 a_eWait2 a_eVal2 a_mapSlot a_unitBusy) (hb : f_handling = 0 ∨ f_handling = 1) (hpk : f_parked = 0 ∨ f_parked = 1) (hph : f_phase = 1) (h0 : a_eState 0 = 3) (hk : k < w) : rc_ST rc_cX rc_cY (rc_RU w) rc_FZ k (w, rs, len, qh, qc, h, (c + 1), f_stations, f_queueSize, f_phase, f_pc, f_epc, f_cause, f_handling, f_vector, f_fetchPc, f_parked, f_waitingCount, f_memCount, a_regs, a_memory, a_progOp, a_progA, a_progB, a_progC, a_latency, a_counters, a_fqPc, a_fqNext, a_twoBit, a_jumpDelta, a_robPc, a_robPredicted, a_robState, a_robRemaining, a_robValue, a_robFault, a_robNext, a_robSrc1, a_robVal1, a_robSrc2, a_robVal2, a_robOp, a_robC, a_robDest, a_mapSlot, a_unitBusy, a_settings, a_queuePc, a_queueNext, a_ePc, a_ePredicted, a_eState, a_eRemaining, a_eValue, a_eFault, a_eNext, a_eWait1, a_eVal1, a_eWait2, a_eVal2) := by
  have H' := H
  obtain ⟨⟨hw1, hw3, hrs, _, _, _, hs10, _⟩, hP, hQ, ⟨hh, hc, r1, r2, r3, r4, r5, r6, r7, r8, r9, r10, r11, r12, r13, r14⟩, hI, hw, hm, hM, hU⟩ := H
  have hl := hP.1
  have hz : (h + 0) % 16 = h := by omega
  have eo : a_robOp h = rc_op len a_progOp (a_ePc 0) := by have := r12 0 (by omega); rw [hz] at this; exact this
  have ed : a_robDest h = rc_dt len a_progOp a_progA a_progC (a_ePc 0) := by have := r14 0 (by omega); rw [hz] at this; exact this
  have ec : a_robC h = rc_fa len a_progC (a_ePc 0) := by have := r13 0 (by omega); rw [hz] at this; exact this
  have es : a_robState h = 3 := by have := r3 0 (by omega); rw [hz] at this; exact this.trans h0
  have ef : a_robFault h = a_eFault 0 := by have := r6 0 (by omega); rw [hz] at this; exact this
  have ep' : a_robPc h = a_ePc 0 := by have := r1 0 (by omega); rw [hz] at this; exact this
  have ev : a_robValue h = a_eValue 0 := by have := r5 0 (by omega); rw [hz] at this; exact this
  have en : a_robNext h = a_eNext 0 := by have := r7 0 (by omega); rw [hz] at this; exact this
  have ex : a_robVal1 h = a_eVal1 0 := by have := r9 0 (by omega); rw [hz] at this; exact this
  have hcl : (nI h).toNatClampNeg = h := nI_clamp (by omega)
  have hin : vp_in (nI h) 16 := vp_in_nI hh (by omega)
  have hwk : ¬ nI w ≤ nI k := nI_ge hk (by omega)
  have hwk' : ¬ a_settings 10 ≤ nI k := by rw [hs10]; exact hwk
  have hk3 : ¬ (3 : Int32) ≤ nI k := nI_ge (b := 3) (by omega) (by omega)
  have hc0 : ¬ nI (c + 1) = 0 := nI_ne0 (by omega) (by omega)
  obtain ⟨mc, ms, z1, z2, z3, z4, z5, z6, z7, z8, z9, z10, z11, hF, pX, pY⟩ := j_pop (w := w) (rs := rs) (len := len) (qh := qh) (qc := qc) (h := h) (c := c) (f_stations := f_stations) (f_queueSize := f_queueSize) (f_phase := f_phase) (f_pc := f_pc) (f_epc := f_epc) (f_cause := f_cause) (f_handling := f_handling) (f_vector := f_vector) (f_fetchPc := f_fetchPc) (f_parked := f_parked) (f_waitingCount := f_waitingCount) (f_memCount := f_memCount) (a_regs := a_regs) (a_memory := a_memory) (a_progOp := a_progOp) (a_progA := a_progA) (a_progB := a_progB) (a_progC := a_progC) (a_latency := a_latency) (a_counters := a_counters) (a_fqPc := a_fqPc) (a_fqNext := a_fqNext) (a_twoBit := a_twoBit) (a_jumpDelta := a_jumpDelta) (a_robPc := a_robPc) (a_robPredicted := a_robPredicted) (a_robState := a_robState) (a_robRemaining := a_robRemaining) (a_robValue := a_robValue) (a_robFault := a_robFault) (a_robNext := a_robNext) (a_robSrc1 := a_robSrc1) (a_robVal1 := a_robVal1) (a_robSrc2 := a_robSrc2) (a_robVal2 := a_robVal2) (a_robOp := a_robOp) (a_robC := a_robC) (a_robDest := a_robDest) (a_mapSlot := a_mapSlot) (a_unitBusy := a_unitBusy) (a_settings := a_settings) (a_queuePc := a_queuePc) (a_queueNext := a_queueNext) (a_ePc := a_ePc) (a_ePredicted := a_ePredicted) (a_eState := a_eState) (a_eRemaining := a_eRemaining) (a_eValue := a_eValue) (a_eFault := a_eFault) (a_eNext := a_eNext) (a_eWait1 := a_eWait1) (a_eVal1 := a_eVal1) (a_eWait2 := a_eWait2) (a_eVal2 := a_eVal2) H' h0
  by_cases hf : a_eFault 0 = 0
  · by_cases ho0 : rc_op len a_progOp (a_ePc 0) = 0
    · obtain ⟨wc2, mc2, ms2, ub2, ct2, hF2, fX, fY⟩ := j_flush (w := w) (rs := rs) (len := len) (qh := qh) (qc := qc) (h := (h + 1) % 16) (c := c) (f_stations := f_stations) (f_queueSize := f_queueSize) (f_phase := 2) (f_pc := f_pc) (f_epc := f_epc) (f_cause := f_cause) (f_handling := f_handling) (f_vector := f_vector) (f_fetchPc := f_fetchPc) (f_parked := f_parked) (f_waitingCount := f_waitingCount) (f_memCount := mc) (a_regs := a_regs) (a_memory := a_memory) (a_progOp := a_progOp) (a_progA := a_progA) (a_progB := a_progB) (a_progC := a_progC) (a_latency := a_latency) (a_counters := upd a_counters 1 (a_counters 1 + 1)) (a_fqPc := a_fqPc) (a_fqNext := a_fqNext) (a_twoBit := a_twoBit) (a_jumpDelta := a_jumpDelta) (a_robPc := a_robPc) (a_robPredicted := a_robPredicted) (a_robState := a_robState) (a_robRemaining := a_robRemaining) (a_robValue := a_robValue) (a_robFault := a_robFault) (a_robNext := a_robNext) (a_robSrc1 := a_robSrc1) (a_robVal1 := a_robVal1) (a_robSrc2 := a_robSrc2) (a_robVal2 := a_robVal2) (a_robOp := a_robOp) (a_robC := a_robC) (a_robDest := a_robDest) (a_mapSlot := ms) (a_unitBusy := a_unitBusy) (a_settings := a_settings) (a_queuePc := a_queuePc) (a_queueNext := a_queueNext) (a_ePc := z1) (a_ePredicted := z2) (a_eState := z3) (a_eRemaining := z4) (a_eValue := z5) (a_eFault := z6) (a_eNext := z7) (a_eWait1 := z8) (a_eVal1 := z9) (a_eWait2 := z10) (a_eVal2 := z11) hF
      refine Or.inl ⟨(w, rs, len, 0, 0, ((h + 1) % 16), 0, f_stations, f_queueSize, 2, f_pc, f_epc, f_cause, f_handling, f_vector, f_pc, 0, wc2, mc2, a_regs, a_memory, a_progOp, a_progA, a_progB, a_progC, a_latency, ct2, a_fqPc, a_fqNext, a_twoBit, a_jumpDelta, a_robPc, a_robPredicted, a_robState, a_robRemaining, a_robValue, a_robFault, a_robNext, a_robSrc1, a_robVal1, a_robSrc2, a_robVal2, a_robOp, a_robC, a_robDest, ms2, ub2, a_settings, a_queuePc, a_queueNext, z1, z2, z3, z4, z5, z6, z7, z8, z9, z10, z11), ⟨hF2, hb, Or.inl rfl, Or.inr rfl⟩, fun post n G => ?_, fun post n G => ?_⟩
      · show wX_commitStage_4 post (n + 2) 1 (nI k) (nI rs) f_stations f_queueSize (nI w) f_phase f_pc f_epc f_cause f_handling f_vector (nI len) f_fetchPc f_parked (nI qh) (nI qc) (nI h) (nI (c + 1)) f_waitingCount f_memCount a_regs a_memory a_progOp a_progA a_progB a_progC a_latency a_counters a_fqPc a_fqNext a_twoBit a_jumpDelta a_robPc a_robPredicted a_robState a_robRemaining a_robValue a_robFault a_robNext a_robSrc1 a_robVal1 a_robSrc2 a_robVal2 a_robOp a_robC a_robDest a_mapSlot a_unitBusy
        refine br_f hwk (br_f (by decide) (br_f hc0 (And.intro hin ?_)))
        rw [hcl]
        refine br_t es (pX _ (nm_e (And.intro hin (nm_r (e' := rc_op len a_progOp (a_ePc 0)) eo (And.intro hin (nm_r (e' := rc_fa len a_progC (a_ePc 0)) ec (And.intro hin ?_)))))))
        rw [ef]
        exact br_t hf (br_t ho0 (fX _ (nm_e (br_c (fun _ => G) (fun _ => br_t rfl G)))))
      · show wY_commitStage_2 post (n + 1) (nI k) f_pc f_epc f_cause f_handling f_vector f_phase (nI len) f_fetchPc f_parked (nI qc) (nI (c + 1)) a_regs a_memory a_progOp a_progA a_progB a_progC a_counters a_settings a_queuePc a_queueNext a_twoBit a_jumpDelta a_ePc a_ePredicted a_eState a_eRemaining a_eValue a_eFault a_eNext a_eWait1 a_eVal1 a_eWait2 a_eVal2
        exact br_f hk3 (br_f hwk' (br_f hc0 (br_t h0 (nm_e (nm_e (nm_e (nm_e (nm_e (y_opAt hl (y_cAt hl (y_destinationAt hl (pY _ (nm_e (br_t hf (br_t ho0 (fY _ G))))))))))))))))
    · by_cases ho15 : rc_op len a_progOp (a_ePc 0) = 15 ∧ (rc_fa len a_progC (a_ePc 0) = 1 ∨ rc_fa len a_progC (a_ePc 0) = 2)
      · obtain ⟨ph, pc, ep, ca, hd, ct, g1, tX, tY⟩ := j_ret (w := w) (rs := rs) (len := len) (qh := qh) (qc := qc) (h := (h + 1) % 16) (c := c) (f_stations := f_stations) (f_queueSize := f_queueSize) (f_phase := f_phase) (f_pc := f_pc) (f_epc := f_epc) (f_cause := f_cause) (f_handling := f_handling) (f_vector := f_vector) (f_fetchPc := f_fetchPc) (f_parked := f_parked) (f_waitingCount := f_waitingCount) (f_memCount := mc) (a_regs := a_regs) (a_memory := a_memory) (a_progOp := a_progOp) (a_progA := a_progA) (a_progB := a_progB) (a_progC := a_progC) (a_latency := a_latency) (a_counters := upd a_counters 1 (a_counters 1 + 1)) (a_fqPc := a_fqPc) (a_fqNext := a_fqNext) (a_twoBit := a_twoBit) (a_jumpDelta := a_jumpDelta) (a_robPc := a_robPc) (a_robPredicted := a_robPredicted) (a_robState := a_robState) (a_robRemaining := a_robRemaining) (a_robValue := a_robValue) (a_robFault := a_robFault) (a_robNext := a_robNext) (a_robSrc1 := a_robSrc1) (a_robVal1 := a_robVal1) (a_robSrc2 := a_robSrc2) (a_robVal2 := a_robVal2) (a_robOp := a_robOp) (a_robC := a_robC) (a_robDest := a_robDest) (a_mapSlot := ms) (a_unitBusy := a_unitBusy) (a_settings := a_settings) (a_queuePc := a_queuePc) (a_queueNext := a_queueNext) (a_ePc := z1) (a_ePredicted := z2) (a_eState := z3) (a_eRemaining := z4) (a_eValue := z5) (a_eFault := z6) (a_eNext := z7) (a_eWait1 := z8) (a_eVal1 := z9) (a_eWait2 := z10) (a_eVal2 := z11) (rc_fa len a_progC (a_ePc 0)) hb
        obtain ⟨wc2, mc2, ms2, ub2, ct2, hF2, fX, fY⟩ := j_flush (w := w) (rs := rs) (len := len) (qh := qh) (qc := qc) (h := (h + 1) % 16) (c := c) (f_stations := f_stations) (f_queueSize := f_queueSize) (f_phase := ph) (f_pc := pc) (f_epc := ep) (f_cause := ca) (f_handling := hd) (f_vector := f_vector) (f_fetchPc := f_fetchPc) (f_parked := f_parked) (f_waitingCount := f_waitingCount) (f_memCount := mc) (a_regs := a_regs) (a_memory := a_memory) (a_progOp := a_progOp) (a_progA := a_progA) (a_progB := a_progB) (a_progC := a_progC) (a_latency := a_latency) (a_counters := ct) (a_fqPc := a_fqPc) (a_fqNext := a_fqNext) (a_twoBit := a_twoBit) (a_jumpDelta := a_jumpDelta) (a_robPc := a_robPc) (a_robPredicted := a_robPredicted) (a_robState := a_robState) (a_robRemaining := a_robRemaining) (a_robValue := a_robValue) (a_robFault := a_robFault) (a_robNext := a_robNext) (a_robSrc1 := a_robSrc1) (a_robVal1 := a_robVal1) (a_robSrc2 := a_robSrc2) (a_robVal2 := a_robVal2) (a_robOp := a_robOp) (a_robC := a_robC) (a_robDest := a_robDest) (a_mapSlot := ms) (a_unitBusy := a_unitBusy) (a_settings := a_settings) (a_queuePc := a_queuePc) (a_queueNext := a_queueNext) (a_ePc := z1) (a_ePredicted := z2) (a_eState := z3) (a_eRemaining := z4) (a_eValue := z5) (a_eFault := z6) (a_eNext := z7) (a_eWait1 := z8) (a_eVal1 := z9) (a_eWait2 := z10) (a_eVal2 := z11) hF
        refine Or.inl ⟨(w, rs, len, 0, 0, ((h + 1) % 16), 0, f_stations, f_queueSize, ph, pc, ep, ca, hd, f_vector, pc, 0, wc2, mc2, a_regs, a_memory, a_progOp, a_progA, a_progB, a_progC, a_latency, ct2, a_fqPc, a_fqNext, a_twoBit, a_jumpDelta, a_robPc, a_robPredicted, a_robState, a_robRemaining, a_robValue, a_robFault, a_robNext, a_robSrc1, a_robVal1, a_robSrc2, a_robVal2, a_robOp, a_robC, a_robDest, ms2, ub2, a_settings, a_queuePc, a_queueNext, z1, z2, z3, z4, z5, z6, z7, z8, z9, z10, z11), ⟨hF2, g1, Or.inl rfl, Or.inr rfl⟩, fun post n G => ?_, fun post n G => ?_⟩
        · show wX_commitStage_4 post (n + 2) 1 (nI k) (nI rs) f_stations f_queueSize (nI w) f_phase f_pc f_epc f_cause f_handling f_vector (nI len) f_fetchPc f_parked (nI qh) (nI qc) (nI h) (nI (c + 1)) f_waitingCount f_memCount a_regs a_memory a_progOp a_progA a_progB a_progC a_latency a_counters a_fqPc a_fqNext a_twoBit a_jumpDelta a_robPc a_robPredicted a_robState a_robRemaining a_robValue a_robFault a_robNext a_robSrc1 a_robVal1 a_robSrc2 a_robVal2 a_robOp a_robC a_robDest a_mapSlot a_unitBusy
          refine br_f hwk (br_f (by decide) (br_f hc0 (And.intro hin ?_)))
          rw [hcl]
          refine br_t es (pX _ (nm_e (And.intro hin (nm_r (e' := rc_op len a_progOp (a_ePc 0)) eo (And.intro hin (nm_r (e' := rc_fa len a_progC (a_ePc 0)) ec (And.intro hin ?_)))))))
          rw [ef]
          refine br_t hf (br_f ho0 (br_t ho15.1 ?_))
          rcases ho15.2 with q | q
          · exact br_t q (tX _ (fX _ (nm_e (br_c (fun _ => G) (fun _ => br_t rfl G)))))
          · exact br_f (by rw [q]; decide) (br_t q (tX _ (fX _ (nm_e (br_c (fun _ => G) (fun _ => br_t rfl G))))))
        · show wY_commitStage_2 post (n + 1) (nI k) f_pc f_epc f_cause f_handling f_vector f_phase (nI len) f_fetchPc f_parked (nI qc) (nI (c + 1)) a_regs a_memory a_progOp a_progA a_progB a_progC a_counters a_settings a_queuePc a_queueNext a_twoBit a_jumpDelta a_ePc a_ePredicted a_eState a_eRemaining a_eValue a_eFault a_eNext a_eWait1 a_eVal1 a_eWait2 a_eVal2
          refine br_f hk3 (br_f hwk' (br_f hc0 (br_t h0 (nm_e (nm_e (nm_e (nm_e (nm_e (y_opAt hl (y_cAt hl (y_destinationAt hl (pY _ (nm_e (br_t hf (br_f ho0 (br_t ho15.1 ?_))))))))))))))))
          rcases ho15.2 with q | q
          · exact br_t q (tY _ (fY _ G))
          · exact br_f (by rw [q]; decide) (br_t q (tY _ (fY _ G)))
      · obtain ⟨rg, mm, tb, jd, tX, tY⟩ := j_retire (w := w) (rs := rs) (len := len) (qh := qh) (qc := qc) (h := (h + 1) % 16) (c := c) (f_stations := f_stations) (f_queueSize := f_queueSize) (f_phase := f_phase) (f_pc := f_pc) (f_epc := f_epc) (f_cause := f_cause) (f_handling := f_handling) (f_vector := f_vector) (f_fetchPc := f_fetchPc) (f_parked := f_parked) (f_waitingCount := f_waitingCount) (f_memCount := mc) (a_regs := a_regs) (a_memory := a_memory) (a_progOp := a_progOp) (a_progA := a_progA) (a_progB := a_progB) (a_progC := a_progC) (a_latency := a_latency) (a_counters := upd a_counters 1 (a_counters 1 + 1)) (a_fqPc := a_fqPc) (a_fqNext := a_fqNext) (a_twoBit := a_twoBit) (a_jumpDelta := a_jumpDelta) (a_robPc := a_robPc) (a_robPredicted := a_robPredicted) (a_robState := a_robState) (a_robRemaining := a_robRemaining) (a_robValue := a_robValue) (a_robFault := a_robFault) (a_robNext := a_robNext) (a_robSrc1 := a_robSrc1) (a_robVal1 := a_robVal1) (a_robSrc2 := a_robSrc2) (a_robVal2 := a_robVal2) (a_robOp := a_robOp) (a_robC := a_robC) (a_robDest := a_robDest) (a_mapSlot := ms) (a_unitBusy := a_unitBusy) (a_settings := a_settings) (a_queuePc := a_queuePc) (a_queueNext := a_queueNext) (a_ePc := z1) (a_ePredicted := z2) (a_eState := z3) (a_eRemaining := z4) (a_eValue := z5) (a_eFault := z6) (a_eNext := z7) (a_eWait1 := z8) (a_eVal1 := z9) (a_eWait2 := z10) (a_eVal2 := z11) hh (dt_8 hP (a_ePc 0)) eo ed ep' ev en ex ec
        refine Or.inr ⟨(w, rs, len, qh, qc, ((h + 1) % 16), c, f_stations, f_queueSize, f_phase, (a_eNext 0), f_epc, f_cause, f_handling, f_vector, f_fetchPc, f_parked, f_waitingCount, mc, rg, mm, a_progOp, a_progA, a_progB, a_progC, a_latency, (upd a_counters 1 (a_counters 1 + 1)), a_fqPc, a_fqNext, tb, jd, a_robPc, a_robPredicted, a_robState, a_robRemaining, a_robValue, a_robFault, a_robNext, a_robSrc1, a_robVal1, a_robSrc2, a_robVal2, a_robOp, a_robC, a_robDest, ms, a_unitBusy, a_settings, a_queuePc, a_queueNext, z1, z2, z3, z4, z5, z6, z7, z8, z9, z10, z11), ⟨⟨hF, hb, hpk, Or.inl hph⟩, hph, rfl⟩, fun post n G => ?_, fun post n G => ?_⟩
        · show wX_commitStage_4 post (n + 1) 1 (nI k) (nI rs) f_stations f_queueSize (nI w) f_phase f_pc f_epc f_cause f_handling f_vector (nI len) f_fetchPc f_parked (nI qh) (nI qc) (nI h) (nI (c + 1)) f_waitingCount f_memCount a_regs a_memory a_progOp a_progA a_progB a_progC a_latency a_counters a_fqPc a_fqNext a_twoBit a_jumpDelta a_robPc a_robPredicted a_robState a_robRemaining a_robValue a_robFault a_robNext a_robSrc1 a_robVal1 a_robSrc2 a_robVal2 a_robOp a_robC a_robDest a_mapSlot a_unitBusy
          refine br_f hwk (br_f (by decide) (br_f hc0 (And.intro hin ?_)))
          rw [hcl]
          refine br_t es (pX _ (nm_e (And.intro hin (nm_r (e' := rc_op len a_progOp (a_ePc 0)) eo (And.intro hin (nm_r (e' := rc_fa len a_progC (a_ePc 0)) ec (And.intro hin ?_)))))))
          rw [ef]
          refine br_t hf (br_f ho0 ?_)
          by_cases q15 : rc_op len a_progOp (a_ePc 0) = 15
          · exact br_t q15 (br_f (fun q => ho15 ⟨q15, Or.inl q⟩) (br_f (fun q => ho15 ⟨q15, Or.inr q⟩) (tX _ (nm_r (nI_1 k) G))))
          · exact br_f q15 (tX _ (nm_r (nI_1 k) G))
        · show wY_commitStage_2 post (n + 1) (nI k) f_pc f_epc f_cause f_handling f_vector f_phase (nI len) f_fetchPc f_parked (nI qc) (nI (c + 1)) a_regs a_memory a_progOp a_progA a_progB a_progC a_counters a_settings a_queuePc a_queueNext a_twoBit a_jumpDelta a_ePc a_ePredicted a_eState a_eRemaining a_eValue a_eFault a_eNext a_eWait1 a_eVal1 a_eWait2 a_eVal2
          refine br_f hk3 (br_f hwk' (br_f hc0 (br_t h0 (nm_e (nm_e (nm_e (nm_e (nm_e (y_opAt hl (y_cAt hl (y_destinationAt hl (pY _ (nm_e (br_t hf (br_f ho0 ?_)))))))))))))))
          by_cases q15 : rc_op len a_progOp (a_ePc 0) = 15
          · exact br_t q15 (br_f (fun q => ho15 ⟨q15, Or.inl q⟩) (br_f (fun q => ho15 ⟨q15, Or.inr q⟩) (tY _ _ k G)))
          · exact br_f q15 (tY _ _ k G)
  · obtain ⟨ph, pc, ep, ca, hd, ct, g1, tX, tY⟩ := j_trap (w := w) (rs := rs) (len := len) (qh := qh) (qc := qc) (h := (h + 1) % 16) (c := c) (f_stations := f_stations) (f_queueSize := f_queueSize) (f_phase := f_phase) (f_pc := f_pc) (f_epc := f_epc) (f_cause := f_cause) (f_handling := f_handling) (f_vector := f_vector) (f_fetchPc := f_fetchPc) (f_parked := f_parked) (f_waitingCount := f_waitingCount) (f_memCount := mc) (a_regs := a_regs) (a_memory := a_memory) (a_progOp := a_progOp) (a_progA := a_progA) (a_progB := a_progB) (a_progC := a_progC) (a_latency := a_latency) (a_counters := upd a_counters 1 (a_counters 1 + 1)) (a_fqPc := a_fqPc) (a_fqNext := a_fqNext) (a_twoBit := a_twoBit) (a_jumpDelta := a_jumpDelta) (a_robPc := a_robPc) (a_robPredicted := a_robPredicted) (a_robState := a_robState) (a_robRemaining := a_robRemaining) (a_robValue := a_robValue) (a_robFault := a_robFault) (a_robNext := a_robNext) (a_robSrc1 := a_robSrc1) (a_robVal1 := a_robVal1) (a_robSrc2 := a_robSrc2) (a_robVal2 := a_robVal2) (a_robOp := a_robOp) (a_robC := a_robC) (a_robDest := a_robDest) (a_mapSlot := ms) (a_unitBusy := a_unitBusy) (a_settings := a_settings) (a_queuePc := a_queuePc) (a_queueNext := a_queueNext) (a_ePc := z1) (a_ePredicted := z2) (a_eState := z3) (a_eRemaining := z4) (a_eValue := z5) (a_eFault := z6) (a_eNext := z7) (a_eWait1 := z8) (a_eVal1 := z9) (a_eWait2 := z10) (a_eVal2 := z11) (a_eFault 0) hb
    obtain ⟨wc2, mc2, ms2, ub2, ct2, hF2, fX, fY⟩ := j_flush (w := w) (rs := rs) (len := len) (qh := qh) (qc := qc) (h := (h + 1) % 16) (c := c) (f_stations := f_stations) (f_queueSize := f_queueSize) (f_phase := ph) (f_pc := pc) (f_epc := ep) (f_cause := ca) (f_handling := hd) (f_vector := f_vector) (f_fetchPc := f_fetchPc) (f_parked := f_parked) (f_waitingCount := f_waitingCount) (f_memCount := mc) (a_regs := a_regs) (a_memory := a_memory) (a_progOp := a_progOp) (a_progA := a_progA) (a_progB := a_progB) (a_progC := a_progC) (a_latency := a_latency) (a_counters := ct) (a_fqPc := a_fqPc) (a_fqNext := a_fqNext) (a_twoBit := a_twoBit) (a_jumpDelta := a_jumpDelta) (a_robPc := a_robPc) (a_robPredicted := a_robPredicted) (a_robState := a_robState) (a_robRemaining := a_robRemaining) (a_robValue := a_robValue) (a_robFault := a_robFault) (a_robNext := a_robNext) (a_robSrc1 := a_robSrc1) (a_robVal1 := a_robVal1) (a_robSrc2 := a_robSrc2) (a_robVal2 := a_robVal2) (a_robOp := a_robOp) (a_robC := a_robC) (a_robDest := a_robDest) (a_mapSlot := ms) (a_unitBusy := a_unitBusy) (a_settings := a_settings) (a_queuePc := a_queuePc) (a_queueNext := a_queueNext) (a_ePc := z1) (a_ePredicted := z2) (a_eState := z3) (a_eRemaining := z4) (a_eValue := z5) (a_eFault := z6) (a_eNext := z7) (a_eWait1 := z8) (a_eVal1 := z9) (a_eWait2 := z10) (a_eVal2 := z11) hF
    refine Or.inl ⟨(w, rs, len, 0, 0, ((h + 1) % 16), 0, f_stations, f_queueSize, ph, pc, ep, ca, hd, f_vector, pc, 0, wc2, mc2, a_regs, a_memory, a_progOp, a_progA, a_progB, a_progC, a_latency, ct2, a_fqPc, a_fqNext, a_twoBit, a_jumpDelta, a_robPc, a_robPredicted, a_robState, a_robRemaining, a_robValue, a_robFault, a_robNext, a_robSrc1, a_robVal1, a_robSrc2, a_robVal2, a_robOp, a_robC, a_robDest, ms2, ub2, a_settings, a_queuePc, a_queueNext, z1, z2, z3, z4, z5, z6, z7, z8, z9, z10, z11), ⟨hF2, g1, Or.inl rfl, Or.inr rfl⟩, fun post n G => ?_, fun post n G => ?_⟩
    · show wX_commitStage_4 post (n + 2) 1 (nI k) (nI rs) f_stations f_queueSize (nI w) f_phase f_pc f_epc f_cause f_handling f_vector (nI len) f_fetchPc f_parked (nI qh) (nI qc) (nI h) (nI (c + 1)) f_waitingCount f_memCount a_regs a_memory a_progOp a_progA a_progB a_progC a_latency a_counters a_fqPc a_fqNext a_twoBit a_jumpDelta a_robPc a_robPredicted a_robState a_robRemaining a_robValue a_robFault a_robNext a_robSrc1 a_robVal1 a_robSrc2 a_robVal2 a_robOp a_robC a_robDest a_mapSlot a_unitBusy
      refine br_f hwk (br_f (by decide) (br_f hc0 (And.intro hin ?_)))
      rw [hcl]
      refine br_t es (pX _ (nm_e (And.intro hin (nm_r (e' := rc_op len a_progOp (a_ePc 0)) eo (And.intro hin (nm_r (e' := rc_fa len a_progC (a_ePc 0)) ec (And.intro hin ?_)))))))
      rw [ef]
      exact br_f hf (And.intro hin (tX _ (fX _ (nm_e (br_c (fun _ => G) (fun _ => br_t rfl G))))))
    · show wY_commitStage_2 post (n + 1) (nI k) f_pc f_epc f_cause f_handling f_vector f_phase (nI len) f_fetchPc f_parked (nI qc) (nI (c + 1)) a_regs a_memory a_progOp a_progA a_progB a_progC a_counters a_settings a_queuePc a_queueNext a_twoBit a_jumpDelta a_ePc a_ePredicted a_eState a_eRemaining a_eValue a_eFault a_eNext a_eWait1 a_eVal1 a_eWait2 a_eVal2
      exact br_f hk3 (br_f hwk' (br_f hc0 (br_t h0 (nm_e (nm_e (nm_e (nm_e (nm_e (y_opAt hl (y_cAt hl (y_destinationAt hl (pY _ (nm_e (br_f hf (tY _ (fY _ G))))))))))))))))
theorem j_cs {k : Nat} : ∀ z, k < rc_zw z → rc_RU (rc_zw z) z → rc_ST rc_cX rc_cY (rc_RU (rc_zw z)) rc_FZ k z := by
  refine rc_el ?_
  intro w rs len qh qc h c f_stations f_queueSize f_phase f_pc f_epc f_cause f_handling f_vector f_fetchPc f_parked f_waitingCount f_memCount a_regs a_memory a_progOp a_progA a_progB a_progC a_latency a_counters a_fqPc a_fqNext a_twoBit a_jumpDelta a_robPc a_robPredicted a_robState a_robRemaining a_robValue a_robFault a_robNext a_robSrc1 a_robVal1 a_robSrc2 a_robVal2 a_robOp a_robC a_robDest a_mapSlot a_unitBusy a_settings a_queuePc a_queueNext a_ePc a_ePredicted a_eState a_eRemaining a_eValue a_eFault a_eNext a_eWait1 a_eVal1 a_eWait2 a_eVal2 hk HR
  obtain ⟨⟨H, hb, hpk, _⟩, hph, _⟩ := HR
  show rc_ST rc_cX rc_cY (rc_RU w) rc_FZ k (w, rs, len, qh, qc, h, c, f_stations, f_queueSize, f_phase, f_pc, f_epc, f_cause, f_handling, f_vector, f_fetchPc, f_parked, f_waitingCount, f_memCount, a_regs, a_memory, a_progOp, a_progA, a_progB, a_progC, a_latency, a_counters, a_fqPc, a_fqNext, a_twoBit, a_jumpDelta, a_robPc, a_robPredicted, a_robState, a_robRemaining, a_robValue, a_robFault, a_robNext, a_robSrc1, a_robVal1, a_robSrc2, a_robVal2, a_robOp, a_robC, a_robDest, a_mapSlot, a_unitBusy, a_settings, a_queuePc, a_queueNext, a_ePc, a_ePredicted, a_eState, a_eRemaining, a_eValue, a_eFault, a_eNext, a_eWait1, a_eVal1, a_eWait2, a_eVal2)
  have hk : k < w := hk
  have hph : f_phase = 1 := hph
  have H' : rc_F0 w rs len qh qc h c f_stations f_queueSize f_waitingCount f_memCount a_latency a_settings a_progOp a_progA a_progB a_progC a_fqPc a_fqNext a_queuePc a_queueNext a_robPc a_robPredicted a_robState a_robRemaining a_robValue a_robFault a_robNext a_robSrc1 a_robVal1 a_robSrc2 a_robVal2 a_robOp a_robC a_robDest a_ePc a_ePredicted a_eState a_eRemaining a_eValue a_eFault a_eNext a_eWait1 a_eVal1 a_eWait2 a_eVal2 a_mapSlot a_unitBusy := H
  obtain ⟨⟨hw1, hw3, hrs, _, _, _, hs10, _⟩, hP, hQ, ⟨hh, hc, r1, r2, r3, _⟩, _⟩ := H
  have hwk : ¬ nI w ≤ nI k := nI_ge hk (by omega)
  have hwk' : ¬ a_settings 10 ≤ nI k := by rw [hs10]; exact hwk
  have hk3 : ¬ (3 : Int32) ≤ nI k := nI_ge (b := 3) (by omega) (by omega)
  rcases c with _ | c
  · refine Or.inl ⟨(w, rs, len, qh, qc, h, 0, f_stations, f_queueSize, f_phase, f_pc, f_epc, f_cause, f_handling, f_vector, f_fetchPc, f_parked, f_waitingCount, f_memCount, a_regs, a_memory, a_progOp, a_progA, a_progB, a_progC, a_latency, a_counters, a_fqPc, a_fqNext, a_twoBit, a_jumpDelta, a_robPc, a_robPredicted, a_robState, a_robRemaining, a_robValue, a_robFault, a_robNext, a_robSrc1, a_robVal1, a_robSrc2, a_robVal2, a_robOp, a_robC, a_robDest, a_mapSlot, a_unitBusy, a_settings, a_queuePc, a_queueNext, a_ePc, a_ePredicted, a_eState, a_eRemaining, a_eValue, a_eFault, a_eNext, a_eWait1, a_eVal1, a_eWait2, a_eVal2), ⟨H', hb, hpk, Or.inr rfl⟩, fun post n G => ?_, fun post n G => ?_⟩
    · show wX_commitStage_4 post (n + 2) 1 (nI k) (nI rs) f_stations f_queueSize (nI w) f_phase f_pc f_epc f_cause f_handling f_vector (nI len) f_fetchPc f_parked (nI qh) (nI qc) (nI h) (nI 0) f_waitingCount f_memCount a_regs a_memory a_progOp a_progA a_progB a_progC a_latency a_counters a_fqPc a_fqNext a_twoBit a_jumpDelta a_robPc a_robPredicted a_robState a_robRemaining a_robValue a_robFault a_robNext a_robSrc1 a_robVal1 a_robSrc2 a_robVal2 a_robOp a_robC a_robDest a_mapSlot a_unitBusy
      exact br_f hwk (br_f (by decide) (br_t rfl (nm_e (br_c (fun _ => G) (fun _ => br_t rfl G)))))
    · show wY_commitStage_2 post (n + 1) (nI k) f_pc f_epc f_cause f_handling f_vector f_phase (nI len) f_fetchPc f_parked (nI qc) (nI 0) a_regs a_memory a_progOp a_progA a_progB a_progC a_counters a_settings a_queuePc a_queueNext a_twoBit a_jumpDelta a_ePc a_ePredicted a_eState a_eRemaining a_eValue a_eFault a_eNext a_eWait1 a_eVal1 a_eWait2 a_eVal2
      exact br_f hk3 (br_f hwk' (br_t rfl G))
  · by_cases h0 : a_eState 0 = 3
    · exact j_co H' hb hpk hph h0 hk
    · have hz : (h + 0) % 16 = h := by omega
      have es : a_robState h = a_eState 0 := by have := r3 0 (by omega); rw [hz] at this; exact this
      have hcl : (nI h).toNatClampNeg = h := nI_clamp (by omega)
      have hc0 : ¬ nI (c + 1) = 0 := nI_ne0 (by omega) (by omega)
      refine Or.inl ⟨(w, rs, len, qh, qc, h, (c + 1), f_stations, f_queueSize, f_phase, f_pc, f_epc, f_cause, f_handling, f_vector, f_fetchPc, f_parked, f_waitingCount, f_memCount, a_regs, a_memory, a_progOp, a_progA, a_progB, a_progC, a_latency, a_counters, a_fqPc, a_fqNext, a_twoBit, a_jumpDelta, a_robPc, a_robPredicted, a_robState, a_robRemaining, a_robValue, a_robFault, a_robNext, a_robSrc1, a_robVal1, a_robSrc2, a_robVal2, a_robOp, a_robC, a_robDest, a_mapSlot, a_unitBusy, a_settings, a_queuePc, a_queueNext, a_ePc, a_ePredicted, a_eState, a_eRemaining, a_eValue, a_eFault, a_eNext, a_eWait1, a_eVal1, a_eWait2, a_eVal2), ⟨H', hb, hpk, Or.inl hph⟩, fun post n G => ?_, fun post n G => ?_⟩
      · show wX_commitStage_4 post (n + 2) 1 (nI k) (nI rs) f_stations f_queueSize (nI w) f_phase f_pc f_epc f_cause f_handling f_vector (nI len) f_fetchPc f_parked (nI qh) (nI qc) (nI h) (nI (c + 1)) f_waitingCount f_memCount a_regs a_memory a_progOp a_progA a_progB a_progC a_latency a_counters a_fqPc a_fqNext a_twoBit a_jumpDelta a_robPc a_robPredicted a_robState a_robRemaining a_robValue a_robFault a_robNext a_robSrc1 a_robVal1 a_robSrc2 a_robVal2 a_robOp a_robC a_robDest a_mapSlot a_unitBusy
        refine br_f hwk (br_f (by decide) (br_f hc0 (And.intro (vp_in_nI hh (by omega)) ?_)))
        rw [hcl, es]
        exact br_f h0 (nm_e (br_c (fun _ => G) (fun _ => br_t rfl G)))
      · show wY_commitStage_2 post (n + 1) (nI k) f_pc f_epc f_cause f_handling f_vector f_phase (nI len) f_fetchPc f_parked (nI qc) (nI (c + 1)) a_regs a_memory a_progOp a_progA a_progB a_progC a_counters a_settings a_queuePc a_queueNext a_twoBit a_jumpDelta a_ePc a_ePredicted a_eState a_eRemaining a_eValue a_eFault a_eNext a_eWait1 a_eVal1 a_eWait2 a_eVal2
        exact br_f hk3 (br_f hwk' (br_f hc0 (br_f h0 G)))
theorem j_cx : ∀ z, rc_FZ z → (∀ post n, post (rc_zX z) → rc_cX post (n + 1) (rc_zw z) (rc_zX z)) ∧ (∀ post n, post (rc_zY z) → rc_cY post (n + 1) (rc_zw z) (rc_zY z)) := by
  refine rc_el ?_
  intro w rs len qh qc h c f_stations f_queueSize f_phase f_pc f_epc f_cause f_handling f_vector f_fetchPc f_parked f_waitingCount f_memCount a_regs a_memory a_progOp a_progA a_progB a_progC a_latency a_counters a_fqPc a_fqNext a_twoBit a_jumpDelta a_robPc a_robPredicted a_robState a_robRemaining a_robValue a_robFault a_robNext a_robSrc1 a_robVal1 a_robSrc2 a_robVal2 a_robOp a_robC a_robDest a_mapSlot a_unitBusy a_settings a_queuePc a_queueNext a_ePc a_ePredicted a_eState a_eRemaining a_eValue a_eFault a_eNext a_eWait1 a_eVal1 a_eWait2 a_eVal2 HF
  obtain ⟨⟨⟨hw1, hw3, hrs, _, _, _, hs10, _⟩, _⟩, _⟩ := HF
  refine ⟨fun post n G => ?_, fun post n G => ?_⟩
  · show wX_commitStage_4 post (n + 1) 1 (nI w) (nI rs) f_stations f_queueSize (nI w) f_phase f_pc f_epc f_cause f_handling f_vector (nI len) f_fetchPc f_parked (nI qh) (nI qc) (nI h) (nI c) f_waitingCount f_memCount a_regs a_memory a_progOp a_progA a_progB a_progC a_latency a_counters a_fqPc a_fqNext a_twoBit a_jumpDelta a_robPc a_robPredicted a_robState a_robRemaining a_robValue a_robFault a_robNext a_robSrc1 a_robVal1 a_robSrc2 a_robVal2 a_robOp a_robC a_robDest a_mapSlot a_unitBusy
    exact br_t (nI_le (Nat.le_refl _) (by omega)) G
  · show wY_commitStage_2 post (n + 1) (nI w) f_pc f_epc f_cause f_handling f_vector f_phase (nI len) f_fetchPc f_parked (nI qc) (nI c) a_regs a_memory a_progOp a_progA a_progB a_progC a_counters a_settings a_queuePc a_queueNext a_twoBit a_jumpDelta a_ePc a_ePredicted a_eState a_eRemaining a_eValue a_eFault a_eNext a_eWait1 a_eVal1 a_eWait2 a_eVal2
    exact br_c (fun _ => G) (fun _ => br_t (by rw [hs10]; exact nI_le (Nat.le_refl _) (by omega)) G)
/-- the commit stage -/
theorem j_commitStage (z : rc_Z) (H : rc_FZ z) (hp : rc_zp z = 1) : ∃ z', rc_FZ z' ∧ (∀ post : SX → Prop, post (rc_zX z') → wpX_commitStage post (rc_zX z)) ∧ (∀ post : SY → Prop, post (rc_zY z') → wpY_commitStage post (rc_zY z)) := by
  obtain ⟨z', h1, h2, h3⟩ := rc_loop (WX := rc_cX) (WY := rc_cY) (I := rc_RU (rc_zw z)) (F := rc_FZ) (e := rc_zw z) (fun z1 h1 => by
    have g := j_cx z1 h1.1
    rw [h1.2.2] at g
    exact ⟨h1.1, g⟩) (fun k z1 hk h1 => by
    have h2 := h1.2.2
    have g := j_cs (k := k) z1 (by omega) (by rw [h2]; exact h1)
    rw [h2] at g
    exact g) (rc_zw z) 0 z (by omega) ⟨H, hp, rfl⟩
  exact ⟨z', h1, fun post G => ⟨_, h2 post (rc_zw z + 2) (by omega) G⟩, fun post G => ⟨_, h3 post (rc_zw z + 2) (by omega) G⟩⟩
end
end
section
/-! the bus: countdown in lockstep, the oldest finished entry, waking -/
section
variable {w rs len qh qc h c : Nat} {f_stations f_queueSize f_phase f_pc f_epc f_cause f_handling f_vector f_fetchPc f_parked f_waitingCount f_memCount : Int32} {a_regs a_memory a_progOp a_progA a_progB a_progC a_latency a_counters a_fqPc a_fqNext a_twoBit a_jumpDelta a_robPc a_robPredicted a_robState a_robRemaining a_robValue a_robFault a_robNext a_robSrc1 a_robVal1 a_robSrc2 a_robVal2 a_robOp a_robC a_robDest a_mapSlot a_unitBusy a_settings a_queuePc a_queueNext a_ePc a_ePredicted a_eState a_eRemaining a_eValue a_eFault a_eNext a_eWait1 a_eVal1 a_eWait2 a_eVal2 : Nat → Int32}
theorem f0_rm {Rm rm : Nat → Int32} (H : rc_F0 w rs len qh qc h c f_stations f_queueSize f_waitingCount f_memCount a_latency a_settings a_progOp a_progA a_progB a_progC a_fqPc a_fqNext a_queuePc a_queueNext a_robPc a_robPredicted a_robState a_robRemaining a_robValue a_robFault a_robNext a_robSrc1 a_robVal1 a_robSrc2 a_robVal2 a_robOp a_robC a_robDest a_ePc a_ePredicted a_eState a_eRemaining a_eValue a_eFault a_eNext a_eWait1 a_eVal1 a_eWait2 a_eVal2 a_mapSlot a_unitBusy) (r4 : rc_RA 16 h c Rm rm) : rc_F0 w rs len qh qc h c f_stations f_queueSize f_waitingCount f_memCount a_latency a_settings a_progOp a_progA a_progB a_progC a_fqPc a_fqNext a_queuePc a_queueNext a_robPc a_robPredicted a_robState Rm a_robValue a_robFault a_robNext a_robSrc1 a_robVal1 a_robSrc2 a_robVal2 a_robOp a_robC a_robDest a_ePc a_ePredicted a_eState rm a_eValue a_eFault a_eNext a_eWait1 a_eVal1 a_eWait2 a_eVal2 a_mapSlot a_unitBusy := by
  obtain ⟨hS, hP, hQ, ⟨hh, hc, r1, r2, r3, _, r5, r6, r7, r8, r9, r10, r11, r12, r13, r14⟩, hI, hw, hm, hM, hU⟩ := H
  unfold rc_F0 rc_Rb
  exact ⟨hS, hP, hQ, ⟨hh, hc, r1, r2, r3, r4, r5, r6, r7, r8, r9, r10, r11, r12, r13, r14⟩, hI, hw, hm, hM, hU⟩
theorem j_cd (hh : h < 16) (hc : c ≤ 16) (r3 : rc_RA 16 h c a_robState a_eState) : ∀ (d p : Nat) (Rm rm : Nat → Int32), p + d = c → rc_RA 16 h c Rm rm → ∃ Rm' rm', rc_RA 16 h c Rm' rm' ∧ (∀ (post : SX → Prop) (n : Nat), d < n → post ((nI rs), f_stations, f_queueSize, (nI w), f_phase, f_pc, f_epc, f_cause, f_handling, f_vector, (nI len), f_fetchPc, f_parked, (nI qh), (nI qc), (nI h), (nI c), f_waitingCount, f_memCount, a_regs, a_memory, a_progOp, a_progA, a_progB, a_progC, a_latency, a_counters, a_fqPc, a_fqNext, a_twoBit, a_jumpDelta, a_robPc, a_robPredicted, a_robState, Rm', a_robValue, a_robFault, a_robNext, a_robSrc1, a_robVal1, a_robSrc2, a_robVal2, a_robOp, a_robC, a_robDest, a_mapSlot, a_unitBusy) → wX_countDown_2 post (nI rs) f_stations f_queueSize (nI w) f_phase f_pc f_epc f_cause f_handling f_vector (nI len) f_fetchPc f_parked (nI qh) (nI qc) (nI h) (nI c) f_waitingCount f_memCount n (nI p) a_regs a_memory a_progOp a_progA a_progB a_progC a_latency a_counters a_fqPc a_fqNext a_twoBit a_jumpDelta a_robPc a_robPredicted a_robState Rm a_robValue a_robFault a_robNext a_robSrc1 a_robVal1 a_robSrc2 a_robVal2 a_robOp a_robC a_robDest a_mapSlot a_unitBusy) ∧ (∀ (post : SY → Prop) (n : Nat), d < n → (∃ n57 : Nat, wY_busStage_57 post f_pc f_epc f_cause f_handling f_vector f_phase (nI len) n57 0 f_fetchPc f_parked (nI qc) (nI c) a_regs a_memory a_progOp a_progA a_progB a_progC a_counters a_settings a_queuePc a_queueNext a_twoBit a_jumpDelta a_ePc a_ePredicted a_eState rm' a_eValue a_eFault a_eNext a_eWait1 a_eVal1 a_eWait2 a_eVal2) → wY_busStage_2 post f_pc f_epc f_cause f_handling f_vector f_phase (nI len) f_fetchPc f_parked (nI qc) (nI c) n (nI p) a_regs a_memory a_progOp a_progA a_progB a_progC a_counters a_settings a_queuePc a_queueNext a_twoBit a_jumpDelta a_ePc a_ePredicted a_eState rm a_eValue a_eFault a_eNext a_eWait1 a_eVal1 a_eWait2 a_eVal2) := by
  intro d
  induction d with
  | zero =>
    intro p Rm rm hp hR
    have hp : p = c := by omega
    subst hp
    refine ⟨Rm, rm, hR, fun post n hn H => ?_, fun post n hn H => ?_⟩
    · obtain ⟨n, rfl⟩ : ∃ m, n = m + 1 := ⟨n - 1, by omega⟩
      exact br_t (nI_le (Nat.le_refl _) (by omega)) H
    · obtain ⟨n, rfl⟩ : ∃ m, n = m + 1 := ⟨n - 1, by omega⟩
      exact br_c (fun _ => H) (fun _ => br_t (nI_le (Nat.le_refl _) (by omega)) H)
  | succ d ih =>
    intro p Rm rm hp hR
    have es : a_robState ((h + p) % 16) = a_eState p := r3 p (by omega)
    have er : Rm ((h + p) % 16) = rm p := hR p (by omega)
    have hcl : (nI ((h + p) % 16)).toNatClampNeg = (h + p) % 16 := nI_clamp (by omega)
    have hin : vp_in (nI ((h + p) % 16)) 16 := vp_in_nI (by omega) (by omega)
    have hcp : (nI p).toNatClampNeg = p := nI_clamp (by omega)
    have hip : vp_in (nI p) 16 := vp_in_nI (by omega) (by omega)
    have hcc : ¬ nI c ≤ nI p := nI_ge (by omega) (by omega)
    have h16 : ¬ (16 : Int32) ≤ nI p := nI_ge (b := 16) (by omega) (by omega)
    by_cases h2 : a_eState p = 2
    · by_cases h0 : rm p ≤ 0
      · obtain ⟨Rm', rm', hR', gX, gY⟩ := ih (p + 1) Rm rm (by omega) hR
        refine ⟨Rm', rm', hR', fun post n hn H => ?_, fun post n hn H => ?_⟩
        · obtain ⟨n, rfl⟩ : ∃ m, n = m + 1 := ⟨n - 1, by omega⟩
          refine br_f hcc (nm_r (rc_slot hh (by omega)) (And.intro hin ?_))
          rw [hcl, es, er]
          exact br_t h2 (And.intro hin (br_t h0 (nm_r (nI_1 p) (gX _ _ (by omega) H))))
        · obtain ⟨n, rfl⟩ : ∃ m, n = m + 1 := ⟨n - 1, by omega⟩
          refine br_f h16 (br_f hcc (And.intro hip ?_))
          rw [hcp]
          exact br_t h2 (And.intro hip (br_t h0 (nm_r (nI_1 p) (gY _ _ (by omega) H))))
      · obtain ⟨Rm', rm', hR', gX, gY⟩ := ih (p + 1) (upd Rm ((h + p) % 16) (rm p - 1)) (upd rm p (rm p - 1)) (by omega) (ra_u rc_16 hc (by omega) hR)
        refine ⟨Rm', rm', hR', fun post n hn H => ?_, fun post n hn H => ?_⟩
        · obtain ⟨n, rfl⟩ : ∃ m, n = m + 1 := ⟨n - 1, by omega⟩
          refine br_f hcc (nm_r (rc_slot hh (by omega)) (And.intro hin ?_))
          rw [hcl, es, er]
          exact br_t h2 (And.intro hin (br_f h0 (And.intro hin (And.intro hin (nm_e (nm_r (nI_1 p) (gX _ _ (by omega) H)))))))
        · obtain ⟨n, rfl⟩ : ∃ m, n = m + 1 := ⟨n - 1, by omega⟩
          refine br_f h16 (br_f hcc (And.intro hip ?_))
          rw [hcp]
          exact br_t h2 (And.intro hip (br_f h0 (And.intro hip (And.intro hip (nm_e (nm_r (nI_1 p) (gY _ _ (by omega) H)))))))
    · obtain ⟨Rm', rm', hR', gX, gY⟩ := ih (p + 1) Rm rm (by omega) hR
      refine ⟨Rm', rm', hR', fun post n hn H => ?_, fun post n hn H => ?_⟩
      · obtain ⟨n, rfl⟩ : ∃ m, n = m + 1 := ⟨n - 1, by omega⟩
        refine br_f hcc (nm_r (rc_slot hh (by omega)) (And.intro hin ?_))
        rw [hcl, es]
        exact br_f h2 (nm_r (nI_1 p) (gX _ _ (by omega) H))
      · obtain ⟨n, rfl⟩ : ∃ m, n = m + 1 := ⟨n - 1, by omega⟩
        refine br_f h16 (br_f hcc (And.intro hip ?_))
        rw [hcp]
        exact br_f h2 (nm_r (nI_1 p) (gY _ _ (by omega) H))
theorem y_77done {j : Nat} (hj : j < 16) (hc : c ≤ 16) : ∀ (d i : Nat), i + d = c → ∀ (post : SY → Prop) J57 x1 (n : Nat), d < n → wY_busStage_123 post J57 x1 (nI j) f_pc f_epc f_cause f_handling f_vector f_phase (nI len) f_fetchPc f_parked (nI qc) (nI c) a_regs a_memory a_progOp a_progA a_progB a_progC a_counters a_settings a_queuePc a_queueNext a_twoBit a_jumpDelta a_ePc a_ePredicted a_eState a_eRemaining a_eValue a_eFault a_eNext a_eWait1 a_eVal1 a_eWait2 a_eVal2 → wY_busStage_77 post J57 x1 f_pc f_epc f_cause f_handling f_vector f_phase (nI len) f_fetchPc f_parked (nI qc) (nI c) a_regs a_memory a_progOp a_progA a_progB a_progC a_counters a_settings a_queuePc a_queueNext a_twoBit a_jumpDelta a_ePc a_ePredicted a_eState a_eRemaining a_eValue a_eFault a_eNext a_eWait1 a_eVal1 a_eWait2 a_eVal2 n (nI j) (nI i) := by
  intro d
  induction d with
  | zero =>
    intro i hi post J57 x1 n hn H
    have hi : i = c := by omega
    subst hi
    obtain ⟨n, rfl⟩ : ∃ m, n = m + 1 := ⟨n - 1, by omega⟩
    exact br_c (fun _ => H) (fun _ => br_t (nI_le (Nat.le_refl _) (by omega)) H)
  | succ d ih =>
    intro i hi post J57 x1 n hn H
    obtain ⟨n, rfl⟩ : ∃ m, n = m + 1 := ⟨n - 1, by omega⟩
    exact br_f (nI_ge (b := 16) (by omega) (by omega)) (br_f (nI_ge (by omega) (by omega)) (br_f (rc_nm1 (by omega)) (nm_r (nI_1 i) (ih (i + 1) (by omega) post J57 x1 n (by omega) H))))
theorem j_find (hh : h < 16) (hc : c ≤ 16) (r3 : rc_RA 16 h c a_robState a_eState) (r4 : rc_RA 16 h c a_robRemaining a_eRemaining) : ∀ (d i : Nat), i + d = c → ∃ r, (r = -1 ∨ ∃ j, j < c ∧ r = nI j ∧ a_eState j = 2 ∧ a_eRemaining j = 0) ∧ (∀ (post : Int32 → Prop) (n : Nat), d < n → post r → wX_oldestFinished_2 post (nI rs) f_stations f_queueSize (nI w) f_phase f_pc f_epc f_cause f_handling f_vector (nI len) f_fetchPc f_parked (nI qh) (nI qc) (nI h) (nI c) f_waitingCount f_memCount a_regs a_memory a_progOp a_progA a_progB a_progC a_latency a_counters a_fqPc a_fqNext a_twoBit a_jumpDelta a_robPc a_robPredicted a_robState a_robRemaining a_robValue a_robFault a_robNext a_robSrc1 a_robVal1 a_robSrc2 a_robVal2 a_robOp a_robC a_robDest a_mapSlot a_unitBusy n (nI i)) ∧ (∀ (post : SY → Prop) J57 x1 (n : Nat), d < n → wY_busStage_123 post J57 x1 r f_pc f_epc f_cause f_handling f_vector f_phase (nI len) f_fetchPc f_parked (nI qc) (nI c) a_regs a_memory a_progOp a_progA a_progB a_progC a_counters a_settings a_queuePc a_queueNext a_twoBit a_jumpDelta a_ePc a_ePredicted a_eState a_eRemaining a_eValue a_eFault a_eNext a_eWait1 a_eVal1 a_eWait2 a_eVal2 → wY_busStage_77 post J57 x1 f_pc f_epc f_cause f_handling f_vector f_phase (nI len) f_fetchPc f_parked (nI qc) (nI c) a_regs a_memory a_progOp a_progA a_progB a_progC a_counters a_settings a_queuePc a_queueNext a_twoBit a_jumpDelta a_ePc a_ePredicted a_eState a_eRemaining a_eValue a_eFault a_eNext a_eWait1 a_eVal1 a_eWait2 a_eVal2 n (-1) (nI i)) := by
  intro d
  induction d with
  | zero =>
    intro i hi
    have hi : i = c := by omega
    subst hi
    refine ⟨-1, Or.inl rfl, fun post n hn H => ?_, fun post J57 x1 n hn H => ?_⟩
    · obtain ⟨n, rfl⟩ : ∃ m, n = m + 1 := ⟨n - 1, by omega⟩
      exact br_t (nI_le (Nat.le_refl _) (by omega)) H
    · obtain ⟨n, rfl⟩ : ∃ m, n = m + 1 := ⟨n - 1, by omega⟩
      exact br_c (fun _ => H) (fun _ => br_t (nI_le (Nat.le_refl _) (by omega)) H)
  | succ d ih =>
    intro i hi
    have es : a_robState ((h + i) % 16) = a_eState i := r3 i (by omega)
    have er : a_robRemaining ((h + i) % 16) = a_eRemaining i := r4 i (by omega)
    have hcl : (nI ((h + i) % 16)).toNatClampNeg = (h + i) % 16 := nI_clamp (by omega)
    have hin : vp_in (nI ((h + i) % 16)) 16 := vp_in_nI (by omega) (by omega)
    have hcp : (nI i).toNatClampNeg = i := nI_clamp (by omega)
    have hip : vp_in (nI i) 16 := vp_in_nI (by omega) (by omega)
    have hcc : ¬ nI c ≤ nI i := nI_ge (by omega) (by omega)
    have h16 : ¬ (16 : Int32) ≤ nI i := nI_ge (b := 16) (by omega) (by omega)
    by_cases h2 : a_eState i = 2
    · by_cases h0 : a_eRemaining i = 0
      · refine ⟨nI i, Or.inr ⟨i, by omega, rfl, h2, h0⟩, fun post n hn H => ?_, fun post J57 x1 n hn H => ?_⟩
        · obtain ⟨n, rfl⟩ : ∃ m, n = m + 1 := ⟨n - 1, by omega⟩
          refine br_f hcc (nm_r (rc_slot hh (by omega)) (And.intro hin ?_))
          rw [hcl, es, er]
          exact br_t h2 (And.intro hin (br_t h0 H))
        · obtain ⟨n, rfl⟩ : ∃ m, n = m + 1 := ⟨n - 1, by omega⟩
          refine br_f h16 (br_f hcc (br_t rfl (And.intro hip ?_)))
          rw [hcp]
          exact br_t h2 (And.intro hip (br_t h0 (nm_r (nI_1 i) (y_77done (by omega) hc d (i + 1) (by omega) _ _ _ _ (by omega) H))))
      · obtain ⟨r, hr, gX, gY⟩ := ih (i + 1) (by omega)
        refine ⟨r, hr, fun post n hn H => ?_, fun post J57 x1 n hn H => ?_⟩
        · obtain ⟨n, rfl⟩ : ∃ m, n = m + 1 := ⟨n - 1, by omega⟩
          refine br_f hcc (nm_r (rc_slot hh (by omega)) (And.intro hin ?_))
          rw [hcl, es, er]
          exact br_t h2 (And.intro hin (br_f h0 (nm_r (nI_1 i) (gX _ _ (by omega) H))))
        · obtain ⟨n, rfl⟩ : ∃ m, n = m + 1 := ⟨n - 1, by omega⟩
          refine br_f h16 (br_f hcc (br_t rfl (And.intro hip ?_)))
          rw [hcp]
          exact br_t h2 (And.intro hip (br_f h0 (nm_r (nI_1 i) (gY _ _ _ _ (by omega) H))))
    · obtain ⟨r, hr, gX, gY⟩ := ih (i + 1) (by omega)
      refine ⟨r, hr, fun post n hn H => ?_, fun post J57 x1 n hn H => ?_⟩
      · obtain ⟨n, rfl⟩ : ∃ m, n = m + 1 := ⟨n - 1, by omega⟩
        refine br_f hcc (nm_r (rc_slot hh (by omega)) (And.intro hin ?_))
        rw [hcl, es]
        exact br_f h2 (nm_r (nI_1 i) (gX _ _ (by omega) H))
      · obtain ⟨n, rfl⟩ : ∃ m, n = m + 1 := ⟨n - 1, by omega⟩
        refine br_f h16 (br_f hcc (br_t rfl (And.intro hip ?_)))
        rw [hcp]
        exact br_f h2 (nm_r (nI_1 i) (gY _ _ _ _ (by omega) H))
end
end
section
/-! waking: X from the place behind, Y from the front -/
def wk_w (j p : Nat) (w : Nat → Int32) : Nat → Int32 := fun i => if i < p ∧ w i = nI j then -1 else w i
def wk_v (j p : Nat) (w v : Nat → Int32) (x : Int32) : Nat → Int32 := fun i => if i < p ∧ w i = nI j then x else v i
theorem wk_w0 {j : Nat} {w : Nat → Int32} : wk_w j 0 w = w := by
  funext i
  exact if_neg (fun q => absurd q.1 (by omega))
theorem wk_v0 {j : Nat} {w v : Nat → Int32} {x : Int32} : wk_v j 0 w v x = v := by
  funext i
  exact if_neg (fun q => absurd q.1 (by omega))
theorem wk_wp {j p : Nat} {w : Nat → Int32} : wk_w j p w p = w p := if_neg (fun q => absurd q.1 (by omega))
theorem wk_ws {j p : Nat} {w : Nat → Int32} (e : w p = nI j) : upd (wk_w j p w) p (-1) = wk_w j (p + 1) w := by
  funext i
  by_cases q : i = p
  · rw [q, pk_us, wk_w, if_pos ⟨by omega, e⟩]
  · rw [pk_un q, wk_w, wk_w]
    by_cases q2 : i < p ∧ w i = nI j
    · rw [if_pos q2, if_pos ⟨by omega, q2.2⟩]
    · rw [if_neg q2, if_neg (fun q3 => q2 ⟨by omega, q3.2⟩)]
theorem wk_vs {j p : Nat} {w v : Nat → Int32} {x : Int32} (e : w p = nI j) : upd (wk_v j p w v x) p x = wk_v j (p + 1) w v x := by
  funext i
  by_cases q : i = p
  · rw [q, pk_us, wk_v, if_pos ⟨by omega, e⟩]
  · rw [pk_un q, wk_v, wk_v]
    by_cases q2 : i < p ∧ w i = nI j
    · rw [if_pos q2, if_pos ⟨by omega, q2.2⟩]
    · rw [if_neg q2, if_neg (fun q3 => q2 ⟨by omega, q3.2⟩)]
theorem wk_wn {j p : Nat} {w : Nat → Int32} (e : ¬ w p = nI j) : wk_w j p w = wk_w j (p + 1) w := by
  funext i
  rw [wk_w, wk_w]
  by_cases q2 : i < p ∧ w i = nI j
  · rw [if_pos q2, if_pos ⟨by omega, q2.2⟩]
  · rw [if_neg q2, if_neg]
    intro q3
    by_cases q : i = p
    · exact e (q ▸ q3.2)
    · exact q2 ⟨by omega, q3.2⟩
theorem wk_vn {j p : Nat} {w v : Nat → Int32} {x : Int32} (e : ¬ w p = nI j) : wk_v j p w v x = wk_v j (p + 1) w v x := by
  funext i
  rw [wk_v, wk_v]
  by_cases q2 : i < p ∧ w i = nI j
  · rw [if_pos q2, if_pos ⟨by omega, q2.2⟩]
  · rw [if_neg q2, if_neg]
    intro q3
    by_cases q : i = p
    · exact e (q ▸ q3.2)
    · exact q2 ⟨by omega, q3.2⟩
section
variable {w rs len qh qc h c : Nat} {f_stations f_queueSize f_phase f_pc f_epc f_cause f_handling f_vector f_fetchPc f_parked f_waitingCount f_memCount : Int32} {a_regs a_memory a_progOp a_progA a_progB a_progC a_latency a_counters a_fqPc a_fqNext a_twoBit a_jumpDelta a_robPc a_robPredicted a_robState a_robRemaining a_robValue a_robFault a_robNext a_robSrc1 a_robVal1 a_robSrc2 a_robVal2 a_robOp a_robC a_robDest a_mapSlot a_unitBusy a_settings a_queuePc a_queueNext a_ePc a_ePredicted a_eState a_eRemaining a_eValue a_eFault a_eNext a_eWait1 a_eVal1 a_eWait2 a_eVal2 : Nat → Int32}
theorem x_wk70 {j p : Nat} {S2 V2 : Nat → Int32} {x : Int32} (hh : h < 16) (hc : c ≤ 16) (hj : j < 16) (hp : p < c) (hw : rc_w16 (a_eWait2 p)) (r10 : rc_RA 16 h c S2 (fun i => rc_sl h (wk_w j p a_eWait2 i))) (r11 : rc_RA 16 h c V2 (wk_v j p a_eWait2 a_eVal2 x)) : ∃ S2' V2', rc_RA 16 h c S2' (fun i => rc_sl h (wk_w j (p + 1) a_eWait2 i)) ∧ rc_RA 16 h c V2' (wk_v j (p + 1) a_eWait2 a_eVal2 x) ∧ ∀ (post : SX → Prop) J22, J22 (nI (p + 1)) a_regs a_memory a_progOp a_progA a_progB a_progC a_latency a_counters a_fqPc a_fqNext a_twoBit a_jumpDelta a_robPc a_robPredicted a_robState a_robRemaining a_robValue a_robFault a_robNext a_robSrc1 a_robVal1 S2' V2' a_robOp a_robC a_robDest a_mapSlot a_unitBusy → wX_wake_70 post J22 (nI ((h + j) % 16)) x (nI p) (nI ((h + p) % 16)) (nI rs) f_stations f_queueSize (nI w) f_phase f_pc f_epc f_cause f_handling f_vector (nI len) f_fetchPc f_parked (nI qh) (nI qc) (nI h) (nI c) f_waitingCount f_memCount a_regs a_memory a_progOp a_progA a_progB a_progC a_latency a_counters a_fqPc a_fqNext a_twoBit a_jumpDelta a_robPc a_robPredicted a_robState a_robRemaining a_robValue a_robFault a_robNext a_robSrc1 a_robVal1 S2 V2 a_robOp a_robC a_robDest a_mapSlot a_unitBusy := by
  have e : S2 ((h + p) % 16) = rc_sl h (a_eWait2 p) := by
    have q : S2 ((h + p) % 16) = rc_sl h (wk_w j p a_eWait2 p) := r10 p hp
    rw [wk_wp] at q
    exact q
  have hin : vp_in (nI ((h + p) % 16)) 16 := vp_in_nI (by omega) (by omega)
  have hcl : (nI ((h + p) % 16)).toNatClampNeg = (h + p) % 16 := nI_clamp (by omega)
  by_cases q : a_eWait2 p = nI j
  · have r10' := ra_uf (f := rc_sl h) (v := -1) rc_16 hc hp r10
    have r11' := ra_u (v := x) rc_16 hc hp r11
    rw [sl_m, wk_ws q] at r10'
    rw [wk_vs q] at r11'
    refine ⟨_, _, r10', r11', fun post J22 H => And.intro hin ?_⟩
    rw [hcl]
    exact br_t (by rw [e, sl_eq hh hj hw]; exact q) (And.intro hin (nm_e (And.intro hin (nm_e (nm_r (nI_1 p) H)))))
  · rw [wk_wn q] at r10
    rw [wk_vn q] at r11
    refine ⟨_, _, r10, r11, fun post J22 H => And.intro hin ?_⟩
    rw [hcl]
    exact br_f (by rw [e, sl_eq hh hj hw]; exact q) (nm_r (nI_1 p) H)
theorem x_wk22 {j : Nat} {x : Int32} (hh : h < 16) (hc : c ≤ 16) (hj : j < 16) (hw1 : ∀ i, i < c → rc_w16 (a_eWait1 i)) (hw2 : ∀ i, i < c → rc_w16 (a_eWait2 i)) : ∀ (d p : Nat) (S1 V1 S2 V2 : Nat → Int32), p + d = c → rc_RA 16 h c S1 (fun i => rc_sl h (wk_w j p a_eWait1 i)) → rc_RA 16 h c V1 (wk_v j p a_eWait1 a_eVal1 x) → rc_RA 16 h c S2 (fun i => rc_sl h (wk_w j p a_eWait2 i)) → rc_RA 16 h c V2 (wk_v j p a_eWait2 a_eVal2 x) →
    ∃ S1' V1' S2' V2', rc_RA 16 h c S1' (fun i => rc_sl h (wk_w j c a_eWait1 i)) ∧ rc_RA 16 h c V1' (wk_v j c a_eWait1 a_eVal1 x) ∧ rc_RA 16 h c S2' (fun i => rc_sl h (wk_w j c a_eWait2 i)) ∧ rc_RA 16 h c V2' (wk_v j c a_eWait2 a_eVal2 x) ∧ ∀ (post : SX → Prop) (n : Nat), d < n → post ((nI rs), f_stations, f_queueSize, (nI w), f_phase, f_pc, f_epc, f_cause, f_handling, f_vector, (nI len), f_fetchPc, f_parked, (nI qh), (nI qc), (nI h), (nI c), f_waitingCount, f_memCount, a_regs, a_memory, a_progOp, a_progA, a_progB, a_progC, a_latency, a_counters, a_fqPc, a_fqNext, a_twoBit, a_jumpDelta, a_robPc, a_robPredicted, a_robState, a_robRemaining, a_robValue, a_robFault, a_robNext, S1', V1', S2', V2', a_robOp, a_robC, a_robDest, a_mapSlot, a_unitBusy) → wX_wake_22 post (nI ((h + j) % 16)) x (nI rs) f_stations f_queueSize (nI w) f_phase f_pc f_epc f_cause f_handling f_vector (nI len) f_fetchPc f_parked (nI qh) (nI qc) (nI h) (nI c) f_waitingCount f_memCount n (nI p) a_regs a_memory a_progOp a_progA a_progB a_progC a_latency a_counters a_fqPc a_fqNext a_twoBit a_jumpDelta a_robPc a_robPredicted a_robState a_robRemaining a_robValue a_robFault a_robNext S1 V1 S2 V2 a_robOp a_robC a_robDest a_mapSlot a_unitBusy := by
  intro d
  induction d with
  | zero =>
    intro p S1 V1 S2 V2 hp r8 r9 r10 r11
    have hp : p = c := by omega
    subst hp
    refine ⟨S1, V1, S2, V2, r8, r9, r10, r11, fun post n hn H => ?_⟩
    obtain ⟨n, rfl⟩ : ∃ m, n = m + 1 := ⟨n - 1, by omega⟩
    exact br_t (nI_le (Nat.le_refl _) (by omega)) H
  | succ d ih =>
    intro p S1 V1 S2 V2 hp r8 r9 r10 r11
    have hin : vp_in (nI ((h + p) % 16)) 16 := vp_in_nI (by omega) (by omega)
    have hcl : (nI ((h + p) % 16)).toNatClampNeg = (h + p) % 16 := nI_clamp (by omega)
    have e : S1 ((h + p) % 16) = rc_sl h (a_eWait1 p) := by
      have q : S1 ((h + p) % 16) = rc_sl h (wk_w j p a_eWait1 p) := r8 p (by omega)
      rw [wk_wp] at q
      exact q
    have hcc : ¬ nI c ≤ nI p := nI_ge (by omega) (by omega)
    by_cases q : a_eWait1 p = nI j
    · have r8' := ra_uf (f := rc_sl h) (v := -1) rc_16 hc (show p < c by omega) r8
      have r9' := ra_u (v := x) rc_16 hc (show p < c by omega) r9
      rw [sl_m, wk_ws q] at r8'
      rw [wk_vs q] at r9'
      obtain ⟨S2a, V2a, ra, rb, g⟩ := x_wk70 (w := w) (rs := rs) (len := len) (qh := qh) (qc := qc) (h := h) (c := c) (f_stations := f_stations) (f_queueSize := f_queueSize) (f_phase := f_phase) (f_pc := f_pc) (f_epc := f_epc) (f_cause := f_cause) (f_handling := f_handling) (f_vector := f_vector) (f_fetchPc := f_fetchPc) (f_parked := f_parked) (f_waitingCount := f_waitingCount) (f_memCount := f_memCount) (a_regs := a_regs) (a_memory := a_memory) (a_progOp := a_progOp) (a_progA := a_progA) (a_progB := a_progB) (a_progC := a_progC) (a_latency := a_latency) (a_counters := a_counters) (a_fqPc := a_fqPc) (a_fqNext := a_fqNext) (a_twoBit := a_twoBit) (a_jumpDelta := a_jumpDelta) (a_robPc := a_robPc) (a_robPredicted := a_robPredicted) (a_robState := a_robState) (a_robRemaining := a_robRemaining) (a_robValue := a_robValue) (a_robFault := a_robFault) (a_robNext := a_robNext) (a_robSrc1 := upd S1 ((h + p) % 16) (-1)) (a_robVal1 := upd V1 ((h + p) % 16) x) (a_robOp := a_robOp) (a_robC := a_robC) (a_robDest := a_robDest) (a_mapSlot := a_mapSlot) (a_unitBusy := a_unitBusy) hh hc hj (show p < c by omega) (hw2 p (by omega)) r10 r11
      obtain ⟨S1', V1', S2', V2', t1, t2, t3, t4, hw⟩ := ih (p + 1) _ _ _ _ (by omega) r8' r9' ra rb
      refine ⟨S1', V1', S2', V2', t1, t2, t3, t4, fun post n hn H => ?_⟩
      obtain ⟨n, rfl⟩ : ∃ m, n = m + 1 := ⟨n - 1, by omega⟩
      refine br_f hcc (nm_r (rc_slot hh (by omega)) (And.intro hin ?_))
      rw [hcl]
      exact br_t (by rw [e, sl_eq hh hj (hw1 p (by omega))]; exact q) (And.intro hin (nm_e (And.intro hin (nm_e (g _ _ (hw post n (by omega) H))))))
    · rw [wk_wn q] at r8
      rw [wk_vn q] at r9
      obtain ⟨S2a, V2a, ra, rb, g⟩ := x_wk70 (w := w) (rs := rs) (len := len) (qh := qh) (qc := qc) (h := h) (c := c) (f_stations := f_stations) (f_queueSize := f_queueSize) (f_phase := f_phase) (f_pc := f_pc) (f_epc := f_epc) (f_cause := f_cause) (f_handling := f_handling) (f_vector := f_vector) (f_fetchPc := f_fetchPc) (f_parked := f_parked) (f_waitingCount := f_waitingCount) (f_memCount := f_memCount) (a_regs := a_regs) (a_memory := a_memory) (a_progOp := a_progOp) (a_progA := a_progA) (a_progB := a_progB) (a_progC := a_progC) (a_latency := a_latency) (a_counters := a_counters) (a_fqPc := a_fqPc) (a_fqNext := a_fqNext) (a_twoBit := a_twoBit) (a_jumpDelta := a_jumpDelta) (a_robPc := a_robPc) (a_robPredicted := a_robPredicted) (a_robState := a_robState) (a_robRemaining := a_robRemaining) (a_robValue := a_robValue) (a_robFault := a_robFault) (a_robNext := a_robNext) (a_robSrc1 := S1) (a_robVal1 := V1) (a_robOp := a_robOp) (a_robC := a_robC) (a_robDest := a_robDest) (a_mapSlot := a_mapSlot) (a_unitBusy := a_unitBusy) hh hc hj (show p < c by omega) (hw2 p (by omega)) r10 r11
      obtain ⟨S1', V1', S2', V2', t1, t2, t3, t4, hw⟩ := ih (p + 1) _ _ _ _ (by omega) r8 r9 ra rb
      refine ⟨S1', V1', S2', V2', t1, t2, t3, t4, fun post n hn H => ?_⟩
      obtain ⟨n, rfl⟩ : ∃ m, n = m + 1 := ⟨n - 1, by omega⟩
      refine br_f hcc (nm_r (rc_slot hh (by omega)) (And.intro hin ?_))
      rw [hcl]
      exact br_f (by rw [e, sl_eq hh hj (hw1 p (by omega))]; exact q) (g _ _ (hw post n (by omega) H))
theorem wk_first {es w : Nat → Int32} {i j : Nat} (hi : i < 2 ^ 31) (hj : j < 2 ^ 31) (W : rc_wt es i (w i)) : wk_w j (j + 1) w i = w i := by
  refine if_neg ?_
  intro q
  rcases W with e | ⟨k, hk, e, _⟩
  · exact rc_nm1 hj (q.2.symm.trans e)
  · have := (nI_eq (by omega) hj).mp (e.symm.trans q.2)
    omega
theorem wk_firstv {es w v : Nat → Int32} {i j : Nat} {x : Int32} (hi : i < 2 ^ 31) (hj : j < 2 ^ 31) (W : rc_wt es i (w i)) : wk_v j (j + 1) w v x i = v i := by
  refine if_neg ?_
  intro q
  rcases W with e | ⟨k, hk, e, _⟩
  · exact rc_nm1 hj (q.2.symm.trans e)
  · have := (nI_eq (by omega) hj).mp (e.symm.trans q.2)
    omega
theorem x_wake {j : Nat} {x : Int32} {es : Nat → Int32} (hh : h < 16) (hc : c ≤ 16) (hj : j < c) (ex : a_robValue ((h + j) % 16) = x) (hw1 : ∀ i, i < c → rc_wt es i (a_eWait1 i)) (hw2 : ∀ i, i < c → rc_wt es i (a_eWait2 i)) (r8 : rc_RA 16 h c a_robSrc1 (fun i => rc_sl h (a_eWait1 i))) (r9 : rc_RA 16 h c a_robVal1 a_eVal1) (r10 : rc_RA 16 h c a_robSrc2 (fun i => rc_sl h (a_eWait2 i))) (r11 : rc_RA 16 h c a_robVal2 a_eVal2) :
    ∃ S1' V1' S2' V2', rc_RA 16 h c S1' (fun i => rc_sl h (wk_w j c a_eWait1 i)) ∧ rc_RA 16 h c V1' (wk_v j c a_eWait1 a_eVal1 x) ∧ rc_RA 16 h c S2' (fun i => rc_sl h (wk_w j c a_eWait2 i)) ∧ rc_RA 16 h c V2' (wk_v j c a_eWait2 a_eVal2 x) ∧ ∀ (post : SX → Prop), post ((nI rs), f_stations, f_queueSize, (nI w), f_phase, f_pc, f_epc, f_cause, f_handling, f_vector, (nI len), f_fetchPc, f_parked, (nI qh), (nI qc), (nI h), (nI c), f_waitingCount, f_memCount, a_regs, a_memory, a_progOp, a_progA, a_progB, a_progC, a_latency, a_counters, a_fqPc, a_fqNext, a_twoBit, a_jumpDelta, a_robPc, a_robPredicted, a_robState, a_robRemaining, a_robValue, a_robFault, a_robNext, S1', V1', S2', V2', a_robOp, a_robC, a_robDest, a_mapSlot, a_unitBusy) → wpX_wake post ((nI rs), f_stations, f_queueSize, (nI w), f_phase, f_pc, f_epc, f_cause, f_handling, f_vector, (nI len), f_fetchPc, f_parked, (nI qh), (nI qc), (nI h), (nI c), f_waitingCount, f_memCount, a_regs, a_memory, a_progOp, a_progA, a_progB, a_progC, a_latency, a_counters, a_fqPc, a_fqNext, a_twoBit, a_jumpDelta, a_robPc, a_robPredicted, a_robState, a_robRemaining, a_robValue, a_robFault, a_robNext, a_robSrc1, a_robVal1, a_robSrc2, a_robVal2, a_robOp, a_robC, a_robDest, a_mapSlot, a_unitBusy) (nI j) := by
  obtain ⟨S1', V1', S2', V2', t1, t2, t3, t4, hw⟩ := x_wk22 (w := w) (rs := rs) (len := len) (qh := qh) (qc := qc) (h := h) (c := c) (f_stations := f_stations) (f_queueSize := f_queueSize) (f_phase := f_phase) (f_pc := f_pc) (f_epc := f_epc) (f_cause := f_cause) (f_handling := f_handling) (f_vector := f_vector) (f_fetchPc := f_fetchPc) (f_parked := f_parked) (f_waitingCount := f_waitingCount) (f_memCount := f_memCount) (a_regs := a_regs) (a_memory := a_memory) (a_progOp := a_progOp) (a_progA := a_progA) (a_progB := a_progB) (a_progC := a_progC) (a_latency := a_latency) (a_counters := a_counters) (a_fqPc := a_fqPc) (a_fqNext := a_fqNext) (a_twoBit := a_twoBit) (a_jumpDelta := a_jumpDelta) (a_robPc := a_robPc) (a_robPredicted := a_robPredicted) (a_robState := a_robState) (a_robRemaining := a_robRemaining) (a_robValue := a_robValue) (a_robFault := a_robFault) (a_robNext := a_robNext) (a_robOp := a_robOp) (a_robC := a_robC) (a_robDest := a_robDest) (a_mapSlot := a_mapSlot) (a_unitBusy := a_unitBusy) (a_eWait1 := a_eWait1) (a_eWait2 := a_eWait2) (a_eVal1 := a_eVal1) (a_eVal2 := a_eVal2) (x := x) hh hc (show j < 16 by omega) (fun i hi => wt_16 (by omega) (hw1 i hi)) (fun i hi => wt_16 (by omega) (hw2 i hi)) (c - (j + 1)) (j + 1) a_robSrc1 a_robVal1 a_robSrc2 a_robVal2 (by omega)
    (ra_c (fun i hi => by show rc_sl h (a_eWait1 i) = rc_sl h (wk_w j (j + 1) a_eWait1 i); rw [wk_first (by omega) (by omega) (hw1 i hi)]) r8)
    (ra_c (fun i hi => (wk_firstv (by omega) (by omega) (hw1 i hi)).symm) r9)
    (ra_c (fun i hi => by show rc_sl h (a_eWait2 i) = rc_sl h (wk_w j (j + 1) a_eWait2 i); rw [wk_first (by omega) (by omega) (hw2 i hi)]) r10)
    (ra_c (fun i hi => (wk_firstv (by omega) (by omega) (hw2 i hi)).symm) r11)
  refine ⟨S1', V1', S2', V2', t1, t2, t3, t4, fun post H => ?_⟩
  refine nm_r (rc_slot hh (by omega)) (And.intro (vp_in_nI (by omega) (by omega)) (nm_r (e' := x) ?_ (nm_r (nI_1 j) ⟨c + 1, hw post (c + 1) (by omega) H⟩)))
  rw [nI_clamp (by omega), ex]
theorem y_138 {j : Nat} (hc : c ≤ 16) (hj : j < 16) : ∀ (d p : Nat), p + d = c → ∀ (post : SY → Prop) J57 x1 (n : Nat), d < n → wY_busStage_216 post J57 x1 (nI j) f_pc f_epc f_cause f_handling f_vector f_phase (nI len) f_fetchPc f_parked (nI qc) (nI c) a_regs a_memory a_progOp a_progA a_progB a_progC a_counters a_settings a_queuePc a_queueNext a_twoBit a_jumpDelta a_ePc a_ePredicted a_eState a_eRemaining a_eValue a_eFault a_eNext (wk_w j c a_eWait1) (wk_v j c a_eWait1 a_eVal1 (a_eValue j)) (wk_w j c a_eWait2) (wk_v j c a_eWait2 a_eVal2 (a_eValue j)) → wY_busStage_138 post J57 x1 (nI j) f_pc f_epc f_cause f_handling f_vector f_phase (nI len) f_fetchPc f_parked (nI qc) (nI c) n (nI p) a_regs a_memory a_progOp a_progA a_progB a_progC a_counters a_settings a_queuePc a_queueNext a_twoBit a_jumpDelta a_ePc a_ePredicted a_eState a_eRemaining a_eValue a_eFault a_eNext (wk_w j p a_eWait1) (wk_v j p a_eWait1 a_eVal1 (a_eValue j)) (wk_w j p a_eWait2) (wk_v j p a_eWait2 a_eVal2 (a_eValue j)) := by
  intro d
  induction d with
  | zero =>
    intro p hp post J57 x1 n hn H
    have hp : p = c := by omega
    subst hp
    obtain ⟨n, rfl⟩ : ∃ m, n = m + 1 := ⟨n - 1, by omega⟩
    exact br_c (fun _ => H) (fun _ => br_t (nI_le (Nat.le_refl _) (by omega)) H)
  | succ d ih =>
    intro p hp post J57 x1 n hn H
    obtain ⟨n, rfl⟩ : ∃ m, n = m + 1 := ⟨n - 1, by omega⟩
    have g := ih (p + 1) (by omega) post J57 x1 n (by omega) H
    have hip : vp_in (nI p) 16 := vp_in_nI (by omega) (by omega)
    have hij : vp_in (nI j) 16 := vp_in_nI (by omega) (by omega)
    have hcp : (nI p).toNatClampNeg = p := nI_clamp (by omega)
    have hcj : (nI j).toNatClampNeg = j := nI_clamp (by omega)
    refine br_f (nI_ge (b := 16) (by omega) (by omega)) (br_f (nI_ge (by omega) (by omega)) (And.intro hip ?_))
    rw [hcp, wk_wp]
    have s2 : ∀ W1 v1, wY_busStage_138 post J57 x1 (nI j) f_pc f_epc f_cause f_handling f_vector f_phase (nI len) f_fetchPc f_parked (nI qc) (nI c) n (nI (p + 1)) a_regs a_memory a_progOp a_progA a_progB a_progC a_counters a_settings a_queuePc a_queueNext a_twoBit a_jumpDelta a_ePc a_ePredicted a_eState a_eRemaining a_eValue a_eFault a_eNext W1 v1 (wk_w j (p + 1) a_eWait2) (wk_v j (p + 1) a_eWait2 a_eVal2 (a_eValue j)) → wY_busStage_181 post J57 (wY_busStage_138 post J57 x1 (nI j) f_pc f_epc f_cause f_handling f_vector f_phase (nI len) f_fetchPc f_parked (nI qc) (nI c) n) x1 (nI j) (nI p) f_pc f_epc f_cause f_handling f_vector f_phase (nI len) f_fetchPc f_parked (nI qc) (nI c) a_regs a_memory a_progOp a_progA a_progB a_progC a_counters a_settings a_queuePc a_queueNext a_twoBit a_jumpDelta a_ePc a_ePredicted a_eState a_eRemaining a_eValue a_eFault a_eNext W1 v1 (wk_w j p a_eWait2) (wk_v j p a_eWait2 a_eVal2 (a_eValue j)) := by
      intro W1 v1 g
      refine And.intro hip ?_
      rw [hcp, wk_wp, hcj]
      by_cases q : a_eWait2 p = nI j
      · rw [← wk_ws q, ← wk_vs q] at g
        exact br_t q (And.intro hip (nm_e (And.intro hij (And.intro hip (nm_e (nm_r (nI_1 p) g))))))
      · rw [← wk_wn q, ← wk_vn q] at g
        exact br_f q (nm_r (nI_1 p) g)
    rw [hcj]
    by_cases q : a_eWait1 p = nI j
    · rw [← wk_ws (w := a_eWait1) q, ← wk_vs (w := a_eWait1) q] at g
      exact br_t q (And.intro hip (nm_e (And.intro hij (And.intro hip (nm_e (s2 _ _ g))))))
    · rw [← wk_wn (w := a_eWait1) q, ← wk_vn (w := a_eWait1) q] at g
      exact br_f q (s2 _ _ g)
end
end
section
/-! a result on the bus: both sides; the bus stage -/
section
variable {w rs len qh qc h c : Nat} {f_stations f_queueSize f_phase f_pc f_epc f_cause f_handling f_vector f_fetchPc f_parked f_waitingCount f_memCount : Int32} {a_regs a_memory a_progOp a_progA a_progB a_progC a_latency a_counters a_fqPc a_fqNext a_twoBit a_jumpDelta a_robPc a_robPredicted a_robState a_robRemaining a_robValue a_robFault a_robNext a_robSrc1 a_robVal1 a_robSrc2 a_robVal2 a_robOp a_robC a_robDest a_mapSlot a_unitBusy a_settings a_queuePc a_queueNext a_ePc a_ePredicted a_eState a_eRemaining a_eValue a_eFault a_eNext a_eWait1 a_eVal1 a_eWait2 a_eVal2 : Nat → Int32}
theorem ib_1 {op : Int32} (q : op = 12 ∨ op = 13 ∨ op = 14) : rc_ib op = 1 := by rcases q with q | q | q <;> rw [q] <;> decide
theorem ib_0 {op : Int32} (q : ¬ (op = 12 ∨ op = 13 ∨ op = 14)) : rc_ib op = 0 := by rw [rc_ib, if_neg (fun e => q (Or.inl e)), if_neg (fun e => q (Or.inr (Or.inl e))), if_neg (fun e => q (Or.inr (Or.inr e)))]
/-- Y behind the waking: a mispredicted jump, or on -/
theorem y_216 {j : Nat} {op : Int32} (hl : len ≤ 64) (hj : j < 16) (eo : rc_op len a_progOp (a_ePc j) = op) (q : (op = 12 ∨ op = 13 ∨ op = 14) ∧ ¬ a_eNext j = a_ePredicted j) {post : SY → Prop} {J57} {k : Nat} (H : J57 (nI (k + 1)) (a_eNext j) 0 (nI 0) (nI (j + 1)) a_regs a_memory a_progOp a_progA a_progB a_progC (upd (upd a_counters 3 (a_counters 3 + 1)) 4 ((upd a_counters 3 (a_counters 3 + 1)) 4 + (nI c - nI (j + 1)))) a_settings a_queuePc a_queueNext a_twoBit a_jumpDelta a_ePc a_ePredicted a_eState a_eRemaining a_eValue a_eFault a_eNext a_eWait1 a_eVal1 a_eWait2 a_eVal2) : wY_busStage_216 post J57 (nI k) (nI j) f_pc f_epc f_cause f_handling f_vector f_phase (nI len) f_fetchPc f_parked (nI qc) (nI c) a_regs a_memory a_progOp a_progA a_progB a_progC a_counters a_settings a_queuePc a_queueNext a_twoBit a_jumpDelta a_ePc a_ePredicted a_eState a_eRemaining a_eValue a_eFault a_eNext a_eWait1 a_eVal1 a_eWait2 a_eVal2 := by
  have hij : vp_in (nI j) 16 := vp_in_nI (by omega) (by omega)
  have hcj : (nI j).toNatClampNeg = j := nI_clamp (by omega)
  have g : wY_busStage_245 post J57 (nI k) (nI j) f_pc f_epc f_cause f_handling f_vector f_phase (nI len) f_fetchPc f_parked (nI qc) (nI c) a_regs a_memory a_progOp a_progA a_progB a_progC a_counters a_settings a_queuePc a_queueNext a_twoBit a_jumpDelta a_ePc a_ePredicted a_eState a_eRemaining a_eValue a_eFault a_eNext a_eWait1 a_eVal1 a_eWait2 a_eVal2 := by
    refine And.intro hij (And.intro hij ?_)
    rw [hcj, nI_1 j]
    exact br_f q.2 (nm_e (nm_e (nm_e (And.intro hij (nm_e (nm_r (nI_1 k) H))))))
  refine And.intro hij ?_
  rw [hcj]
  refine y_opAt hl ?_
  rw [eo]
  rcases q.1 with e | e | e
  · exact br_t e g
  · exact br_f (by rw [e]; decide) (br_t e g)
  · exact br_f (by rw [e]; decide) (br_f (by rw [e]; decide) (br_t e g))
theorem y_216n {j : Nat} {op : Int32} (hl : len ≤ 64) (hj : j < 16) (eo : rc_op len a_progOp (a_ePc j) = op) (q : ¬ ((op = 12 ∨ op = 13 ∨ op = 14) ∧ ¬ a_eNext j = a_ePredicted j)) {post : SY → Prop} {J57} {k : Nat} (H : J57 (nI (k + 1)) f_fetchPc f_parked (nI qc) (nI c) a_regs a_memory a_progOp a_progA a_progB a_progC a_counters a_settings a_queuePc a_queueNext a_twoBit a_jumpDelta a_ePc a_ePredicted a_eState a_eRemaining a_eValue a_eFault a_eNext a_eWait1 a_eVal1 a_eWait2 a_eVal2) : wY_busStage_216 post J57 (nI k) (nI j) f_pc f_epc f_cause f_handling f_vector f_phase (nI len) f_fetchPc f_parked (nI qc) (nI c) a_regs a_memory a_progOp a_progA a_progB a_progC a_counters a_settings a_queuePc a_queueNext a_twoBit a_jumpDelta a_ePc a_ePredicted a_eState a_eRemaining a_eValue a_eFault a_eNext a_eWait1 a_eVal1 a_eWait2 a_eVal2 := by
  have hij : vp_in (nI j) 16 := vp_in_nI (by omega) (by omega)
  have hcj : (nI j).toNatClampNeg = j := nI_clamp (by omega)
  have g : (op = 12 ∨ op = 13 ∨ op = 14) → wY_busStage_245 post J57 (nI k) (nI j) f_pc f_epc f_cause f_handling f_vector f_phase (nI len) f_fetchPc f_parked (nI qc) (nI c) a_regs a_memory a_progOp a_progA a_progB a_progC a_counters a_settings a_queuePc a_queueNext a_twoBit a_jumpDelta a_ePc a_ePredicted a_eState a_eRemaining a_eValue a_eFault a_eNext a_eWait1 a_eVal1 a_eWait2 a_eVal2 := by
    intro q1
    refine And.intro hij (And.intro hij ?_)
    rw [hcj]
    exact br_t (Classical.byContradiction fun q2 => q ⟨q1, q2⟩) (nm_r (nI_1 k) H)
  refine And.intro hij ?_
  rw [hcj]
  refine y_opAt hl ?_
  rw [eo]
  exact br_c (fun e => g (Or.inl e)) (fun _ => br_c (fun e => g (Or.inr (Or.inl e))) (fun _ => br_c (fun e => g (Or.inr (Or.inr e))) (fun _ => nm_r (nI_1 k) H)))
theorem j_complete {j : Nat} (H : rc_F0 w rs len qh qc h c f_stations f_queueSize f_waitingCount f_memCount a_latency a_settings a_progOp a_progA a_progB a_progC a_fqPc a_fqNext a_queuePc a_queueNext a_robPc a_robPredicted a_robState a_robRemaining a_robValue a_robFault a_robNext a_robSrc1 a_robVal1 a_robSrc2 a_robVal2 a_robOp a_robC a_robDest a_ePc a_ePredicted a_eState a_eRemaining a_eValue a_eFault a_eNext a_eWait1 a_eVal1 a_eWait2 a_eVal2 a_mapSlot a_unitBusy) (hj : j < c) (hs : a_eState j = 2) (hpk : f_parked = 0 ∨ f_parked = 1) : ∃ qh' qc' c' wc mc ms ub S1 V1 S2 V2 ct fp pk, (rc_F0 w rs len qh' qc' h c' f_stations f_queueSize wc mc a_latency a_settings a_progOp a_progA a_progB a_progC a_fqPc a_fqNext a_queuePc a_queueNext a_robPc a_robPredicted (upd a_robState ((h + j) % 16) 3) a_robRemaining a_robValue a_robFault a_robNext S1 V1 S2 V2 a_robOp a_robC a_robDest a_ePc a_ePredicted (upd a_eState j 3) a_eRemaining a_eValue a_eFault a_eNext (wk_w j c a_eWait1) (wk_v j c a_eWait1 a_eVal1 (a_eValue j)) (wk_w j c a_eWait2) (wk_v j c a_eWait2 a_eVal2 (a_eValue j)) ms ub) ∧ (pk = 0 ∨ pk = 1) ∧ (∀ post : SX → Prop, post ((nI rs), f_stations, f_queueSize, (nI w), f_phase, f_pc, f_epc, f_cause, f_handling, f_vector, (nI len), fp, pk, (nI qh'), (nI qc'), (nI h), (nI c'), wc, mc, a_regs, a_memory, a_progOp, a_progA, a_progB, a_progC, a_latency, ct, a_fqPc, a_fqNext, a_twoBit, a_jumpDelta, a_robPc, a_robPredicted, (upd a_robState ((h + j) % 16) 3), a_robRemaining, a_robValue, a_robFault, a_robNext, S1, V1, S2, V2, a_robOp, a_robC, a_robDest, ms, ub) → wpX_complete post ((nI rs), f_stations, f_queueSize, (nI w), f_phase, f_pc, f_epc, f_cause, f_handling, f_vector, (nI len), f_fetchPc, f_parked, (nI qh), (nI qc), (nI h), (nI c), f_waitingCount, f_memCount, a_regs, a_memory, a_progOp, a_progA, a_progB, a_progC, a_latency, a_counters, a_fqPc, a_fqNext, a_twoBit, a_jumpDelta, a_robPc, a_robPredicted, a_robState, a_robRemaining, a_robValue, a_robFault, a_robNext, a_robSrc1, a_robVal1, a_robSrc2, a_robVal2, a_robOp, a_robC, a_robDest, a_mapSlot, a_unitBusy) (nI j)) ∧ (∀ (post : SY → Prop) J57 (k : Nat), J57 (nI (k + 1)) fp pk (nI qc') (nI c') a_regs a_memory a_progOp a_progA a_progB a_progC ct a_settings a_queuePc a_queueNext a_twoBit a_jumpDelta a_ePc a_ePredicted (upd a_eState j 3) a_eRemaining a_eValue a_eFault a_eNext (wk_w j c a_eWait1) (wk_v j c a_eWait1 a_eVal1 (a_eValue j)) (wk_w j c a_eWait2) (wk_v j c a_eWait2 a_eVal2 (a_eValue j)) → wY_busStage_123 post J57 (nI k) (nI j) f_pc f_epc f_cause f_handling f_vector f_phase (nI len) f_fetchPc f_parked (nI qc) (nI c) a_regs a_memory a_progOp a_progA a_progB a_progC a_counters a_settings a_queuePc a_queueNext a_twoBit a_jumpDelta a_ePc a_ePredicted a_eState a_eRemaining a_eValue a_eFault a_eNext a_eWait1 a_eVal1 a_eWait2 a_eVal2) := by
  have H' := H
  obtain ⟨_, hP, hQ, ⟨hh, hc, r1, r2, r3, r4, r5, r6, r7, r8, r9, r10, r11, r12, r13, r14⟩, hI, hw, hm, hM, hU⟩ := H
  have hl := hP.1
  obtain ⟨u0, hu0, hu⟩ := un_5 (rc_op len a_progOp (a_ePc j))
  have eo : a_robOp ((h + j) % 16) = rc_op len a_progOp (a_ePc j) := r12 j hj
  have ev : a_robValue ((h + j) % 16) = a_eValue j := r5 j hj
  have en : a_robNext ((h + j) % 16) = a_eNext j := r7 j hj
  have epd : a_robPredicted ((h + j) % 16) = a_ePredicted j := r2 j hj
  have hin : vp_in (nI ((h + j) % 16)) 16 := vp_in_nI (by omega) (by omega)
  have hcl : (nI ((h + j) % 16)).toNatClampNeg = (h + j) % 16 := nI_clamp (by omega)
  have h5 : vp_in (nI u0) 5 := vp_in_nI hu0 (by omega)
  have hc5 : (nI u0).toNatClampNeg = u0 := nI_clamp (by omega)
  have hij : vp_in (nI j) 16 := vp_in_nI (by omega) (by omega)
  have hcj : (nI j).toNatClampNeg = j := nI_clamp (by omega)
  obtain ⟨S1, V1, S2, V2, t1, t2, t3, t4, wX⟩ := x_wake (w := w) (rs := rs) (len := len) (qh := qh) (qc := qc) (h := h) (c := c) (f_stations := f_stations) (f_queueSize := f_queueSize) (f_phase := f_phase) (f_pc := f_pc) (f_epc := f_epc) (f_cause := f_cause) (f_handling := f_handling) (f_vector := f_vector) (f_fetchPc := f_fetchPc) (f_parked := f_parked) (f_waitingCount := f_waitingCount) (f_memCount := f_memCount) (a_regs := a_regs) (a_memory := a_memory) (a_progOp := a_progOp) (a_progA := a_progA) (a_progB := a_progB) (a_progC := a_progC) (a_latency := a_latency) (a_counters := a_counters) (a_fqPc := a_fqPc) (a_fqNext := a_fqNext) (a_twoBit := a_twoBit) (a_jumpDelta := a_jumpDelta) (a_robPc := a_robPc) (a_robPredicted := a_robPredicted) (a_robState := upd a_robState ((h + j) % 16) 3) (a_robRemaining := a_robRemaining) (a_robValue := a_robValue) (a_robFault := a_robFault) (a_robNext := a_robNext) (a_robSrc1 := a_robSrc1) (a_robVal1 := a_robVal1) (a_robSrc2 := a_robSrc2) (a_robVal2 := a_robVal2) (a_robOp := a_robOp) (a_robC := a_robC) (a_robDest := a_robDest) (a_mapSlot := a_mapSlot) (a_unitBusy := upd a_unitBusy u0 (a_unitBusy u0 - 1)) hh hc hj ev (fun i hi => (hI i hi).1) (fun i hi => (hI i hi).2.1) r8 r9 r10 r11
  have ww : ∀ wa : Nat → Int32, ∀ i, i < c → wk_w j c wa i = if wa i = nI j then -1 else wa i := by
    intro wa i hi
    rw [wk_w]
    by_cases q : wa i = nI j
    · rw [if_pos ⟨hi, q⟩, if_pos q]
    · rw [if_neg (fun z => q z.2), if_neg q]
  have hF := f0_done H' hj hs hu0 hu t1 t2 t3 t4 (ww _) (ww _)
  have yP : ∀ (post : SY → Prop) J57 (k : Nat), wY_busStage_216 post J57 (nI k) (nI j) f_pc f_epc f_cause f_handling f_vector f_phase (nI len) f_fetchPc f_parked (nI qc) (nI c) a_regs a_memory a_progOp a_progA a_progB a_progC a_counters a_settings a_queuePc a_queueNext a_twoBit a_jumpDelta a_ePc a_ePredicted (upd a_eState j 3) a_eRemaining a_eValue a_eFault a_eNext (wk_w j c a_eWait1) (wk_v j c a_eWait1 a_eVal1 (a_eValue j)) (wk_w j c a_eWait2) (wk_v j c a_eWait2 a_eVal2 (a_eValue j)) → wY_busStage_123 post J57 (nI k) (nI j) f_pc f_epc f_cause f_handling f_vector f_phase (nI len) f_fetchPc f_parked (nI qc) (nI c) a_regs a_memory a_progOp a_progA a_progB a_progC a_counters a_settings a_queuePc a_queueNext a_twoBit a_jumpDelta a_ePc a_ePredicted a_eState a_eRemaining a_eValue a_eFault a_eNext a_eWait1 a_eVal1 a_eWait2 a_eVal2 := by
    intro post J57 k g
    refine br_f (rc_nm1 (by omega)) (And.intro hij ?_)
    rw [hcj]
    refine nm_e ⟨c + 1, ?_⟩
    have g2 := y_138 (len := len) (qc := qc) (c := c) (f_phase := f_phase) (f_pc := f_pc) (f_epc := f_epc) (f_cause := f_cause) (f_handling := f_handling) (f_vector := f_vector) (f_fetchPc := f_fetchPc) (f_parked := f_parked) (a_regs := a_regs) (a_memory := a_memory) (a_progOp := a_progOp) (a_progA := a_progA) (a_progB := a_progB) (a_progC := a_progC) (a_counters := a_counters) (a_settings := a_settings) (a_queuePc := a_queuePc) (a_queueNext := a_queueNext) (a_twoBit := a_twoBit) (a_jumpDelta := a_jumpDelta) (a_ePc := a_ePc) (a_ePredicted := a_ePredicted) (a_eState := upd a_eState j 3) (a_eRemaining := a_eRemaining) (a_eValue := a_eValue) (a_eFault := a_eFault) (a_eNext := a_eNext) (a_eWait1 := a_eWait1) (a_eVal1 := a_eVal1) (a_eWait2 := a_eWait2) (a_eVal2 := a_eVal2) hc (show j < 16 by omega) c 0 (by omega) post J57 (nI k) (c + 1) (by omega) g
    rw [wk_w0, wk_v0, wk_w0, wk_v0] at g2
    exact g2
  by_cases q : (rc_op len a_progOp (a_ePc j) = 12 ∨ rc_op len a_progOp (a_ePc j) = 13 ∨ rc_op len a_progOp (a_ePc j) = 14) ∧ ¬ a_eNext j = a_ePredicted j
  · obtain ⟨wc, mc, ms, ub, hF2, tX⟩ := x_truncate (k := j + 1) (w := w) (rs := rs) (len := len) (qh := qh) (qc := qc) (h := h) (c := c) (f_stations := f_stations) (f_queueSize := f_queueSize) (f_phase := f_phase) (f_pc := f_pc) (f_epc := f_epc) (f_cause := f_cause) (f_handling := f_handling) (f_vector := f_vector) (f_fetchPc := f_fetchPc) (f_parked := f_parked) (f_waitingCount := f_waitingCount) (f_memCount := f_memCount) (a_regs := a_regs) (a_memory := a_memory) (a_progOp := a_progOp) (a_progA := a_progA) (a_progB := a_progB) (a_progC := a_progC) (a_latency := a_latency) (a_counters := upd a_counters 3 (a_counters 3 + 1)) (a_fqPc := a_fqPc) (a_fqNext := a_fqNext) (a_twoBit := a_twoBit) (a_jumpDelta := a_jumpDelta) (a_robPc := a_robPc) (a_robPredicted := a_robPredicted) (a_robState := upd a_robState ((h + j) % 16) 3) (a_robRemaining := a_robRemaining) (a_robValue := a_robValue) (a_robFault := a_robFault) (a_robNext := a_robNext) (a_robSrc1 := S1) (a_robVal1 := V1) (a_robSrc2 := S2) (a_robVal2 := V2) (a_robOp := a_robOp) (a_robC := a_robC) (a_robDest := a_robDest) (a_mapSlot := a_mapSlot) (a_unitBusy := upd a_unitBusy u0 (a_unitBusy u0 - 1)) hF (by omega)
    refine ⟨0, 0, j + 1, wc, mc, ms, ub, S1, V1, S2, V2, _, a_eNext j, 0, f0_redir hF2, Or.inl rfl, fun post G => ?_, fun post J57 k G => yP _ _ _ (y_216 hl (by omega) rfl q G)⟩
    refine nm_r (rc_slot hh (by omega)) (And.intro hin (nm_r (e' := rc_op len a_progOp (a_ePc j)) (by rw [hcl, eo]) (x_unitOf ?_)))
    rw [hcl, hu, hc5, nI_1 j]
    refine And.intro hin (nm_e (And.intro h5 (And.intro h5 (nm_e (wX _ (x_isBranch ?_))))))
    rw [ib_1 q.1, en, epd]
    refine br_f (by decide) (And.intro hin (And.intro hin (br_f q.2 (nm_e (tX _ (And.intro hin ?_))))))
    rw [en]
    exact G
  · refine ⟨qh, qc, c, f_waitingCount, f_memCount, a_mapSlot, _, S1, V1, S2, V2, a_counters, f_fetchPc, f_parked, hF, hpk, fun post G => ?_, fun post J57 k G => yP _ _ _ (y_216n hl (by omega) rfl q G)⟩
    refine nm_r (rc_slot hh (by omega)) (And.intro hin (nm_r (e' := rc_op len a_progOp (a_ePc j)) (by rw [hcl, eo]) (x_unitOf ?_)))
    rw [hcl, hu, hc5]
    refine And.intro hin (nm_e (And.intro h5 (And.intro h5 (nm_e (wX _ (x_isBranch ?_))))))
    by_cases q1 : rc_op len a_progOp (a_ePc j) = 12 ∨ rc_op len a_progOp (a_ePc j) = 13 ∨ rc_op len a_progOp (a_ePc j) = 14
    · rw [ib_1 q1, en, epd]
      exact br_f (by decide) (And.intro hin (And.intro hin (br_t (Classical.byContradiction fun q2 => q ⟨q1, q2⟩) G)))
    · rw [ib_0 q1]
      exact br_t rfl G
theorem j_bs {k : Nat} : ∀ z, k < rc_zw z → rc_RU (rc_zw z) z → rc_ST rc_bX rc_bY (rc_RU (rc_zw z)) (rc_RU (rc_zw z)) k z := by
  refine rc_el ?_
  intro w rs len qh qc h c f_stations f_queueSize f_phase f_pc f_epc f_cause f_handling f_vector f_fetchPc f_parked f_waitingCount f_memCount a_regs a_memory a_progOp a_progA a_progB a_progC a_latency a_counters a_fqPc a_fqNext a_twoBit a_jumpDelta a_robPc a_robPredicted a_robState a_robRemaining a_robValue a_robFault a_robNext a_robSrc1 a_robVal1 a_robSrc2 a_robVal2 a_robOp a_robC a_robDest a_mapSlot a_unitBusy a_settings a_queuePc a_queueNext a_ePc a_ePredicted a_eState a_eRemaining a_eValue a_eFault a_eNext a_eWait1 a_eVal1 a_eWait2 a_eVal2 hk HR
  obtain ⟨⟨H, hb, hpk, _⟩, hph, _⟩ := HR
  show rc_ST rc_bX rc_bY (rc_RU w) (rc_RU w) k (w, rs, len, qh, qc, h, c, f_stations, f_queueSize, f_phase, f_pc, f_epc, f_cause, f_handling, f_vector, f_fetchPc, f_parked, f_waitingCount, f_memCount, a_regs, a_memory, a_progOp, a_progA, a_progB, a_progC, a_latency, a_counters, a_fqPc, a_fqNext, a_twoBit, a_jumpDelta, a_robPc, a_robPredicted, a_robState, a_robRemaining, a_robValue, a_robFault, a_robNext, a_robSrc1, a_robVal1, a_robSrc2, a_robVal2, a_robOp, a_robC, a_robDest, a_mapSlot, a_unitBusy, a_settings, a_queuePc, a_queueNext, a_ePc, a_ePredicted, a_eState, a_eRemaining, a_eValue, a_eFault, a_eNext, a_eWait1, a_eVal1, a_eWait2, a_eVal2)
  have hk : k < w := hk
  have hph : f_phase = 1 := hph
  have H' : rc_F0 w rs len qh qc h c f_stations f_queueSize f_waitingCount f_memCount a_latency a_settings a_progOp a_progA a_progB a_progC a_fqPc a_fqNext a_queuePc a_queueNext a_robPc a_robPredicted a_robState a_robRemaining a_robValue a_robFault a_robNext a_robSrc1 a_robVal1 a_robSrc2 a_robVal2 a_robOp a_robC a_robDest a_ePc a_ePredicted a_eState a_eRemaining a_eValue a_eFault a_eNext a_eWait1 a_eVal1 a_eWait2 a_eVal2 a_mapSlot a_unitBusy := H
  obtain ⟨⟨hw1, hw3, hrs, _, _, _, hs10, _⟩, hP, hQ, ⟨hh, hc, r1, r2, r3, r4, _⟩, _⟩ := H
  have hwk : ¬ nI w ≤ nI k := nI_ge hk (by omega)
  have hwk' : ¬ a_settings 10 ≤ nI k := by rw [hs10]; exact hwk
  have hk3 : ¬ (3 : Int32) ≤ nI k := nI_ge (b := 3) (by omega) (by omega)
  obtain ⟨r, hr, fX, fY⟩ := j_find (w := w) (rs := rs) (len := len) (qh := qh) (qc := qc) (h := h) (c := c) (f_stations := f_stations) (f_queueSize := f_queueSize) (f_phase := f_phase) (f_pc := f_pc) (f_epc := f_epc) (f_cause := f_cause) (f_handling := f_handling) (f_vector := f_vector) (f_fetchPc := f_fetchPc) (f_parked := f_parked) (f_waitingCount := f_waitingCount) (f_memCount := f_memCount) (a_regs := a_regs) (a_memory := a_memory) (a_progOp := a_progOp) (a_progA := a_progA) (a_progB := a_progB) (a_progC := a_progC) (a_latency := a_latency) (a_counters := a_counters) (a_fqPc := a_fqPc) (a_fqNext := a_fqNext) (a_twoBit := a_twoBit) (a_jumpDelta := a_jumpDelta) (a_robPc := a_robPc) (a_robPredicted := a_robPredicted) (a_robState := a_robState) (a_robRemaining := a_robRemaining) (a_robValue := a_robValue) (a_robFault := a_robFault) (a_robNext := a_robNext) (a_robSrc1 := a_robSrc1) (a_robVal1 := a_robVal1) (a_robSrc2 := a_robSrc2) (a_robVal2 := a_robVal2) (a_robOp := a_robOp) (a_robC := a_robC) (a_robDest := a_robDest) (a_mapSlot := a_mapSlot) (a_unitBusy := a_unitBusy) (a_settings := a_settings) (a_queuePc := a_queuePc) (a_queueNext := a_queueNext) (a_ePc := a_ePc) (a_ePredicted := a_ePredicted) (a_eState := a_eState) (a_eRemaining := a_eRemaining) (a_eValue := a_eValue) (a_eFault := a_eFault) (a_eNext := a_eNext) (a_eWait1 := a_eWait1) (a_eVal1 := a_eVal1) (a_eWait2 := a_eWait2) (a_eVal2 := a_eVal2) hh hc r3 r4 c 0 (by omega)
  rcases hr with e | ⟨j, hj, e, es, _⟩
  · subst e
    refine Or.inl ⟨(w, rs, len, qh, qc, h, c, f_stations, f_queueSize, f_phase, f_pc, f_epc, f_cause, f_handling, f_vector, f_fetchPc, f_parked, f_waitingCount, f_memCount, a_regs, a_memory, a_progOp, a_progA, a_progB, a_progC, a_latency, a_counters, a_fqPc, a_fqNext, a_twoBit, a_jumpDelta, a_robPc, a_robPredicted, a_robState, a_robRemaining, a_robValue, a_robFault, a_robNext, a_robSrc1, a_robVal1, a_robSrc2, a_robVal2, a_robOp, a_robC, a_robDest, a_mapSlot, a_unitBusy, a_settings, a_queuePc, a_queueNext, a_ePc, a_ePredicted, a_eState, a_eRemaining, a_eValue, a_eFault, a_eNext, a_eWait1, a_eVal1, a_eWait2, a_eVal2), ⟨⟨H', hb, hpk, Or.inl hph⟩, hph, rfl⟩, fun post n G => ?_, fun post n G => ?_⟩
    · show wX_busStage_6 post (n + 2) (nI k) (nI rs) f_stations f_queueSize (nI w) f_phase f_pc f_epc f_cause f_handling f_vector (nI len) f_fetchPc f_parked (nI qh) (nI qc) (nI h) (nI c) f_waitingCount f_memCount a_regs a_memory a_progOp a_progA a_progB a_progC a_latency a_counters a_fqPc a_fqNext a_twoBit a_jumpDelta a_robPc a_robPredicted a_robState a_robRemaining a_robValue a_robFault a_robNext a_robSrc1 a_robVal1 a_robSrc2 a_robVal2 a_robOp a_robC a_robDest a_mapSlot a_unitBusy
      exact br_f hwk ⟨c + 1, fX _ (c + 1) (by omega) (br_t rfl G)⟩
    · show wY_busStage_57 post f_pc f_epc f_cause f_handling f_vector f_phase (nI len) (n + 1) (nI k) f_fetchPc f_parked (nI qc) (nI c) a_regs a_memory a_progOp a_progA a_progB a_progC a_counters a_settings a_queuePc a_queueNext a_twoBit a_jumpDelta a_ePc a_ePredicted a_eState a_eRemaining a_eValue a_eFault a_eNext a_eWait1 a_eVal1 a_eWait2 a_eVal2
      exact br_f hk3 (br_f hwk' ⟨c + 1, fY _ _ _ (c + 1) (by omega) (br_t rfl G)⟩)
  · subst e
    obtain ⟨qh', qc', c', wc, mc, ms, ub, S1, V1, S2, V2, ct, fp, pk, hF, hpk', cX, cY⟩ := j_complete (w := w) (rs := rs) (len := len) (qh := qh) (qc := qc) (h := h) (c := c) (f_stations := f_stations) (f_queueSize := f_queueSize) (f_phase := f_phase) (f_pc := f_pc) (f_epc := f_epc) (f_cause := f_cause) (f_handling := f_handling) (f_vector := f_vector) (f_fetchPc := f_fetchPc) (f_parked := f_parked) (f_waitingCount := f_waitingCount) (f_memCount := f_memCount) (a_regs := a_regs) (a_memory := a_memory) (a_progOp := a_progOp) (a_progA := a_progA) (a_progB := a_progB) (a_progC := a_progC) (a_latency := a_latency) (a_counters := a_counters) (a_fqPc := a_fqPc) (a_fqNext := a_fqNext) (a_twoBit := a_twoBit) (a_jumpDelta := a_jumpDelta) (a_robPc := a_robPc) (a_robPredicted := a_robPredicted) (a_robState := a_robState) (a_robRemaining := a_robRemaining) (a_robValue := a_robValue) (a_robFault := a_robFault) (a_robNext := a_robNext) (a_robSrc1 := a_robSrc1) (a_robVal1 := a_robVal1) (a_robSrc2 := a_robSrc2) (a_robVal2 := a_robVal2) (a_robOp := a_robOp) (a_robC := a_robC) (a_robDest := a_robDest) (a_mapSlot := a_mapSlot) (a_unitBusy := a_unitBusy) (a_settings := a_settings) (a_queuePc := a_queuePc) (a_queueNext := a_queueNext) (a_ePc := a_ePc) (a_ePredicted := a_ePredicted) (a_eState := a_eState) (a_eRemaining := a_eRemaining) (a_eValue := a_eValue) (a_eFault := a_eFault) (a_eNext := a_eNext) (a_eWait1 := a_eWait1) (a_eVal1 := a_eVal1) (a_eWait2 := a_eWait2) (a_eVal2 := a_eVal2) H' hj es hpk
    refine Or.inr ⟨(w, rs, len, qh', qc', h, c', f_stations, f_queueSize, f_phase, f_pc, f_epc, f_cause, f_handling, f_vector, fp, pk, wc, mc, a_regs, a_memory, a_progOp, a_progA, a_progB, a_progC, a_latency, ct, a_fqPc, a_fqNext, a_twoBit, a_jumpDelta, a_robPc, a_robPredicted, (upd a_robState ((h + j) % 16) 3), a_robRemaining, a_robValue, a_robFault, a_robNext, S1, V1, S2, V2, a_robOp, a_robC, a_robDest, ms, ub, a_settings, a_queuePc, a_queueNext, a_ePc, a_ePredicted, (upd a_eState j 3), a_eRemaining, a_eValue, a_eFault, a_eNext, (wk_w j c a_eWait1), (wk_v j c a_eWait1 a_eVal1 (a_eValue j)), (wk_w j c a_eWait2), (wk_v j c a_eWait2 a_eVal2 (a_eValue j))), ⟨⟨hF, hb, hpk', Or.inl hph⟩, hph, rfl⟩, fun post n G => ?_, fun post n G => ?_⟩
    · show wX_busStage_6 post (n + 1) (nI k) (nI rs) f_stations f_queueSize (nI w) f_phase f_pc f_epc f_cause f_handling f_vector (nI len) f_fetchPc f_parked (nI qh) (nI qc) (nI h) (nI c) f_waitingCount f_memCount a_regs a_memory a_progOp a_progA a_progB a_progC a_latency a_counters a_fqPc a_fqNext a_twoBit a_jumpDelta a_robPc a_robPredicted a_robState a_robRemaining a_robValue a_robFault a_robNext a_robSrc1 a_robVal1 a_robSrc2 a_robVal2 a_robOp a_robC a_robDest a_mapSlot a_unitBusy
      exact br_f hwk ⟨c + 1, fX _ (c + 1) (by omega) (br_f (rc_nm1 (by omega)) (cX _ (nm_r (nI_1 k) G)))⟩
    · show wY_busStage_57 post f_pc f_epc f_cause f_handling f_vector f_phase (nI len) (n + 1) (nI k) f_fetchPc f_parked (nI qc) (nI c) a_regs a_memory a_progOp a_progA a_progB a_progC a_counters a_settings a_queuePc a_queueNext a_twoBit a_jumpDelta a_ePc a_ePredicted a_eState a_eRemaining a_eValue a_eFault a_eNext a_eWait1 a_eVal1 a_eWait2 a_eVal2
      exact br_f hk3 (br_f hwk' ⟨c + 1, fY _ _ _ (c + 1) (by omega) (cY _ _ _ G)⟩)
theorem j_bx : ∀ z, rc_FZ z → (∀ post n, post (rc_zX z) → rc_bX post (n + 1) (rc_zw z) (rc_zX z)) ∧ (∀ post n, post (rc_zY z) → rc_bY post (n + 1) (rc_zw z) (rc_zY z)) := by
  refine rc_el ?_
  intro w rs len qh qc h c f_stations f_queueSize f_phase f_pc f_epc f_cause f_handling f_vector f_fetchPc f_parked f_waitingCount f_memCount a_regs a_memory a_progOp a_progA a_progB a_progC a_latency a_counters a_fqPc a_fqNext a_twoBit a_jumpDelta a_robPc a_robPredicted a_robState a_robRemaining a_robValue a_robFault a_robNext a_robSrc1 a_robVal1 a_robSrc2 a_robVal2 a_robOp a_robC a_robDest a_mapSlot a_unitBusy a_settings a_queuePc a_queueNext a_ePc a_ePredicted a_eState a_eRemaining a_eValue a_eFault a_eNext a_eWait1 a_eVal1 a_eWait2 a_eVal2 HF
  obtain ⟨⟨⟨hw1, hw3, hrs, _, _, _, hs10, _⟩, _⟩, _⟩ := HF
  refine ⟨fun post n G => ?_, fun post n G => ?_⟩
  · show wX_busStage_6 post (n + 1) (nI w) (nI rs) f_stations f_queueSize (nI w) f_phase f_pc f_epc f_cause f_handling f_vector (nI len) f_fetchPc f_parked (nI qh) (nI qc) (nI h) (nI c) f_waitingCount f_memCount a_regs a_memory a_progOp a_progA a_progB a_progC a_latency a_counters a_fqPc a_fqNext a_twoBit a_jumpDelta a_robPc a_robPredicted a_robState a_robRemaining a_robValue a_robFault a_robNext a_robSrc1 a_robVal1 a_robSrc2 a_robVal2 a_robOp a_robC a_robDest a_mapSlot a_unitBusy
    exact br_t (nI_le (Nat.le_refl _) (by omega)) G
  · show wY_busStage_57 post f_pc f_epc f_cause f_handling f_vector f_phase (nI len) (n + 1) (nI w) f_fetchPc f_parked (nI qc) (nI c) a_regs a_memory a_progOp a_progA a_progB a_progC a_counters a_settings a_queuePc a_queueNext a_twoBit a_jumpDelta a_ePc a_ePredicted a_eState a_eRemaining a_eValue a_eFault a_eNext a_eWait1 a_eVal1 a_eWait2 a_eVal2
    exact br_c (fun _ => G) (fun _ => br_t (by rw [hs10]; exact nI_le (Nat.le_refl _) (by omega)) G)
theorem j_busLoop {e : Nat} (z : rc_Z) (H : rc_RU e z) : ∃ z', rc_RU e z' ∧ (∀ post : SX → Prop, post (rc_zX z') → ∃ n, rc_bX post n 0 (rc_zX z)) ∧ (∀ post : SY → Prop, post (rc_zY z') → ∃ n, rc_bY post n 0 (rc_zY z)) := by
  obtain ⟨z', h1, h2, h3⟩ := rc_loop (WX := rc_bX) (WY := rc_bY) (I := rc_RU e) (F := rc_RU e) (e := e) (fun z1 h1 => by
    have g := j_bx z1 h1.1
    rw [h1.2.2] at g
    exact ⟨h1, g⟩) (fun k z1 hk h1 => by
    have h2 := h1.2.2
    have g := j_bs (k := k) z1 (by omega) (by rw [h2]; exact h1)
    rw [h2] at g
    exact g) e 0 z (by omega) H
  exact ⟨z', h1, fun post G => ⟨_, h2 post (e + 2) (by omega) G⟩, fun post G => ⟨_, h3 post (e + 2) (by omega) G⟩⟩
end
end
section
/-! the bus stage -/
section
variable {w rs len qh qc h c : Nat} {f_stations f_queueSize f_phase f_pc f_epc f_cause f_handling f_vector f_fetchPc f_parked f_waitingCount f_memCount : Int32} {a_regs a_memory a_progOp a_progA a_progB a_progC a_latency a_counters a_fqPc a_fqNext a_twoBit a_jumpDelta a_robPc a_robPredicted a_robState a_robRemaining a_robValue a_robFault a_robNext a_robSrc1 a_robVal1 a_robSrc2 a_robVal2 a_robOp a_robC a_robDest a_mapSlot a_unitBusy a_settings a_queuePc a_queueNext a_ePc a_ePredicted a_eState a_eRemaining a_eValue a_eFault a_eNext a_eWait1 a_eVal1 a_eWait2 a_eVal2 : Nat → Int32}
theorem x_countDown {post : SX → Prop} {n : Nat} (H : wX_countDown_2 post (nI rs) f_stations f_queueSize (nI w) f_phase f_pc f_epc f_cause f_handling f_vector (nI len) f_fetchPc f_parked (nI qh) (nI qc) (nI h) (nI c) f_waitingCount f_memCount n (nI 0) a_regs a_memory a_progOp a_progA a_progB a_progC a_latency a_counters a_fqPc a_fqNext a_twoBit a_jumpDelta a_robPc a_robPredicted a_robState a_robRemaining a_robValue a_robFault a_robNext a_robSrc1 a_robVal1 a_robSrc2 a_robVal2 a_robOp a_robC a_robDest a_mapSlot a_unitBusy) : wpX_countDown post ((nI rs), f_stations, f_queueSize, (nI w), f_phase, f_pc, f_epc, f_cause, f_handling, f_vector, (nI len), f_fetchPc, f_parked, (nI qh), (nI qc), (nI h), (nI c), f_waitingCount, f_memCount, a_regs, a_memory, a_progOp, a_progA, a_progB, a_progC, a_latency, a_counters, a_fqPc, a_fqNext, a_twoBit, a_jumpDelta, a_robPc, a_robPredicted, a_robState, a_robRemaining, a_robValue, a_robFault, a_robNext, a_robSrc1, a_robVal1, a_robSrc2, a_robVal2, a_robOp, a_robC, a_robDest, a_mapSlot, a_unitBusy) := ⟨n, H⟩
theorem x_busS {post : SX → Prop} {Rm : Nat → Int32} {m : Nat} (cX : ∀ (post : SX → Prop) (n : Nat), c < n → post ((nI rs), f_stations, f_queueSize, (nI w), f_phase, f_pc, f_epc, f_cause, f_handling, f_vector, (nI len), f_fetchPc, f_parked, (nI qh), (nI qc), (nI h), (nI c), f_waitingCount, f_memCount, a_regs, a_memory, a_progOp, a_progA, a_progB, a_progC, a_latency, a_counters, a_fqPc, a_fqNext, a_twoBit, a_jumpDelta, a_robPc, a_robPredicted, a_robState, Rm, a_robValue, a_robFault, a_robNext, a_robSrc1, a_robVal1, a_robSrc2, a_robVal2, a_robOp, a_robC, a_robDest, a_mapSlot, a_unitBusy) → wX_countDown_2 post (nI rs) f_stations f_queueSize (nI w) f_phase f_pc f_epc f_cause f_handling f_vector (nI len) f_fetchPc f_parked (nI qh) (nI qc) (nI h) (nI c) f_waitingCount f_memCount n (nI 0) a_regs a_memory a_progOp a_progA a_progB a_progC a_latency a_counters a_fqPc a_fqNext a_twoBit a_jumpDelta a_robPc a_robPredicted a_robState a_robRemaining a_robValue a_robFault a_robNext a_robSrc1 a_robVal1 a_robSrc2 a_robVal2 a_robOp a_robC a_robDest a_mapSlot a_unitBusy) (G : wX_busStage_6 post m (nI 0) (nI rs) f_stations f_queueSize (nI w) f_phase f_pc f_epc f_cause f_handling f_vector (nI len) f_fetchPc f_parked (nI qh) (nI qc) (nI h) (nI c) f_waitingCount f_memCount a_regs a_memory a_progOp a_progA a_progB a_progC a_latency a_counters a_fqPc a_fqNext a_twoBit a_jumpDelta a_robPc a_robPredicted a_robState Rm a_robValue a_robFault a_robNext a_robSrc1 a_robVal1 a_robSrc2 a_robVal2 a_robOp a_robC a_robDest a_mapSlot a_unitBusy) : wpX_busStage post ((nI rs), f_stations, f_queueSize, (nI w), f_phase, f_pc, f_epc, f_cause, f_handling, f_vector, (nI len), f_fetchPc, f_parked, (nI qh), (nI qc), (nI h), (nI c), f_waitingCount, f_memCount, a_regs, a_memory, a_progOp, a_progA, a_progB, a_progC, a_latency, a_counters, a_fqPc, a_fqNext, a_twoBit, a_jumpDelta, a_robPc, a_robPredicted, a_robState, a_robRemaining, a_robValue, a_robFault, a_robNext, a_robSrc1, a_robVal1, a_robSrc2, a_robVal2, a_robOp, a_robC, a_robDest, a_mapSlot, a_unitBusy) := by
  unfold wpX_busStage
  refine x_countDown (n := c + 1) (cX _ (c + 1) (by omega) ?_)
  exact ⟨m, G⟩
theorem y_busS {post : SY → Prop} {rm : Nat → Int32} {m : Nat} (cY : ∀ (post : SY → Prop) (n : Nat), c < n → (∃ n57 : Nat, wY_busStage_57 post f_pc f_epc f_cause f_handling f_vector f_phase (nI len) n57 0 f_fetchPc f_parked (nI qc) (nI c) a_regs a_memory a_progOp a_progA a_progB a_progC a_counters a_settings a_queuePc a_queueNext a_twoBit a_jumpDelta a_ePc a_ePredicted a_eState rm a_eValue a_eFault a_eNext a_eWait1 a_eVal1 a_eWait2 a_eVal2) → wY_busStage_2 post f_pc f_epc f_cause f_handling f_vector f_phase (nI len) f_fetchPc f_parked (nI qc) (nI c) n (nI 0) a_regs a_memory a_progOp a_progA a_progB a_progC a_counters a_settings a_queuePc a_queueNext a_twoBit a_jumpDelta a_ePc a_ePredicted a_eState a_eRemaining a_eValue a_eFault a_eNext a_eWait1 a_eVal1 a_eWait2 a_eVal2) (G : wY_busStage_57 post f_pc f_epc f_cause f_handling f_vector f_phase (nI len) m (nI 0) f_fetchPc f_parked (nI qc) (nI c) a_regs a_memory a_progOp a_progA a_progB a_progC a_counters a_settings a_queuePc a_queueNext a_twoBit a_jumpDelta a_ePc a_ePredicted a_eState rm a_eValue a_eFault a_eNext a_eWait1 a_eVal1 a_eWait2 a_eVal2) : wpY_busStage post (f_pc, f_epc, f_cause, f_handling, f_vector, f_phase, (nI len), f_fetchPc, f_parked, (nI qc), (nI c), a_regs, a_memory, a_progOp, a_progA, a_progB, a_progC, a_counters, a_settings, a_queuePc, a_queueNext, a_twoBit, a_jumpDelta, a_ePc, a_ePredicted, a_eState, a_eRemaining, a_eValue, a_eFault, a_eNext, a_eWait1, a_eVal1, a_eWait2, a_eVal2) := ⟨c + 1, cY _ (c + 1) (by omega) ⟨m, G⟩⟩
theorem j_busStage {e : Nat} : ∀ z : rc_Z, rc_RU e z → ∃ z', rc_RU e z' ∧ (∀ post : SX → Prop, post (rc_zX z') → wpX_busStage post (rc_zX z)) ∧ (∀ post : SY → Prop, post (rc_zY z') → wpY_busStage post (rc_zY z)) := by
  refine rc_el ?_
  intro w rs len qh qc h c f_stations f_queueSize f_phase f_pc f_epc f_cause f_handling f_vector f_fetchPc f_parked f_waitingCount f_memCount a_regs a_memory a_progOp a_progA a_progB a_progC a_latency a_counters a_fqPc a_fqNext a_twoBit a_jumpDelta a_robPc a_robPredicted a_robState a_robRemaining a_robValue a_robFault a_robNext a_robSrc1 a_robVal1 a_robSrc2 a_robVal2 a_robOp a_robC a_robDest a_mapSlot a_unitBusy a_settings a_queuePc a_queueNext a_ePc a_ePredicted a_eState a_eRemaining a_eValue a_eFault a_eNext a_eWait1 a_eVal1 a_eWait2 a_eVal2 HR
  obtain ⟨⟨H, hb, hpk, _⟩, hph, hwe⟩ := HR
  have H' : rc_F0 w rs len qh qc h c f_stations f_queueSize f_waitingCount f_memCount a_latency a_settings a_progOp a_progA a_progB a_progC a_fqPc a_fqNext a_queuePc a_queueNext a_robPc a_robPredicted a_robState a_robRemaining a_robValue a_robFault a_robNext a_robSrc1 a_robVal1 a_robSrc2 a_robVal2 a_robOp a_robC a_robDest a_ePc a_ePredicted a_eState a_eRemaining a_eValue a_eFault a_eNext a_eWait1 a_eVal1 a_eWait2 a_eVal2 a_mapSlot a_unitBusy := H
  have hph : f_phase = 1 := hph
  obtain ⟨_, hP, hQ, ⟨hh, hc, r1, r2, r3, r4, _⟩, _⟩ := H
  obtain ⟨Rm, rm, hR, cX, cY⟩ := j_cd (w := w) (rs := rs) (len := len) (qh := qh) (qc := qc) (h := h) (c := c) (f_stations := f_stations) (f_queueSize := f_queueSize) (f_phase := f_phase) (f_pc := f_pc) (f_epc := f_epc) (f_cause := f_cause) (f_handling := f_handling) (f_vector := f_vector) (f_fetchPc := f_fetchPc) (f_parked := f_parked) (f_waitingCount := f_waitingCount) (f_memCount := f_memCount) (a_regs := a_regs) (a_memory := a_memory) (a_progOp := a_progOp) (a_progA := a_progA) (a_progB := a_progB) (a_progC := a_progC) (a_latency := a_latency) (a_counters := a_counters) (a_fqPc := a_fqPc) (a_fqNext := a_fqNext) (a_twoBit := a_twoBit) (a_jumpDelta := a_jumpDelta) (a_robPc := a_robPc) (a_robPredicted := a_robPredicted) (a_robState := a_robState) (a_robValue := a_robValue) (a_robFault := a_robFault) (a_robNext := a_robNext) (a_robSrc1 := a_robSrc1) (a_robVal1 := a_robVal1) (a_robSrc2 := a_robSrc2) (a_robVal2 := a_robVal2) (a_robOp := a_robOp) (a_robC := a_robC) (a_robDest := a_robDest) (a_mapSlot := a_mapSlot) (a_unitBusy := a_unitBusy) (a_settings := a_settings) (a_queuePc := a_queuePc) (a_queueNext := a_queueNext) (a_ePc := a_ePc) (a_ePredicted := a_ePredicted) (a_eState := a_eState) (a_eValue := a_eValue) (a_eFault := a_eFault) (a_eNext := a_eNext) (a_eWait1 := a_eWait1) (a_eVal1 := a_eVal1) (a_eWait2 := a_eWait2) (a_eVal2 := a_eVal2) hh hc r3 c 0 a_robRemaining a_eRemaining (by omega) r4
  have hwe : w = e := hwe
  obtain ⟨z', h1, h2, h3⟩ := j_busLoop (w, rs, len, qh, qc, h, c, f_stations, f_queueSize, f_phase, f_pc, f_epc, f_cause, f_handling, f_vector, f_fetchPc, f_parked, f_waitingCount, f_memCount, a_regs, a_memory, a_progOp, a_progA, a_progB, a_progC, a_latency, a_counters, a_fqPc, a_fqNext, a_twoBit, a_jumpDelta, a_robPc, a_robPredicted, a_robState, Rm, a_robValue, a_robFault, a_robNext, a_robSrc1, a_robVal1, a_robSrc2, a_robVal2, a_robOp, a_robC, a_robDest, a_mapSlot, a_unitBusy, a_settings, a_queuePc, a_queueNext, a_ePc, a_ePredicted, a_eState, rm, a_eValue, a_eFault, a_eNext, a_eWait1, a_eVal1, a_eWait2, a_eVal2) ⟨⟨f0_rm H' hR, hb, hpk, Or.inl hph⟩, hph, hwe⟩
  refine ⟨z', h1, fun post G => ?_, fun post G => ?_⟩
  · obtain ⟨n, g⟩ := h2 post G
    exact x_busS cX g
  · obtain ⟨n, g⟩ := h3 post G
    exact y_busS cY g
end
end
section
/-! issue: the unit count, the load rule, the youngest matching store -/
def rc_mt (ln : Nat) (po pc ep w1 v1 : Nat → Int32) (ad : Int32) : Nat → Int32 := fun i => if rc_op ln po (ep i) = 11 ∧ w1 i = -1 ∧ v1 i + rc_fa ln pc (ep i) = ad then 1 else 0
theorem mt_1 {ln : Nat} {po pc ep w1 v1 : Nat → Int32} {ad : Int32} {i : Nat} (a : rc_op ln po (ep i) = 11) (b : w1 i = -1) (e : v1 i + rc_fa ln pc (ep i) = ad) : rc_mt ln po pc ep w1 v1 ad i = 1 := if_pos ⟨a, b, e⟩
theorem mt_0 {ln : Nat} {po pc ep w1 v1 : Nat → Int32} {ad : Int32} {i : Nat} (q : ¬ (rc_op ln po (ep i) = 11 ∧ w1 i = -1 ∧ v1 i + rc_fa ln pc (ep i) = ad)) : ¬ rc_mt ln po pc ep w1 v1 ad i = 1 := by
  rw [rc_mt, if_neg q]
  decide
section
variable {w rs len qh qc h c : Nat} {f_stations f_queueSize f_phase f_pc f_epc f_cause f_handling f_vector f_fetchPc f_parked f_waitingCount f_memCount : Int32} {a_regs a_memory a_progOp a_progA a_progB a_progC a_latency a_counters a_fqPc a_fqNext a_twoBit a_jumpDelta a_robPc a_robPredicted a_robState a_robRemaining a_robValue a_robFault a_robNext a_robSrc1 a_robVal1 a_robSrc2 a_robVal2 a_robOp a_robC a_robDest a_mapSlot a_unitBusy a_settings a_queuePc a_queueNext a_ePc a_ePredicted a_eState a_eRemaining a_eValue a_eFault a_eNext a_eWait1 a_eVal1 a_eWait2 a_eVal2 : Nat → Int32}
theorem y_uf4 {u0 : Nat} (hl : len ≤ 64) (hc : c ≤ 16) : ∀ (d i : Nat), i + d = c → ∀ (post : Int32 → Prop) (n : Nat), d < n → wY_unitFree_64 post (nI u0) (rc_cn (rc_pu len a_progOp a_ePc a_eState (nI u0)) c) f_pc f_epc f_cause f_handling f_vector f_phase (nI len) f_fetchPc f_parked (nI qc) (nI c) a_regs a_memory a_progOp a_progA a_progB a_progC a_counters a_settings a_queuePc a_queueNext a_twoBit a_jumpDelta a_ePc a_ePredicted a_eState a_eRemaining a_eValue a_eFault a_eNext a_eWait1 a_eVal1 a_eWait2 a_eVal2 → wY_unitFree_4 post (nI u0) f_pc f_epc f_cause f_handling f_vector f_phase (nI len) f_fetchPc f_parked (nI qc) (nI c) a_regs a_memory a_progOp a_progA a_progB a_progC a_counters a_settings a_queuePc a_queueNext a_twoBit a_jumpDelta a_ePc a_ePredicted a_eState a_eRemaining a_eValue a_eFault a_eNext a_eWait1 a_eVal1 a_eWait2 a_eVal2 n (rc_cn (rc_pu len a_progOp a_ePc a_eState (nI u0)) i) (nI i) := by
  intro d
  induction d with
  | zero =>
    intro i hi post n hn H
    have hi : i = c := by omega
    subst hi
    obtain ⟨n, rfl⟩ : ∃ m, n = m + 1 := ⟨n - 1, by omega⟩
    exact br_c (fun _ => H) (fun _ => br_t (nI_le (Nat.le_refl _) (by omega)) H)
  | succ d ih =>
    intro i hi post n hn H
    obtain ⟨n, rfl⟩ : ∃ m, n = m + 1 := ⟨n - 1, by omega⟩
    have g := ih (i + 1) (by omega) post n (by omega) H
    have hip : vp_in (nI i) 16 := vp_in_nI (by omega) (by omega)
    have hcp : (nI i).toNatClampNeg = i := nI_clamp (by omega)
    refine br_f (nI_ge (b := 16) (by omega) (by omega)) (br_f (nI_ge (by omega) (by omega)) (And.intro hip ?_))
    rw [hcp]
    rw [rc_cn] at g
    by_cases q : a_eState i = 2
    · refine br_t q (And.intro hip (y_opAt hl (y_classOf ?_)))
      by_cases q2 : rc_un (rc_op len a_progOp (a_ePc i)) = nI u0
      · rw [if_pos (pu_t q q2)] at g
        exact br_t q2 (nm_e (nm_r (nI_1 i) g))
      · rw [if_neg (bl_f (pu_g q2))] at g
        exact br_f q2 (nm_r (nI_1 i) g)
    · rw [if_neg (bl_f (pu_f q))] at g
      exact br_f q (nm_r (nI_1 i) g)
theorem y_unitFree {u0 : Nat} {post : Int32 → Prop} (hl : len ≤ 64) (hc : c ≤ 16) (H : wY_unitFree_64 post (nI u0) (rc_cn (rc_pu len a_progOp a_ePc a_eState (nI u0)) c) f_pc f_epc f_cause f_handling f_vector f_phase (nI len) f_fetchPc f_parked (nI qc) (nI c) a_regs a_memory a_progOp a_progA a_progB a_progC a_counters a_settings a_queuePc a_queueNext a_twoBit a_jumpDelta a_ePc a_ePredicted a_eState a_eRemaining a_eValue a_eFault a_eNext a_eWait1 a_eVal1 a_eWait2 a_eVal2) : wpY_unitFree post (f_pc, f_epc, f_cause, f_handling, f_vector, f_phase, (nI len), f_fetchPc, f_parked, (nI qc), (nI c), a_regs, a_memory, a_progOp, a_progA, a_progB, a_progC, a_counters, a_settings, a_queuePc, a_queueNext, a_twoBit, a_jumpDelta, a_ePc, a_ePredicted, a_eState, a_eRemaining, a_eValue, a_eFault, a_eNext, a_eWait1, a_eVal1, a_eWait2, a_eVal2) (nI u0) := ⟨c + 1, y_uf4 hl hc c 0 (by omega) post (c + 1) (by omega) H⟩
theorem y_ms5 {p : Nat} {ad : Int32} (hl : len ≤ 64) (hp : p ≤ 16) : ∀ (d i : Nat), i + d = p → ∀ (post : Int32 → Prop) (n : Nat), d < n → post (rc_yw (rc_mt len a_progOp a_progC a_ePc a_eWait1 a_eVal1 ad) 1 p) → wY_matchingStore_5 post (nI p) ad f_pc f_epc f_cause f_handling f_vector f_phase (nI len) f_fetchPc f_parked (nI qc) (nI c) a_regs a_memory a_progOp a_progA a_progB a_progC a_counters a_settings a_queuePc a_queueNext a_twoBit a_jumpDelta a_ePc a_ePredicted a_eState a_eRemaining a_eValue a_eFault a_eNext a_eWait1 a_eVal1 a_eWait2 a_eVal2 n (rc_yw (rc_mt len a_progOp a_progC a_ePc a_eWait1 a_eVal1 ad) 1 i) (nI i) := by
  intro d
  induction d with
  | zero =>
    intro i hi post n hn H
    have hi : i = p := by omega
    subst hi
    obtain ⟨n, rfl⟩ : ∃ m, n = m + 1 := ⟨n - 1, by omega⟩
    exact br_c (fun _ => H) (fun _ => br_t (nI_le (Nat.le_refl _) (by omega)) H)
  | succ d ih =>
    intro i hi post n hn H
    obtain ⟨n, rfl⟩ : ∃ m, n = m + 1 := ⟨n - 1, by omega⟩
    have g := ih (i + 1) (by omega) post n (by omega) H
    have hip : vp_in (nI i) 16 := vp_in_nI (by omega) (by omega)
    have hcp : (nI i).toNatClampNeg = i := nI_clamp (by omega)
    refine br_f (nI_ge (b := 16) (by omega) (by omega)) (br_f (nI_ge (by omega) (by omega)) (And.intro hip ?_))
    rw [hcp]
    refine y_opAt hl (And.intro hip (y_cAt hl ?_))
    rw [rc_yw] at g
    by_cases q : rc_op len a_progOp (a_ePc i) = 11
    · by_cases q1 : a_eWait1 i = -1
      · by_cases q2 : a_eVal1 i + rc_fa len a_progC (a_ePc i) = ad
        · rw [if_pos (mt_1 q q1 q2)] at g
          exact br_t q (And.intro hip (br_t q1 (And.intro hip (br_t q2 (nm_r (nI_1 i) g)))))
        · rw [if_neg (mt_0 (fun z => q2 z.2.2))] at g
          exact br_t q (And.intro hip (br_t q1 (And.intro hip (br_f q2 (nm_r (nI_1 i) g)))))
      · rw [if_neg (mt_0 (fun z => q1 z.2.1))] at g
        exact br_t q (And.intro hip (br_f q1 (nm_r (nI_1 i) g)))
    · rw [if_neg (mt_0 (fun z => q z.1))] at g
      exact br_f q (nm_r (nI_1 i) g)
theorem y_matchingStore {p : Nat} {ad : Int32} {post : Int32 → Prop} (hl : len ≤ 64) (hp : p ≤ 16) (H : post (rc_yw (rc_mt len a_progOp a_progC a_ePc a_eWait1 a_eVal1 ad) 1 p)) : wpY_matchingStore post (f_pc, f_epc, f_cause, f_handling, f_vector, f_phase, (nI len), f_fetchPc, f_parked, (nI qc), (nI c), a_regs, a_memory, a_progOp, a_progA, a_progB, a_progC, a_counters, a_settings, a_queuePc, a_queueNext, a_twoBit, a_jumpDelta, a_ePc, a_ePredicted, a_eState, a_eRemaining, a_eValue, a_eFault, a_eNext, a_eWait1, a_eVal1, a_eWait2, a_eVal2) (nI p) ad := ⟨p + 1, y_ms5 hl hp p 0 (by omega) post (p + 1) (by omega) H⟩
/-- an older store whose address isn't known -/
def rc_bk (ln : Nat) (po ep w1 : Nat → Int32) (p : Nat) : Prop := ∃ k, k < p ∧ rc_op ln po (ep k) = 11 ∧ ¬ w1 k = -1
theorem y_la2n {p : Nat} (hl : len ≤ 64) (hp : p ≤ 16) (hb : ¬ rc_bk len a_progOp a_ePc a_eWait1 p) : ∀ (d i : Nat), i + d = p → ∀ (post : Int32 → Prop) (n : Nat), d < n → wY_loadAllowed_48 post (nI p) f_pc f_epc f_cause f_handling f_vector f_phase (nI len) f_fetchPc f_parked (nI qc) (nI c) a_regs a_memory a_progOp a_progA a_progB a_progC a_counters a_settings a_queuePc a_queueNext a_twoBit a_jumpDelta a_ePc a_ePredicted a_eState a_eRemaining a_eValue a_eFault a_eNext a_eWait1 a_eVal1 a_eWait2 a_eVal2 → wY_loadAllowed_2 post (nI p) f_pc f_epc f_cause f_handling f_vector f_phase (nI len) f_fetchPc f_parked (nI qc) (nI c) a_regs a_memory a_progOp a_progA a_progB a_progC a_counters a_settings a_queuePc a_queueNext a_twoBit a_jumpDelta a_ePc a_ePredicted a_eState a_eRemaining a_eValue a_eFault a_eNext a_eWait1 a_eVal1 a_eWait2 a_eVal2 n (nI i) := by
  intro d
  induction d with
  | zero =>
    intro i hi post n hn H
    have hi : i = p := by omega
    subst hi
    obtain ⟨n, rfl⟩ : ∃ m, n = m + 1 := ⟨n - 1, by omega⟩
    exact br_c (fun _ => H) (fun _ => br_t (nI_le (Nat.le_refl _) (by omega)) H)
  | succ d ih =>
    intro i hi post n hn H
    obtain ⟨n, rfl⟩ : ∃ m, n = m + 1 := ⟨n - 1, by omega⟩
    have g := ih (i + 1) (by omega) post n (by omega) H
    have hip : vp_in (nI i) 16 := vp_in_nI (by omega) (by omega)
    have hcp : (nI i).toNatClampNeg = i := nI_clamp (by omega)
    refine br_f (nI_ge (b := 16) (by omega) (by omega)) (br_f (nI_ge (by omega) (by omega)) (And.intro hip ?_))
    rw [hcp]
    refine y_opAt hl ?_
    by_cases q : rc_op len a_progOp (a_ePc i) = 11
    · have q1 : a_eWait1 i = -1 := Classical.byContradiction fun z => hb ⟨i, by omega, q, z⟩
      exact br_t q (And.intro hip (br_t q1 (nm_r (nI_1 i) g)))
    · exact br_f q (nm_r (nI_1 i) g)
theorem y_la2b {p k : Nat} (hl : len ≤ 64) (hp : p ≤ 16) (hk : k < p) (ho : rc_op len a_progOp (a_ePc k) = 11) (hw : ¬ a_eWait1 k = -1) : ∀ (d i : Nat), i + d = k → ∀ (post : Int32 → Prop) (n : Nat), d < n → post 0 → wY_loadAllowed_2 post (nI p) f_pc f_epc f_cause f_handling f_vector f_phase (nI len) f_fetchPc f_parked (nI qc) (nI c) a_regs a_memory a_progOp a_progA a_progB a_progC a_counters a_settings a_queuePc a_queueNext a_twoBit a_jumpDelta a_ePc a_ePredicted a_eState a_eRemaining a_eValue a_eFault a_eNext a_eWait1 a_eVal1 a_eWait2 a_eVal2 n (nI i) := by
  intro d
  induction d with
  | zero =>
    intro i hi post n hn H
    have hi : i = k := by omega
    subst hi
    obtain ⟨n, rfl⟩ : ∃ m, n = m + 1 := ⟨n - 1, by omega⟩
    have hip : vp_in (nI i) 16 := vp_in_nI (by omega) (by omega)
    have hcp : (nI i).toNatClampNeg = i := nI_clamp (by omega)
    refine br_f (nI_ge (b := 16) (by omega) (by omega)) (br_f (nI_ge (by omega) (by omega)) (And.intro hip ?_))
    rw [hcp]
    exact y_opAt hl (br_t ho (And.intro hip (br_f hw H)))
  | succ d ih =>
    intro i hi post n hn H
    obtain ⟨n, rfl⟩ : ∃ m, n = m + 1 := ⟨n - 1, by omega⟩
    have g := ih (i + 1) (by omega) post n (by omega) H
    have hip : vp_in (nI i) 16 := vp_in_nI (by omega) (by omega)
    have hcp : (nI i).toNatClampNeg = i := nI_clamp (by omega)
    refine br_f (nI_ge (b := 16) (by omega) (by omega)) (br_f (nI_ge (by omega) (by omega)) (And.intro hip ?_))
    rw [hcp]
    refine y_opAt hl ?_
    by_cases q : rc_op len a_progOp (a_ePc i) = 11
    · by_cases q1 : a_eWait1 i = -1
      · exact br_t q (And.intro hip (br_t q1 (nm_r (nI_1 i) g)))
      · exact br_t q (And.intro hip (br_f q1 H))
    · exact br_f q (nm_r (nI_1 i) g)
theorem x_tl30n {p s : Nat} {ad : Int32} (hh : h < 16) (hc : c ≤ 16) (hp : p < c) (hw1 : ∀ i, i < c → rc_w16 (a_eWait1 i)) (hb : ¬ rc_bk len a_progOp a_ePc a_eWait1 p) (r8 : rc_RA 16 h c a_robSrc1 (fun i => rc_sl h (a_eWait1 i))) (r9 : rc_RA 16 h c a_robVal1 a_eVal1) (r12 : rc_RA 16 h c a_robOp (fun i => rc_op len a_progOp (a_ePc i))) (r13 : rc_RA 16 h c a_robC (fun i => rc_fa len a_progC (a_ePc i))) : ∀ (d i : Nat), i + d = p → ∀ (post : Int32 → SX → Prop) (n : Nat), d < n → (∀ m, wX_tryLoad_30 post (nI p) (nI s) ad (nI rs) f_stations f_queueSize (nI w) f_phase f_pc f_epc f_cause f_handling f_vector (nI len) f_fetchPc f_parked (nI qh) (nI qc) (nI h) (nI c) f_waitingCount f_memCount a_regs a_memory a_progOp a_progA a_progB a_progC a_latency a_counters a_fqPc a_fqNext a_twoBit a_jumpDelta a_robPc a_robPredicted a_robState a_robRemaining a_robValue a_robFault a_robNext a_robSrc1 a_robVal1 a_robSrc2 a_robVal2 a_robOp a_robC a_robDest a_mapSlot a_unitBusy (m + 1) (rc_sl h (rc_yw (rc_mt len a_progOp a_progC a_ePc a_eWait1 a_eVal1 ad) 1 p)) (nI p)) → wX_tryLoad_30 post (nI p) (nI s) ad (nI rs) f_stations f_queueSize (nI w) f_phase f_pc f_epc f_cause f_handling f_vector (nI len) f_fetchPc f_parked (nI qh) (nI qc) (nI h) (nI c) f_waitingCount f_memCount a_regs a_memory a_progOp a_progA a_progB a_progC a_latency a_counters a_fqPc a_fqNext a_twoBit a_jumpDelta a_robPc a_robPredicted a_robState a_robRemaining a_robValue a_robFault a_robNext a_robSrc1 a_robVal1 a_robSrc2 a_robVal2 a_robOp a_robC a_robDest a_mapSlot a_unitBusy n (rc_sl h (rc_yw (rc_mt len a_progOp a_progC a_ePc a_eWait1 a_eVal1 ad) 1 i)) (nI i) := by
  intro d
  induction d with
  | zero =>
    intro i hi post n hn H
    have hi : i = p := by omega
    subst hi
    obtain ⟨n, rfl⟩ : ∃ m, n = m + 1 := ⟨n - 1, by omega⟩
    exact H n
  | succ d ih =>
    intro i hi post n hn H
    obtain ⟨n, rfl⟩ : ∃ m, n = m + 1 := ⟨n - 1, by omega⟩
    have g := ih (i + 1) (by omega) post n (by omega) H
    have hin : vp_in (nI ((h + i) % 16)) 16 := vp_in_nI (by omega) (by omega)
    have hcl : (nI ((h + i) % 16)).toNatClampNeg = (h + i) % 16 := nI_clamp (by omega)
    have e8 : a_robSrc1 ((h + i) % 16) = rc_sl h (a_eWait1 i) := r8 i (by omega)
    have e9 : a_robVal1 ((h + i) % 16) = a_eVal1 i := r9 i (by omega)
    have e12 : a_robOp ((h + i) % 16) = rc_op len a_progOp (a_ePc i) := r12 i (by omega)
    have e13 : a_robC ((h + i) % 16) = rc_fa len a_progC (a_ePc i) := r13 i (by omega)
    refine br_f (nI_ge (by omega) (by omega)) (nm_r (rc_slot hh (by omega)) (And.intro hin ?_))
    rw [hcl, e8, e9, e12, e13]
    rw [rc_yw] at g
    by_cases q : rc_op len a_progOp (a_ePc i) = 11
    · have q1 : a_eWait1 i = -1 := Classical.byContradiction fun z => hb ⟨i, by omega, q, z⟩
      have q1' : rc_sl h (a_eWait1 i) = -1 := (sl_m1 hh (hw1 i (by omega))).mpr q1
      by_cases q2 : a_eVal1 i + rc_fa len a_progC (a_ePc i) = ad
      · rw [if_pos (mt_1 q q1 q2), sl_n hh (by omega)] at g
        exact br_t q (And.intro hin (br_t q1' (And.intro hin (And.intro hin (br_t q2 (nm_r (nI_1 i) g))))))
      · rw [if_neg (mt_0 (fun z => q2 z.2.2))] at g
        exact br_t q (And.intro hin (br_t q1' (And.intro hin (And.intro hin (br_f q2 (nm_r (nI_1 i) g))))))
    · rw [if_neg (mt_0 (fun z => q z.1))] at g
      exact br_f q (nm_r (nI_1 i) g)
theorem x_tl30b {p s k : Nat} {ad : Int32} (hh : h < 16) (hc : c ≤ 16) (hp : p < c) (hk : k < p) (hw1 : ∀ i, i < c → rc_w16 (a_eWait1 i)) (ho : rc_op len a_progOp (a_ePc k) = 11) (hw : ¬ a_eWait1 k = -1) (r8 : rc_RA 16 h c a_robSrc1 (fun i => rc_sl h (a_eWait1 i))) (r12 : rc_RA 16 h c a_robOp (fun i => rc_op len a_progOp (a_ePc i))) : ∀ (d i : Nat), i + d = k → ∀ (post : Int32 → SX → Prop) (n : Nat) (st : Int32), d < n → post 0 ((nI rs), f_stations, f_queueSize, (nI w), f_phase, f_pc, f_epc, f_cause, f_handling, f_vector, (nI len), f_fetchPc, f_parked, (nI qh), (nI qc), (nI h), (nI c), f_waitingCount, f_memCount, a_regs, a_memory, a_progOp, a_progA, a_progB, a_progC, a_latency, a_counters, a_fqPc, a_fqNext, a_twoBit, a_jumpDelta, a_robPc, a_robPredicted, a_robState, a_robRemaining, a_robValue, a_robFault, a_robNext, a_robSrc1, a_robVal1, a_robSrc2, a_robVal2, a_robOp, a_robC, a_robDest, a_mapSlot, a_unitBusy) → wX_tryLoad_30 post (nI p) (nI s) ad (nI rs) f_stations f_queueSize (nI w) f_phase f_pc f_epc f_cause f_handling f_vector (nI len) f_fetchPc f_parked (nI qh) (nI qc) (nI h) (nI c) f_waitingCount f_memCount a_regs a_memory a_progOp a_progA a_progB a_progC a_latency a_counters a_fqPc a_fqNext a_twoBit a_jumpDelta a_robPc a_robPredicted a_robState a_robRemaining a_robValue a_robFault a_robNext a_robSrc1 a_robVal1 a_robSrc2 a_robVal2 a_robOp a_robC a_robDest a_mapSlot a_unitBusy n st (nI i) := by
  intro d
  induction d with
  | zero =>
    intro i hi post n st hn H
    have hi : i = k := by omega
    subst hi
    obtain ⟨n, rfl⟩ : ∃ m, n = m + 1 := ⟨n - 1, by omega⟩
    have hin : vp_in (nI ((h + i) % 16)) 16 := vp_in_nI (by omega) (by omega)
    have hcl : (nI ((h + i) % 16)).toNatClampNeg = (h + i) % 16 := nI_clamp (by omega)
    have e8 : a_robSrc1 ((h + i) % 16) = rc_sl h (a_eWait1 i) := r8 i (by omega)
    have e12 : a_robOp ((h + i) % 16) = rc_op len a_progOp (a_ePc i) := r12 i (by omega)
    refine br_f (nI_ge (by omega) (by omega)) (nm_r (rc_slot hh (by omega)) (And.intro hin ?_))
    rw [hcl, e8, e12]
    exact br_t ho (And.intro hin (br_f (fun z => hw ((sl_m1 hh (hw1 i (by omega))).mp z)) H))
  | succ d ih =>
    intro i hi post n st hn H
    obtain ⟨n, rfl⟩ : ∃ m, n = m + 1 := ⟨n - 1, by omega⟩
    have hin : vp_in (nI ((h + i) % 16)) 16 := vp_in_nI (by omega) (by omega)
    have hcl : (nI ((h + i) % 16)).toNatClampNeg = (h + i) % 16 := nI_clamp (by omega)
    have e8 : a_robSrc1 ((h + i) % 16) = rc_sl h (a_eWait1 i) := r8 i (by omega)
    have e12 : a_robOp ((h + i) % 16) = rc_op len a_progOp (a_ePc i) := r12 i (by omega)
    refine br_f (nI_ge (by omega) (by omega)) (nm_r (rc_slot hh (by omega)) (And.intro hin ?_))
    rw [hcl, e8, e12]
    have g := fun st => ih (i + 1) (by omega) post n st (by omega) H
    exact br_c (fun _ => And.intro hin (br_c (fun _ => And.intro hin (And.intro hin (br_c (fun _ => nm_r (nI_1 i) (g _)) (fun _ => nm_r (nI_1 i) (g _))))) (fun _ => H))) (fun _ => nm_r (nI_1 i) (g _))
end
end
section
/-! issue of a load, both sides -/
section
variable {w rs len qh qc h c : Nat} {f_stations f_queueSize f_phase f_pc f_epc f_cause f_handling f_vector f_fetchPc f_parked f_waitingCount f_memCount : Int32} {a_regs a_memory a_progOp a_progA a_progB a_progC a_latency a_counters a_fqPc a_fqNext a_twoBit a_jumpDelta a_robPc a_robPredicted a_robState a_robRemaining a_robValue a_robFault a_robNext a_robSrc1 a_robVal1 a_robSrc2 a_robVal2 a_robOp a_robC a_robDest a_mapSlot a_unitBusy a_settings a_queuePc a_queueNext a_ePc a_ePredicted a_eState a_eRemaining a_eValue a_eFault a_eNext a_eWait1 a_eVal1 a_eWait2 a_eVal2 : Nat → Int32}
theorem y_373 {p kd : Nat} {post : SY → Prop} (hp : p < 16) (hk : kd < 7) (hs : a_settings kd = a_latency kd) (H : post (f_pc, f_epc, f_cause, f_handling, f_vector, f_phase, (nI len), f_fetchPc, f_parked, (nI qc), (nI c), a_regs, a_memory, a_progOp, a_progA, a_progB, a_progC, a_counters, a_settings, a_queuePc, a_queueNext, a_twoBit, a_jumpDelta, a_ePc, a_ePredicted, (upd a_eState p 2), (upd a_eRemaining p (a_latency kd)), a_eValue, a_eFault, a_eNext, a_eWait1, a_eVal1, a_eWait2, a_eVal2)) : wY_issueEntry_373 post (nI p) (nI kd) f_pc f_epc f_cause f_handling f_vector f_phase (nI len) f_fetchPc f_parked (nI qc) (nI c) a_regs a_memory a_progOp a_progA a_progB a_progC a_counters a_settings a_queuePc a_queueNext a_twoBit a_jumpDelta a_ePc a_ePredicted a_eState a_eRemaining a_eValue a_eFault a_eNext a_eWait1 a_eVal1 a_eWait2 a_eVal2 := by
  have hip : vp_in (nI p) 16 := vp_in_nI (by omega) (by omega)
  refine And.intro hip ?_
  rw [nI_clamp (n := p) (by omega), nI_clamp (n := kd) (by omega), hs]
  exact nm_e (And.intro (vp_in_nI (by omega) (by omega)) (And.intro hip (nm_e H)))
theorem x_213 {s kd : Nat} {post : SX → Prop} (hs : s < 16) (hk : kd < 7) (H : post ((nI rs), f_stations, f_queueSize, (nI w), f_phase, f_pc, f_epc, f_cause, f_handling, f_vector, (nI len), f_fetchPc, f_parked, (nI qh), (nI qc), (nI h), (nI c), f_waitingCount, f_memCount, a_regs, a_memory, a_progOp, a_progA, a_progB, a_progC, a_latency, a_counters, a_fqPc, a_fqNext, a_twoBit, a_jumpDelta, a_robPc, a_robPredicted, a_robState, (upd a_robRemaining s (a_latency kd)), a_robValue, a_robFault, a_robNext, a_robSrc1, a_robVal1, a_robSrc2, a_robVal2, a_robOp, a_robC, a_robDest, a_mapSlot, a_unitBusy)) : wX_execute_213 post (nI s) (nI kd) (nI rs) f_stations f_queueSize (nI w) f_phase f_pc f_epc f_cause f_handling f_vector (nI len) f_fetchPc f_parked (nI qh) (nI qc) (nI h) (nI c) f_waitingCount f_memCount a_regs a_memory a_progOp a_progA a_progB a_progC a_latency a_counters a_fqPc a_fqNext a_twoBit a_jumpDelta a_robPc a_robPredicted a_robState a_robRemaining a_robValue a_robFault a_robNext a_robSrc1 a_robVal1 a_robSrc2 a_robVal2 a_robOp a_robC a_robDest a_mapSlot a_unitBusy := by
  refine And.intro (vp_in_nI hk (by omega)) (And.intro (vp_in_nI hs (by omega)) ?_)
  rw [nI_clamp (n := s) (by omega), nI_clamp (n := kd) (by omega)]
  exact nm_e H
theorem x_112 {s : Nat} {post : Int32 → SX → Prop} (hs : s < 16) (H : post 1 ((nI rs), f_stations, f_queueSize, (nI w), f_phase, f_pc, f_epc, f_cause, f_handling, f_vector, (nI len), f_fetchPc, f_parked, (nI qh), (nI qc), (nI h), (nI c), f_waitingCount, f_memCount, a_regs, a_memory, a_progOp, a_progA, a_progB, a_progC, a_latency, a_counters, a_fqPc, a_fqNext, a_twoBit, a_jumpDelta, a_robPc, a_robPredicted, a_robState, (upd a_robRemaining s (a_latency 4)), (upd a_robValue s 0), (upd a_robFault s 3), a_robNext, a_robSrc1, a_robVal1, a_robSrc2, a_robVal2, a_robOp, a_robC, a_robDest, a_mapSlot, a_unitBusy)) : wX_tryLoad_112 post (nI s) (nI rs) f_stations f_queueSize (nI w) f_phase f_pc f_epc f_cause f_handling f_vector (nI len) f_fetchPc f_parked (nI qh) (nI qc) (nI h) (nI c) f_waitingCount f_memCount a_regs a_memory a_progOp a_progA a_progB a_progC a_latency a_counters a_fqPc a_fqNext a_twoBit a_jumpDelta a_robPc a_robPredicted a_robState a_robRemaining a_robValue a_robFault a_robNext a_robSrc1 a_robVal1 a_robSrc2 a_robVal2 a_robOp a_robC a_robDest a_mapSlot a_unitBusy := by
  have hin : vp_in (nI s) 16 := vp_in_nI hs (by omega)
  refine And.intro hin ?_
  rw [nI_clamp (by omega)]
  exact nm_e (And.intro hin (nm_e (And.intro hin (nm_e H))))
theorem y_ieO {p : Nat} {op cc x y : Int32} {post : SY → Prop} (hl : len ≤ 64) (hp : p < 16) (eo : rc_op len a_progOp (a_ePc p) = op) (ec : rc_fa len a_progC (a_ePc p) = cc) (ex : a_eVal1 p = x) (ey : a_eVal2 p = y) (h1 : ¬ op < 1) (h9 : 9 < op) (H : wY_issueEntry_98 post (nI p) (a_ePc p) op cc x y 0 f_pc f_epc f_cause f_handling f_vector f_phase (nI len) f_fetchPc f_parked (nI qc) (nI c) a_regs a_memory a_progOp a_progA a_progB a_progC a_counters a_settings a_queuePc a_queueNext a_twoBit a_jumpDelta a_ePc a_ePredicted a_eState a_eRemaining a_eValue a_eFault a_eNext a_eWait1 a_eVal1 a_eWait2 a_eVal2) : wpY_issueEntry post (f_pc, f_epc, f_cause, f_handling, f_vector, f_phase, (nI len), f_fetchPc, f_parked, (nI qc), (nI c), a_regs, a_memory, a_progOp, a_progA, a_progB, a_progC, a_counters, a_settings, a_queuePc, a_queueNext, a_twoBit, a_jumpDelta, a_ePc, a_ePredicted, a_eState, a_eRemaining, a_eValue, a_eFault, a_eNext, a_eWait1, a_eVal1, a_eWait2, a_eVal2) (nI p) := by
  have hip : vp_in (nI p) 16 := vp_in_nI (by omega) (by omega)
  have hcp : (nI p).toNatClampNeg = p := nI_clamp (by omega)
  refine And.intro hip (nm_r (e' := a_ePc p) (by rw [hcp]) (y_opAt hl (y_cAt hl (And.intro hip (nm_r (e' := x) (by rw [hcp, ex]) (And.intro hip (nm_r (e' := y) (by rw [hcp, ey]) ?_)))))))
  rw [eo, ec]
  exact br_f h1 (br_t h9 H)
theorem y_ieC {p : Nat} {op cc x y : Int32} {post : SY → Prop} (hl : len ≤ 64) (hp : p < 16) (eo : rc_op len a_progOp (a_ePc p) = op) (ec : rc_fa len a_progC (a_ePc p) = cc) (ex : a_eVal1 p = x) (ey : a_eVal2 p = y) (h1 : ¬ op < 1) (h9 : ¬ 9 < op) (H : ∀ kd, (op = 3 ∧ kd = 1 ∨ ¬ op = 3 ∧ kd = 0) → wY_issueEntry_75 post (nI p) op y kd f_pc f_epc f_cause f_handling f_vector f_phase (nI len) f_fetchPc f_parked (nI qc) (nI c) a_regs a_memory a_progOp a_progA a_progB a_progC a_counters a_settings a_queuePc a_queueNext a_twoBit a_jumpDelta a_ePc a_ePredicted a_eState a_eRemaining (upd a_eValue p (rc_cp op x y cc)) a_eFault a_eNext a_eWait1 a_eVal1 a_eWait2 a_eVal2) : wpY_issueEntry post (f_pc, f_epc, f_cause, f_handling, f_vector, f_phase, (nI len), f_fetchPc, f_parked, (nI qc), (nI c), a_regs, a_memory, a_progOp, a_progA, a_progB, a_progC, a_counters, a_settings, a_queuePc, a_queueNext, a_twoBit, a_jumpDelta, a_ePc, a_ePredicted, a_eState, a_eRemaining, a_eValue, a_eFault, a_eNext, a_eWait1, a_eVal1, a_eWait2, a_eVal2) (nI p) := by
  have hip : vp_in (nI p) 16 := vp_in_nI (by omega) (by omega)
  have hcp : (nI p).toNatClampNeg = p := nI_clamp (by omega)
  refine And.intro hip (nm_r (e' := a_ePc p) (by rw [hcp]) (y_opAt hl (y_cAt hl (And.intro hip (nm_r (e' := x) (by rw [hcp, ex]) (And.intro hip (nm_r (e' := y) (by rw [hcp, ey]) ?_)))))))
  rw [eo, ec, hcp]
  exact br_f h1 (br_f h9 (y_result (And.intro hip (nm_e (br_c (fun q => H 1 (Or.inl ⟨q, rfl⟩)) (fun q => H 0 (Or.inr ⟨q, rfl⟩)))))))
theorem j_load {p : Nat} (H : rc_F0 w rs len qh qc h c f_stations f_queueSize f_waitingCount f_memCount a_latency a_settings a_progOp a_progA a_progB a_progC a_fqPc a_fqNext a_queuePc a_queueNext a_robPc a_robPredicted a_robState a_robRemaining a_robValue a_robFault a_robNext a_robSrc1 a_robVal1 a_robSrc2 a_robVal2 a_robOp a_robC a_robDest a_ePc a_ePredicted a_eState a_eRemaining a_eValue a_eFault a_eNext a_eWait1 a_eVal1 a_eWait2 a_eVal2 a_mapSlot a_unitBusy) (hp : p < c) (ho : rc_op len a_progOp (a_ePc p) = 10) :
    ((∀ post : Int32 → SX → Prop, post 0 ((nI rs), f_stations, f_queueSize, (nI w), f_phase, f_pc, f_epc, f_cause, f_handling, f_vector, (nI len), f_fetchPc, f_parked, (nI qh), (nI qc), (nI h), (nI c), f_waitingCount, f_memCount, a_regs, a_memory, a_progOp, a_progA, a_progB, a_progC, a_latency, a_counters, a_fqPc, a_fqNext, a_twoBit, a_jumpDelta, a_robPc, a_robPredicted, a_robState, a_robRemaining, a_robValue, a_robFault, a_robNext, a_robSrc1, a_robVal1, a_robSrc2, a_robVal2, a_robOp, a_robC, a_robDest, a_mapSlot, a_unitBusy) → wpX_tryLoad post ((nI rs), f_stations, f_queueSize, (nI w), f_phase, f_pc, f_epc, f_cause, f_handling, f_vector, (nI len), f_fetchPc, f_parked, (nI qh), (nI qc), (nI h), (nI c), f_waitingCount, f_memCount, a_regs, a_memory, a_progOp, a_progA, a_progB, a_progC, a_latency, a_counters, a_fqPc, a_fqNext, a_twoBit, a_jumpDelta, a_robPc, a_robPredicted, a_robState, a_robRemaining, a_robValue, a_robFault, a_robNext, a_robSrc1, a_robVal1, a_robSrc2, a_robVal2, a_robOp, a_robC, a_robDest, a_mapSlot, a_unitBusy) (nI p)) ∧ (∀ post : Int32 → Prop, post 0 → wpY_loadAllowed post (f_pc, f_epc, f_cause, f_handling, f_vector, f_phase, (nI len), f_fetchPc, f_parked, (nI qc), (nI c), a_regs, a_memory, a_progOp, a_progA, a_progB, a_progC, a_counters, a_settings, a_queuePc, a_queueNext, a_twoBit, a_jumpDelta, a_ePc, a_ePredicted, a_eState, a_eRemaining, a_eValue, a_eFault, a_eNext, a_eWait1, a_eVal1, a_eWait2, a_eVal2) (nI p))) ∨
    (∃ Rm Vl Ft rm vl ft ct, rc_RA 16 h c Rm rm ∧ rc_RA 16 h c Vl vl ∧ rc_RA 16 h c Ft ft ∧ (∀ post : Int32 → SX → Prop, post 1 ((nI rs), f_stations, f_queueSize, (nI w), f_phase, f_pc, f_epc, f_cause, f_handling, f_vector, (nI len), f_fetchPc, f_parked, (nI qh), (nI qc), (nI h), (nI c), f_waitingCount, f_memCount, a_regs, a_memory, a_progOp, a_progA, a_progB, a_progC, a_latency, ct, a_fqPc, a_fqNext, a_twoBit, a_jumpDelta, a_robPc, a_robPredicted, a_robState, Rm, Vl, Ft, a_robNext, a_robSrc1, a_robVal1, a_robSrc2, a_robVal2, a_robOp, a_robC, a_robDest, a_mapSlot, a_unitBusy) → wpX_tryLoad post ((nI rs), f_stations, f_queueSize, (nI w), f_phase, f_pc, f_epc, f_cause, f_handling, f_vector, (nI len), f_fetchPc, f_parked, (nI qh), (nI qc), (nI h), (nI c), f_waitingCount, f_memCount, a_regs, a_memory, a_progOp, a_progA, a_progB, a_progC, a_latency, a_counters, a_fqPc, a_fqNext, a_twoBit, a_jumpDelta, a_robPc, a_robPredicted, a_robState, a_robRemaining, a_robValue, a_robFault, a_robNext, a_robSrc1, a_robVal1, a_robSrc2, a_robVal2, a_robOp, a_robC, a_robDest, a_mapSlot, a_unitBusy) (nI p)) ∧ (∀ post : Int32 → Prop, post 1 → wpY_loadAllowed post (f_pc, f_epc, f_cause, f_handling, f_vector, f_phase, (nI len), f_fetchPc, f_parked, (nI qc), (nI c), a_regs, a_memory, a_progOp, a_progA, a_progB, a_progC, a_counters, a_settings, a_queuePc, a_queueNext, a_twoBit, a_jumpDelta, a_ePc, a_ePredicted, a_eState, a_eRemaining, a_eValue, a_eFault, a_eNext, a_eWait1, a_eVal1, a_eWait2, a_eVal2) (nI p)) ∧ (∀ post : SY → Prop, post (f_pc, f_epc, f_cause, f_handling, f_vector, f_phase, (nI len), f_fetchPc, f_parked, (nI qc), (nI c), a_regs, a_memory, a_progOp, a_progA, a_progB, a_progC, ct, a_settings, a_queuePc, a_queueNext, a_twoBit, a_jumpDelta, a_ePc, a_ePredicted, (upd a_eState p 2), rm, vl, ft, a_eNext, a_eWait1, a_eVal1, a_eWait2, a_eVal2) → wpY_issueEntry post (f_pc, f_epc, f_cause, f_handling, f_vector, f_phase, (nI len), f_fetchPc, f_parked, (nI qc), (nI c), a_regs, a_memory, a_progOp, a_progA, a_progB, a_progC, a_counters, a_settings, a_queuePc, a_queueNext, a_twoBit, a_jumpDelta, a_ePc, a_ePredicted, a_eState, a_eRemaining, a_eValue, a_eFault, a_eNext, a_eWait1, a_eVal1, a_eWait2, a_eVal2) (nI p))) := by
  obtain ⟨⟨_, _, _, _, _, _, _, hset⟩, hP, hQ, ⟨hh, hc, r1, r2, r3, r4, r5, r6, r7, r8, r9, r10, r11, r12, r13, r14⟩, hI, hw, hm, hM, hU⟩ := H
  have hl := hP.1
  have hw1 : ∀ i, i < c → rc_w16 (a_eWait1 i) := fun i hi => wt_16 (by omega) (hI i hi).1
  have hw2 : ∀ i, i < c → rc_w16 (a_eWait2 i) := fun i hi => wt_16 (by omega) (hI i hi).2.1
  have hin : vp_in (nI ((h + p) % 16)) 16 := vp_in_nI (by omega) (by omega)
  have hcl : (nI ((h + p) % 16)).toNatClampNeg = (h + p) % 16 := nI_clamp (by omega)
  have e9 : a_robVal1 ((h + p) % 16) = a_eVal1 p := r9 p hp
  have e13 : a_robC ((h + p) % 16) = rc_fa len a_progC (a_ePc p) := r13 p hp
  have hip : vp_in (nI p) 16 := vp_in_nI (by omega) (by omega)
  have hcp : (nI p).toNatClampNeg = p := nI_clamp (by omega)
  have xP : ∀ (post : Int32 → SX → Prop) (n : Nat), wX_tryLoad_30 post (nI p) (nI ((h + p) % 16)) (a_eVal1 p + rc_fa len a_progC (a_ePc p)) (nI rs) f_stations f_queueSize (nI w) f_phase f_pc f_epc f_cause f_handling f_vector (nI len) f_fetchPc f_parked (nI qh) (nI qc) (nI h) (nI c) f_waitingCount f_memCount a_regs a_memory a_progOp a_progA a_progB a_progC a_latency a_counters a_fqPc a_fqNext a_twoBit a_jumpDelta a_robPc a_robPredicted a_robState a_robRemaining a_robValue a_robFault a_robNext a_robSrc1 a_robVal1 a_robSrc2 a_robVal2 a_robOp a_robC a_robDest a_mapSlot a_unitBusy n (-1) (nI 0) → wpX_tryLoad post ((nI rs), f_stations, f_queueSize, (nI w), f_phase, f_pc, f_epc, f_cause, f_handling, f_vector, (nI len), f_fetchPc, f_parked, (nI qh), (nI qc), (nI h), (nI c), f_waitingCount, f_memCount, a_regs, a_memory, a_progOp, a_progA, a_progB, a_progC, a_latency, a_counters, a_fqPc, a_fqNext, a_twoBit, a_jumpDelta, a_robPc, a_robPredicted, a_robState, a_robRemaining, a_robValue, a_robFault, a_robNext, a_robSrc1, a_robVal1, a_robSrc2, a_robVal2, a_robOp, a_robC, a_robDest, a_mapSlot, a_unitBusy) (nI p) := by
    intro post n g
    exact nm_r (rc_slot hh (by omega)) (And.intro hin (And.intro hin (nm_r (e' := a_eVal1 p + rc_fa len a_progC (a_ePc p)) (by rw [hcl, e9, e13]) ⟨n, g⟩)))
  generalize had : a_eVal1 p + rc_fa len a_progC (a_ePc p) = ad at xP
  by_cases hb : rc_bk len a_progOp a_ePc a_eWait1 p
  · obtain ⟨k, hk, hk1, hk2⟩ := hb
    exact Or.inl ⟨fun post G => xP post (k + 1) (x_tl30b hh hc hp hk hw1 hk1 hk2 r8 r12 k 0 (by omega) post (k + 1) (-1) (by omega) G), fun post G => ⟨k + 1, y_la2b hl (by omega) hk hk1 hk2 k 0 (by omega) post (k + 1) (by omega) G⟩⟩
  · have xQ : ∀ (post : Int32 → SX → Prop), (∀ m, wX_tryLoad_30 post (nI p) (nI ((h + p) % 16)) ad (nI rs) f_stations f_queueSize (nI w) f_phase f_pc f_epc f_cause f_handling f_vector (nI len) f_fetchPc f_parked (nI qh) (nI qc) (nI h) (nI c) f_waitingCount f_memCount a_regs a_memory a_progOp a_progA a_progB a_progC a_latency a_counters a_fqPc a_fqNext a_twoBit a_jumpDelta a_robPc a_robPredicted a_robState a_robRemaining a_robValue a_robFault a_robNext a_robSrc1 a_robVal1 a_robSrc2 a_robVal2 a_robOp a_robC a_robDest a_mapSlot a_unitBusy (m + 1) (rc_sl h (rc_yw (rc_mt len a_progOp a_progC a_ePc a_eWait1 a_eVal1 ad) 1 p)) (nI p)) → wpX_tryLoad post ((nI rs), f_stations, f_queueSize, (nI w), f_phase, f_pc, f_epc, f_cause, f_handling, f_vector, (nI len), f_fetchPc, f_parked, (nI qh), (nI qc), (nI h), (nI c), f_waitingCount, f_memCount, a_regs, a_memory, a_progOp, a_progA, a_progB, a_progC, a_latency, a_counters, a_fqPc, a_fqNext, a_twoBit, a_jumpDelta, a_robPc, a_robPredicted, a_robState, a_robRemaining, a_robValue, a_robFault, a_robNext, a_robSrc1, a_robVal1, a_robSrc2, a_robVal2, a_robOp, a_robC, a_robDest, a_mapSlot, a_unitBusy) (nI p) := by
      intro post g
      have g2 := x_tl30n hh hc hp hw1 hb r8 r9 r12 r13 p 0 (by omega) post (p + 1) (by omega) g
      rw [rc_yw, sl_m] at g2
      exact xP post (p + 1) g2
    have yQ : ∀ (post : Int32 → Prop), wY_loadAllowed_48 post (nI p) f_pc f_epc f_cause f_handling f_vector f_phase (nI len) f_fetchPc f_parked (nI qc) (nI c) a_regs a_memory a_progOp a_progA a_progB a_progC a_counters a_settings a_queuePc a_queueNext a_twoBit a_jumpDelta a_ePc a_ePredicted a_eState a_eRemaining a_eValue a_eFault a_eNext a_eWait1 a_eVal1 a_eWait2 a_eVal2 → wpY_loadAllowed post (f_pc, f_epc, f_cause, f_handling, f_vector, f_phase, (nI len), f_fetchPc, f_parked, (nI qc), (nI c), a_regs, a_memory, a_progOp, a_progA, a_progB, a_progC, a_counters, a_settings, a_queuePc, a_queueNext, a_twoBit, a_jumpDelta, a_ePc, a_ePredicted, a_eState, a_eRemaining, a_eValue, a_eFault, a_eNext, a_eWait1, a_eVal1, a_eWait2, a_eVal2) (nI p) := fun post g => ⟨p + 1, y_la2n hl (by omega) hb p 0 (by omega) post (p + 1) (by omega) g⟩
    have h10a : ¬ rc_op len a_progOp (a_ePc p) < 1 := by rw [ho]; decide
    have h10b : 9 < rc_op len a_progOp (a_ePc p) := by rw [ho]; decide
    have hle : nI p ≤ nI p := nI_le (Nat.le_refl _) (by omega)
    have y98 : ∀ (post : SY → Prop), (wpY_goodAddress (fun r => (r = 0 → (vp_in (nI p) 16 ∧ ∀ v : Nat → Int32, v = upd a_eValue p 0 → (vp_in (nI p) 16 ∧ ∀ f : Nat → Int32, f = upd a_eFault p 3 → wY_issueEntry_373 post (nI p) 4 f_pc f_epc f_cause f_handling f_vector f_phase (nI len) f_fetchPc f_parked (nI qc) (nI c) a_regs a_memory a_progOp a_progA a_progB a_progC a_counters a_settings a_queuePc a_queueNext a_twoBit a_jumpDelta a_ePc a_ePredicted a_eState a_eRemaining v f a_eNext a_eWait1 a_eVal1 a_eWait2 a_eVal2))) ∧ (¬ r = 0 → wpY_matchingStore (fun r => (r = -1 → wpY_mem (fun r => vp_in (nI p) 16 ∧ ∀ v : Nat → Int32, v = upd a_eValue p r → wY_issueEntry_373 post (nI p) 4 f_pc f_epc f_cause f_handling f_vector f_phase (nI len) f_fetchPc f_parked (nI qc) (nI c) a_regs a_memory a_progOp a_progA a_progB a_progC a_counters a_settings a_queuePc a_queueNext a_twoBit a_jumpDelta a_ePc a_ePredicted a_eState a_eRemaining v a_eFault a_eNext a_eWait1 a_eVal1 a_eWait2 a_eVal2) (f_pc, f_epc, f_cause, f_handling, f_vector, f_phase, (nI len), f_fetchPc, f_parked, (nI qc), (nI c), a_regs, a_memory, a_progOp, a_progA, a_progB, a_progC, a_counters, a_settings, a_queuePc, a_queueNext, a_twoBit, a_jumpDelta, a_ePc, a_ePredicted, a_eState, a_eRemaining, a_eValue, a_eFault, a_eNext, a_eWait1, a_eVal1, a_eWait2, a_eVal2) ad) ∧ (¬ r = -1 → vp_in r 16 ∧ (vp_in (nI p) 16 ∧ ∀ v : Nat → Int32, v = upd a_eValue p (a_eVal2 r.toNatClampNeg) → ∀ ct : Nat → Int32, ct = upd a_counters 5 (a_counters 5 + 1) → wY_issueEntry_373 post (nI p) 6 f_pc f_epc f_cause f_handling f_vector f_phase (nI len) f_fetchPc f_parked (nI qc) (nI c) a_regs a_memory a_progOp a_progA a_progB a_progC ct a_settings a_queuePc a_queueNext a_twoBit a_jumpDelta a_ePc a_ePredicted a_eState a_eRemaining v a_eFault a_eNext a_eWait1 a_eVal1 a_eWait2 a_eVal2))) (f_pc, f_epc, f_cause, f_handling, f_vector, f_phase, (nI len), f_fetchPc, f_parked, (nI qc), (nI c), a_regs, a_memory, a_progOp, a_progA, a_progB, a_progC, a_counters, a_settings, a_queuePc, a_queueNext, a_twoBit, a_jumpDelta, a_ePc, a_ePredicted, a_eState, a_eRemaining, a_eValue, a_eFault, a_eNext, a_eWait1, a_eVal1, a_eWait2, a_eVal2) (nI p) ad)) (f_pc, f_epc, f_cause, f_handling, f_vector, f_phase, (nI len), f_fetchPc, f_parked, (nI qc), (nI c), a_regs, a_memory, a_progOp, a_progA, a_progB, a_progC, a_counters, a_settings, a_queuePc, a_queueNext, a_twoBit, a_jumpDelta, a_ePc, a_ePredicted, a_eState, a_eRemaining, a_eValue, a_eFault, a_eNext, a_eWait1, a_eVal1, a_eWait2, a_eVal2) ad) → wpY_issueEntry post (f_pc, f_epc, f_cause, f_handling, f_vector, f_phase, (nI len), f_fetchPc, f_parked, (nI qc), (nI c), a_regs, a_memory, a_progOp, a_progA, a_progB, a_progC, a_counters, a_settings, a_queuePc, a_queueNext, a_twoBit, a_jumpDelta, a_ePc, a_ePredicted, a_eState, a_eRemaining, a_eValue, a_eFault, a_eNext, a_eWait1, a_eVal1, a_eWait2, a_eVal2) (nI p) := by
      intro post g
      refine y_ieO hl (by omega) ho rfl rfl rfl (by decide) (by decide) ?_
      refine br_f (by decide) (br_f (by decide) (br_f (by decide) (br_f (by decide) (br_t rfl (nm_r (e' := ad) had ?_)))))
      rw [hcp]
      exact g
    rcases ga_c ad with ⟨eg, hx⟩ | ⟨m, hm, hx, eg⟩
    · refine Or.inr ⟨upd a_robRemaining ((h + p) % 16) (a_latency 4), upd a_robValue ((h + p) % 16) 0, upd a_robFault ((h + p) % 16) 3, upd a_eRemaining p (a_latency 4), upd a_eValue p 0, upd a_eFault p 3, a_counters, ra_u rc_16 hc hp r4, ra_u rc_16 hc hp r5, ra_u rc_16 hc hp r6, fun post G => xQ post (fun m => br_t hle ?_), fun post G => yQ post (And.intro hip ?_), fun post G => y98 post (y_goodAddress ?_)⟩
      · have g2 : wX_tryLoad_112 post (nI ((h + p) % 16)) (nI rs) f_stations f_queueSize (nI w) f_phase f_pc f_epc f_cause f_handling f_vector (nI len) f_fetchPc f_parked (nI qh) (nI qc) (nI h) (nI c) f_waitingCount f_memCount a_regs a_memory a_progOp a_progA a_progB a_progC a_latency a_counters a_fqPc a_fqNext a_twoBit a_jumpDelta a_robPc a_robPredicted a_robState a_robRemaining a_robValue a_robFault a_robNext a_robSrc1 a_robVal1 a_robSrc2 a_robVal2 a_robOp a_robC a_robDest a_mapSlot a_unitBusy := x_112 (by omega) G
        rcases hx with q | ⟨q0, q1⟩
        · exact br_t q g2
        · exact br_f q0 (br_f q1 g2)
      · rw [hcp]
        refine y_cAt hl (And.intro hip (nm_r (e' := ad) had (y_goodAddress ?_)))
        rw [eg]
        exact br_t rfl G
      · rw [eg]
        exact br_t rfl (And.intro hip (nm_e (And.intro hip (nm_e (y_373 (kd := 4) (by omega) (by omega) (hset 4 (by omega)) G)))))
    · have q0 : ¬ ad < 0 := by rw [hx]; exact nI_pos (by omega)
      have q1 : ad ≤ 63 := by rw [hx]; exact nI_le (b := 63) hm (by omega)
      rcases yw_w (d := rc_mt len a_progOp a_progC a_ePc a_eWait1 a_eVal1 ad) (r := 1) p with es | ⟨t, ht, es, _⟩
      · refine Or.inr ⟨upd a_robRemaining ((h + p) % 16) (a_latency 4), upd a_robValue ((h + p) % 16) (a_memory m), a_robFault, upd a_eRemaining p (a_latency 4), upd a_eValue p (a_memory m), a_eFault, a_counters, ra_u rc_16 hc hp r4, ra_u rc_16 hc hp r5, r6, fun post G => xQ post (fun m => br_t hle (br_f q0 (br_t q1 ?_))), fun post G => yQ post (And.intro hip ?_), fun post G => y98 post (y_goodAddress ?_)⟩
        · rw [es, sl_m]
          refine br_t rfl (And.intro (by rw [hx]; exact in_64 hm) (And.intro hin ?_))
          rw [hcl, hx, nI_clamp (by omega)]
          exact nm_e (And.intro hin (nm_e G))
        · rw [hcp]
          refine y_cAt hl (And.intro hip (nm_r (e' := ad) had (y_goodAddress ?_)))
          rw [eg]
          refine br_f (by decide) (y_matchingStore hl (by omega) ?_)
          rw [es]
          exact br_t rfl G
        · rw [eg]
          refine br_f (by decide) (y_matchingStore hl (by omega) ?_)
          rw [es]
          refine br_t rfl (y_mem ?_)
          rw [hx, mm_n hm]
          exact And.intro hip (nm_e (y_373 (kd := 4) (by omega) (by omega) (hset 4 (by omega)) G))
      · have hit : vp_in (nI t) 16 := vp_in_nI (by omega) (by omega)
        have hct : (nI t).toNatClampNeg = t := nI_clamp (by omega)
        have hsl : vp_in (nI ((h + t) % 16)) 16 := vp_in_nI (by omega) (by omega)
        have hsc : (nI ((h + t) % 16)).toNatClampNeg = (h + t) % 16 := nI_clamp (by omega)
        have e10 : a_robSrc2 ((h + t) % 16) = rc_sl h (a_eWait2 t) := r10 t (by omega)
        have e11 : a_robVal2 ((h + t) % 16) = a_eVal2 t := r11 t (by omega)
        by_cases q2 : a_eWait2 t = -1
        · refine Or.inr ⟨upd a_robRemaining ((h + p) % 16) (a_latency 6), upd a_robValue ((h + p) % 16) (a_eVal2 t), a_robFault, upd a_eRemaining p (a_latency 6), upd a_eValue p (a_eVal2 t), a_eFault, upd a_counters 5 (a_counters 5 + 1), ra_u rc_16 hc hp r4, ra_u rc_16 hc hp r5, r6, fun post G => xQ post (fun m => br_t hle (br_f q0 (br_t q1 ?_))), fun post G => yQ post (And.intro hip ?_), fun post G => y98 post (y_goodAddress ?_)⟩
          · rw [es, sl_n hh (by omega)]
            refine br_f (rc_nm1 (by omega)) (And.intro hsl ?_)
            rw [hsc, e10, e11, hcl]
            exact br_t ((sl_m1 hh (hw2 t (by omega))).mpr q2) (And.intro hsl (And.intro hin (nm_e (And.intro hin (nm_e (nm_e G))))))
          · rw [hcp]
            refine y_cAt hl (And.intro hip (nm_r (e' := ad) had (y_goodAddress ?_)))
            rw [eg]
            refine br_f (by decide) (y_matchingStore hl (by omega) ?_)
            rw [es]
            refine br_f (rc_nm1 (by omega)) (And.intro hit ?_)
            rw [hct]
            exact br_t q2 G
          · rw [eg]
            refine br_f (by decide) (y_matchingStore hl (by omega) ?_)
            rw [es]
            refine br_f (rc_nm1 (by omega)) (And.intro hit ?_)
            rw [hct]
            exact And.intro hip (nm_e (nm_e (y_373 (kd := 6) (by omega) (by omega) (hset 6 (by omega)) G)))
        · refine Or.inl ⟨fun post G => xQ post (fun m => br_t hle (br_f q0 (br_t q1 ?_))), fun post G => yQ post (And.intro hip ?_)⟩
          · rw [es, sl_n hh (by omega)]
            refine br_f (rc_nm1 (by omega)) (And.intro hsl ?_)
            rw [hsc, e10]
            exact br_f (fun z => q2 ((sl_m1 hh (hw2 t (by omega))).mp z)) G
          · rw [hcp]
            refine y_cAt hl (And.intro hip (nm_r (e' := ad) had (y_goodAddress ?_)))
            rw [eg]
            refine br_f (by decide) (y_matchingStore hl (by omega) ?_)
            rw [es]
            refine br_f (rc_nm1 (by omega)) (And.intro hit ?_)
            rw [hct]
            exact br_f q2 G
end
end
section
/-! issue of anything but a load, both sides -/
section
variable {w rs len qh qc h c : Nat} {f_stations f_queueSize f_phase f_pc f_epc f_cause f_handling f_vector f_fetchPc f_parked f_waitingCount f_memCount : Int32} {a_regs a_memory a_progOp a_progA a_progB a_progC a_latency a_counters a_fqPc a_fqNext a_twoBit a_jumpDelta a_robPc a_robPredicted a_robState a_robRemaining a_robValue a_robFault a_robNext a_robSrc1 a_robVal1 a_robSrc2 a_robVal2 a_robOp a_robC a_robDest a_mapSlot a_unitBusy a_settings a_queuePc a_queueNext a_ePc a_ePredicted a_eState a_eRemaining a_eValue a_eFault a_eNext a_eWait1 a_eVal1 a_eWait2 a_eVal2 : Nat → Int32}
/-- X's execute up to its branches -/
theorem x_exP {s : Nat} {op x y cc : Int32} {post : SX → Prop} (hs : s < 16) (eo : a_robOp s = op) (ex : a_robVal1 s = x) (ey : a_robVal2 s = y) (ec : a_robC s = cc)
    (h11 : op = 11 → ∀ V, V = upd a_robValue s y → wpX_goodAddress (fun r => (r = 0 → vp_in (nI s) 16 ∧ ∀ F, F = upd a_robFault s 3 → wX_execute_213 post (nI s) 5 (nI rs) f_stations f_queueSize (nI w) f_phase f_pc f_epc f_cause f_handling f_vector (nI len) f_fetchPc f_parked (nI qh) (nI qc) (nI h) (nI c) f_waitingCount f_memCount a_regs a_memory a_progOp a_progA a_progB a_progC a_latency a_counters a_fqPc a_fqNext a_twoBit a_jumpDelta a_robPc a_robPredicted a_robState a_robRemaining V F a_robNext a_robSrc1 a_robVal1 a_robSrc2 a_robVal2 a_robOp a_robC a_robDest a_mapSlot a_unitBusy) ∧ (¬ r = 0 → wX_execute_213 post (nI s) 5 (nI rs) f_stations f_queueSize (nI w) f_phase f_pc f_epc f_cause f_handling f_vector (nI len) f_fetchPc f_parked (nI qh) (nI qc) (nI h) (nI c) f_waitingCount f_memCount a_regs a_memory a_progOp a_progA a_progB a_progC a_latency a_counters a_fqPc a_fqNext a_twoBit a_jumpDelta a_robPc a_robPredicted a_robState a_robRemaining V a_robFault a_robNext a_robSrc1 a_robVal1 a_robSrc2 a_robVal2 a_robOp a_robC a_robDest a_mapSlot a_unitBusy)) ((nI rs), f_stations, f_queueSize, (nI w), f_phase, f_pc, f_epc, f_cause, f_handling, f_vector, (nI len), f_fetchPc, f_parked, (nI qh), (nI qc), (nI h), (nI c), f_waitingCount, f_memCount, a_regs, a_memory, a_progOp, a_progA, a_progB, a_progC, a_latency, a_counters, a_fqPc, a_fqNext, a_twoBit, a_jumpDelta, a_robPc, a_robPredicted, a_robState, a_robRemaining, V, a_robFault, a_robNext, a_robSrc1, a_robVal1, a_robSrc2, a_robVal2, a_robOp, a_robC, a_robDest, a_mapSlot, a_unitBusy) (x + cc))
    (h14 : op = 14 → ∀ V, V = upd a_robValue s (a_robPc s + 1) → ∀ N, N = upd a_robNext s (x + cc) → wX_execute_213 post (nI s) (rc_un op) (nI rs) f_stations f_queueSize (nI w) f_phase f_pc f_epc f_cause f_handling f_vector (nI len) f_fetchPc f_parked (nI qh) (nI qc) (nI h) (nI c) f_waitingCount f_memCount a_regs a_memory a_progOp a_progA a_progB a_progC a_latency a_counters a_fqPc a_fqNext a_twoBit a_jumpDelta a_robPc a_robPredicted a_robState a_robRemaining V a_robFault N a_robSrc1 a_robVal1 a_robSrc2 a_robVal2 a_robOp a_robC a_robDest a_mapSlot a_unitBusy)
    (h12 : op = 12 ∨ op = 13 → wX_execute_120 post (nI s) op x y cc (rc_un op) (nI rs) f_stations f_queueSize (nI w) f_phase f_pc f_epc f_cause f_handling f_vector (nI len) f_fetchPc f_parked (nI qh) (nI qc) (nI h) (nI c) f_waitingCount f_memCount a_regs a_memory a_progOp a_progA a_progB a_progC a_latency a_counters a_fqPc a_fqNext a_twoBit a_jumpDelta a_robPc a_robPredicted a_robState a_robRemaining a_robValue a_robFault a_robNext a_robSrc1 a_robVal1 a_robSrc2 a_robVal2 a_robOp a_robC a_robDest a_mapSlot a_unitBusy)
    (hC : ¬ op = 11 → ¬ op = 14 → ¬ op = 12 → ¬ op = 13 → ∀ V, V = upd a_robValue s (rc_cp op x y cc) → (op = 4 → (y = 0 → vp_in (nI s) 16 ∧ ∀ F, F = upd a_robFault s 2 → wX_execute_213 post (nI s) (rc_un op) (nI rs) f_stations f_queueSize (nI w) f_phase f_pc f_epc f_cause f_handling f_vector (nI len) f_fetchPc f_parked (nI qh) (nI qc) (nI h) (nI c) f_waitingCount f_memCount a_regs a_memory a_progOp a_progA a_progB a_progC a_latency a_counters a_fqPc a_fqNext a_twoBit a_jumpDelta a_robPc a_robPredicted a_robState a_robRemaining V F a_robNext a_robSrc1 a_robVal1 a_robSrc2 a_robVal2 a_robOp a_robC a_robDest a_mapSlot a_unitBusy) ∧ (¬ y = 0 → wX_execute_213 post (nI s) (rc_un op) (nI rs) f_stations f_queueSize (nI w) f_phase f_pc f_epc f_cause f_handling f_vector (nI len) f_fetchPc f_parked (nI qh) (nI qc) (nI h) (nI c) f_waitingCount f_memCount a_regs a_memory a_progOp a_progA a_progB a_progC a_latency a_counters a_fqPc a_fqNext a_twoBit a_jumpDelta a_robPc a_robPredicted a_robState a_robRemaining V a_robFault a_robNext a_robSrc1 a_robVal1 a_robSrc2 a_robVal2 a_robOp a_robC a_robDest a_mapSlot a_unitBusy)) ∧ (¬ op = 4 → wX_execute_213 post (nI s) (rc_un op) (nI rs) f_stations f_queueSize (nI w) f_phase f_pc f_epc f_cause f_handling f_vector (nI len) f_fetchPc f_parked (nI qh) (nI qc) (nI h) (nI c) f_waitingCount f_memCount a_regs a_memory a_progOp a_progA a_progB a_progC a_latency a_counters a_fqPc a_fqNext a_twoBit a_jumpDelta a_robPc a_robPredicted a_robState a_robRemaining V a_robFault a_robNext a_robSrc1 a_robVal1 a_robSrc2 a_robVal2 a_robOp a_robC a_robDest a_mapSlot a_unitBusy)) : wpX_execute post ((nI rs), f_stations, f_queueSize, (nI w), f_phase, f_pc, f_epc, f_cause, f_handling, f_vector, (nI len), f_fetchPc, f_parked, (nI qh), (nI qc), (nI h), (nI c), f_waitingCount, f_memCount, a_regs, a_memory, a_progOp, a_progA, a_progB, a_progC, a_latency, a_counters, a_fqPc, a_fqNext, a_twoBit, a_jumpDelta, a_robPc, a_robPredicted, a_robState, a_robRemaining, a_robValue, a_robFault, a_robNext, a_robSrc1, a_robVal1, a_robSrc2, a_robVal2, a_robOp, a_robC, a_robDest, a_mapSlot, a_unitBusy) (nI s) := by
  have hin : vp_in (nI s) 16 := vp_in_nI hs (by omega)
  have hcl : (nI s).toNatClampNeg = s := nI_clamp (by omega)
  refine And.intro hin (nm_r (e' := op) (by rw [hcl, eo]) (And.intro hin (nm_r (e' := x) (by rw [hcl, ex]) (And.intro hin (nm_r (e' := y) (by rw [hcl, ey]) (And.intro hin (nm_r (e' := cc) (by rw [hcl, ec]) (x_unitOf ?_))))))))
  rw [hcl]
  refine br_c (fun q => And.intro hin (h11 q)) (fun q11 => br_c (fun q => And.intro hin (And.intro hin (fun V eV => And.intro hin (h14 q V eV)))) (fun q14 => br_c (fun q => h12 (Or.inl q)) (fun q12 => br_c (fun q => h12 (Or.inr q)) (fun q13 => x_compute (And.intro hin (hC q11 q14 q12 q13))))))
theorem j_ex11 {p : Nat} (hh : h < 16) (hc : c ≤ 16) (hp : p < c) (hl : len ≤ 64) (hset : ∀ i, i < 7 → a_settings i = a_latency i) (ho : rc_op len a_progOp (a_ePc p) = 11) (r4 : rc_RA 16 h c a_robRemaining a_eRemaining) (r5 : rc_RA 16 h c a_robValue a_eValue) (r6 : rc_RA 16 h c a_robFault a_eFault) (r7 : rc_RA 16 h c a_robNext a_eNext) (e12 : a_robOp ((h + p) % 16) = rc_op len a_progOp (a_ePc p)) (e9 : a_robVal1 ((h + p) % 16) = a_eVal1 p) (e11 : a_robVal2 ((h + p) % 16) = a_eVal2 p) (e13 : a_robC ((h + p) % 16) = rc_fa len a_progC (a_ePc p)) :
    ∃ Rm Vl Ft Nx rm vl ft nx, rc_RA 16 h c Rm rm ∧ rc_RA 16 h c Vl vl ∧ rc_RA 16 h c Ft ft ∧ rc_RA 16 h c Nx nx ∧ (∀ post : SX → Prop, post ((nI rs), f_stations, f_queueSize, (nI w), f_phase, f_pc, f_epc, f_cause, f_handling, f_vector, (nI len), f_fetchPc, f_parked, (nI qh), (nI qc), (nI h), (nI c), f_waitingCount, f_memCount, a_regs, a_memory, a_progOp, a_progA, a_progB, a_progC, a_latency, a_counters, a_fqPc, a_fqNext, a_twoBit, a_jumpDelta, a_robPc, a_robPredicted, a_robState, Rm, Vl, Ft, Nx, a_robSrc1, a_robVal1, a_robSrc2, a_robVal2, a_robOp, a_robC, a_robDest, a_mapSlot, a_unitBusy) → wpX_execute post ((nI rs), f_stations, f_queueSize, (nI w), f_phase, f_pc, f_epc, f_cause, f_handling, f_vector, (nI len), f_fetchPc, f_parked, (nI qh), (nI qc), (nI h), (nI c), f_waitingCount, f_memCount, a_regs, a_memory, a_progOp, a_progA, a_progB, a_progC, a_latency, a_counters, a_fqPc, a_fqNext, a_twoBit, a_jumpDelta, a_robPc, a_robPredicted, a_robState, a_robRemaining, a_robValue, a_robFault, a_robNext, a_robSrc1, a_robVal1, a_robSrc2, a_robVal2, a_robOp, a_robC, a_robDest, a_mapSlot, a_unitBusy) (nI ((h + p) % 16))) ∧ (∀ post : SY → Prop, post (f_pc, f_epc, f_cause, f_handling, f_vector, f_phase, (nI len), f_fetchPc, f_parked, (nI qc), (nI c), a_regs, a_memory, a_progOp, a_progA, a_progB, a_progC, a_counters, a_settings, a_queuePc, a_queueNext, a_twoBit, a_jumpDelta, a_ePc, a_ePredicted, (upd a_eState p 2), rm, vl, ft, nx, a_eWait1, a_eVal1, a_eWait2, a_eVal2) → wpY_issueEntry post (f_pc, f_epc, f_cause, f_handling, f_vector, f_phase, (nI len), f_fetchPc, f_parked, (nI qc), (nI c), a_regs, a_memory, a_progOp, a_progA, a_progB, a_progC, a_counters, a_settings, a_queuePc, a_queueNext, a_twoBit, a_jumpDelta, a_ePc, a_ePredicted, a_eState, a_eRemaining, a_eValue, a_eFault, a_eNext, a_eWait1, a_eVal1, a_eWait2, a_eVal2) (nI p)) := by
  have hin : vp_in (nI ((h + p) % 16)) 16 := vp_in_nI (by omega) (by omega)
  have hip : vp_in (nI p) 16 := vp_in_nI (by omega) (by omega)
  have hcp : (nI p).toNatClampNeg = p := nI_clamp (by omega)
  rcases ga_c (a_eVal1 p + rc_fa len a_progC (a_ePc p)) with ⟨eg, hx⟩ | ⟨m, hm, hx, eg⟩
  · refine ⟨_, _, _, _, _, _, _, _, ra_u (v := a_latency 5) rc_16 hc hp r4, ra_u (v := a_eVal2 p) rc_16 hc hp r5, ra_u (v := 3) rc_16 hc hp r6, r7, fun post G => ?_, fun post G => ?_⟩
    · refine x_exP (by omega) (e12.trans ho) e9 e11 e13 (fun _ => nm_e (x_goodAddress ?_)) (fun q => absurd q (by decide)) (fun q => absurd q (by decide)) (fun q => absurd rfl q)
      rw [eg]
      exact br_t rfl (And.intro hin (nm_e (x_213 (kd := 5) (by omega) (by omega) G)))
    · refine y_ieO hl (by omega) ho rfl rfl rfl (by decide) (by decide) (br_t rfl (And.intro hip ?_))
      rw [hcp]
      refine nm_e (y_goodAddress ?_)
      rw [eg]
      exact br_t rfl (And.intro hip (nm_e (y_373 (kd := 5) (by omega) (by omega) (hset 5 (by omega)) G)))
  · refine ⟨_, _, _, _, _, _, _, _, ra_u (v := a_latency 5) rc_16 hc hp r4, ra_u (v := a_eVal2 p) rc_16 hc hp r5, r6, r7, fun post G => ?_, fun post G => ?_⟩
    · refine x_exP (by omega) (e12.trans ho) e9 e11 e13 (fun _ => nm_e (x_goodAddress ?_)) (fun q => absurd q (by decide)) (fun q => absurd q (by decide)) (fun q => absurd rfl q)
      rw [eg]
      exact br_f (by decide) (x_213 (kd := 5) (by omega) (by omega) G)
    · refine y_ieO hl (by omega) ho rfl rfl rfl (by decide) (by decide) (br_t rfl (And.intro hip ?_))
      rw [hcp]
      refine nm_e (y_goodAddress ?_)
      rw [eg]
      exact br_f (by decide) (y_373 (kd := 5) (by omega) (by omega) (hset 5 (by omega)) G)
theorem j_ex14 {p : Nat} (hh : h < 16) (hc : c ≤ 16) (hp : p < c) (hl : len ≤ 64) (hset : ∀ i, i < 7 → a_settings i = a_latency i) (ho : rc_op len a_progOp (a_ePc p) = 14) (r4 : rc_RA 16 h c a_robRemaining a_eRemaining) (r5 : rc_RA 16 h c a_robValue a_eValue) (r6 : rc_RA 16 h c a_robFault a_eFault) (r7 : rc_RA 16 h c a_robNext a_eNext) (e1 : a_robPc ((h + p) % 16) = a_ePc p) (e12 : a_robOp ((h + p) % 16) = rc_op len a_progOp (a_ePc p)) (e9 : a_robVal1 ((h + p) % 16) = a_eVal1 p) (e11 : a_robVal2 ((h + p) % 16) = a_eVal2 p) (e13 : a_robC ((h + p) % 16) = rc_fa len a_progC (a_ePc p)) :
    ∃ Rm Vl Ft Nx rm vl ft nx, rc_RA 16 h c Rm rm ∧ rc_RA 16 h c Vl vl ∧ rc_RA 16 h c Ft ft ∧ rc_RA 16 h c Nx nx ∧ (∀ post : SX → Prop, post ((nI rs), f_stations, f_queueSize, (nI w), f_phase, f_pc, f_epc, f_cause, f_handling, f_vector, (nI len), f_fetchPc, f_parked, (nI qh), (nI qc), (nI h), (nI c), f_waitingCount, f_memCount, a_regs, a_memory, a_progOp, a_progA, a_progB, a_progC, a_latency, a_counters, a_fqPc, a_fqNext, a_twoBit, a_jumpDelta, a_robPc, a_robPredicted, a_robState, Rm, Vl, Ft, Nx, a_robSrc1, a_robVal1, a_robSrc2, a_robVal2, a_robOp, a_robC, a_robDest, a_mapSlot, a_unitBusy) → wpX_execute post ((nI rs), f_stations, f_queueSize, (nI w), f_phase, f_pc, f_epc, f_cause, f_handling, f_vector, (nI len), f_fetchPc, f_parked, (nI qh), (nI qc), (nI h), (nI c), f_waitingCount, f_memCount, a_regs, a_memory, a_progOp, a_progA, a_progB, a_progC, a_latency, a_counters, a_fqPc, a_fqNext, a_twoBit, a_jumpDelta, a_robPc, a_robPredicted, a_robState, a_robRemaining, a_robValue, a_robFault, a_robNext, a_robSrc1, a_robVal1, a_robSrc2, a_robVal2, a_robOp, a_robC, a_robDest, a_mapSlot, a_unitBusy) (nI ((h + p) % 16))) ∧ (∀ post : SY → Prop, post (f_pc, f_epc, f_cause, f_handling, f_vector, f_phase, (nI len), f_fetchPc, f_parked, (nI qc), (nI c), a_regs, a_memory, a_progOp, a_progA, a_progB, a_progC, a_counters, a_settings, a_queuePc, a_queueNext, a_twoBit, a_jumpDelta, a_ePc, a_ePredicted, (upd a_eState p 2), rm, vl, ft, nx, a_eWait1, a_eVal1, a_eWait2, a_eVal2) → wpY_issueEntry post (f_pc, f_epc, f_cause, f_handling, f_vector, f_phase, (nI len), f_fetchPc, f_parked, (nI qc), (nI c), a_regs, a_memory, a_progOp, a_progA, a_progB, a_progC, a_counters, a_settings, a_queuePc, a_queueNext, a_twoBit, a_jumpDelta, a_ePc, a_ePredicted, a_eState, a_eRemaining, a_eValue, a_eFault, a_eNext, a_eWait1, a_eVal1, a_eWait2, a_eVal2) (nI p)) := by
  have hip : vp_in (nI p) 16 := vp_in_nI (by omega) (by omega)
  have hcp : (nI p).toNatClampNeg = p := nI_clamp (by omega)
  refine ⟨_, _, _, _, _, _, _, _, ra_u (v := a_latency 3) rc_16 hc hp r4, ra_u (v := a_ePc p + 1) rc_16 hc hp r5, r6, ra_u (v := a_eVal1 p + rc_fa len a_progC (a_ePc p)) rc_16 hc hp r7, fun post G => ?_, fun post G => ?_⟩
  · refine x_exP (by omega) (e12.trans ho) e9 e11 e13 (fun q => absurd q (by decide)) (fun _ => ?_) (fun q => absurd q (by decide)) (fun _ q => absurd rfl q)
    rw [e1]
    exact nm_e (nm_e (x_213 (kd := 3) (by omega) (by omega) G))
  · refine y_ieO hl (by omega) ho rfl rfl rfl (by decide) (by decide) (br_f (by decide) (br_f (by decide) (br_f (by decide) (br_t rfl (And.intro hip ?_)))))
    rw [hcp]
    exact nm_e (And.intro hip (nm_e (y_373 (kd := 3) (by omega) (by omega) (hset 3 (by omega)) G)))
theorem y_190 {p : Nat} {pc cc t nx : Int32} {post : SY → Prop} (hp : p < 16) (ht : t = 0 ∧ nx = pc + 1 ∨ t = 1 ∧ nx = pc + cc) (H : wY_issueEntry_373 post (nI p) 3 f_pc f_epc f_cause f_handling f_vector f_phase (nI len) f_fetchPc f_parked (nI qc) (nI c) a_regs a_memory a_progOp a_progA a_progB a_progC a_counters a_settings a_queuePc a_queueNext a_twoBit a_jumpDelta a_ePc a_ePredicted a_eState a_eRemaining (upd a_eValue p t) a_eFault (upd a_eNext p nx) a_eWait1 a_eVal1 a_eWait2 a_eVal2) : wY_issueEntry_190 post (nI p) pc cc 3 t f_pc f_epc f_cause f_handling f_vector f_phase (nI len) f_fetchPc f_parked (nI qc) (nI c) a_regs a_memory a_progOp a_progA a_progB a_progC a_counters a_settings a_queuePc a_queueNext a_twoBit a_jumpDelta a_ePc a_ePredicted a_eState a_eRemaining a_eValue a_eFault a_eNext a_eWait1 a_eVal1 a_eWait2 a_eVal2 := by
  have hip : vp_in (nI p) 16 := vp_in_nI (by omega) (by omega)
  have hcp : (nI p).toNatClampNeg = p := nI_clamp (by omega)
  rcases ht with ⟨e, e2⟩ | ⟨e, e2⟩
  · subst e e2
    refine br_t rfl (And.intro hip ?_)
    rw [hcp]
    exact nm_e (And.intro hip (nm_e H))
  · subst e e2
    refine br_f (by decide) (And.intro hip ?_)
    rw [hcp]
    exact nm_e (And.intro hip (nm_e H))
theorem x_145 {s : Nat} {cc t nx kd : Int32} {post : SX → Prop} (hs : s < 16) (ht : t = 0 ∧ nx = a_robPc s + 1 ∨ t = 1 ∧ nx = a_robPc s + cc) (H : wX_execute_213 post (nI s) kd (nI rs) f_stations f_queueSize (nI w) f_phase f_pc f_epc f_cause f_handling f_vector (nI len) f_fetchPc f_parked (nI qh) (nI qc) (nI h) (nI c) f_waitingCount f_memCount a_regs a_memory a_progOp a_progA a_progB a_progC a_latency a_counters a_fqPc a_fqNext a_twoBit a_jumpDelta a_robPc a_robPredicted a_robState a_robRemaining (upd a_robValue s t) a_robFault (upd a_robNext s nx) a_robSrc1 a_robVal1 a_robSrc2 a_robVal2 a_robOp a_robC a_robDest a_mapSlot a_unitBusy) : wX_execute_145 post (nI s) cc kd t t (nI s) (nI rs) f_stations f_queueSize (nI w) f_phase f_pc f_epc f_cause f_handling f_vector (nI len) f_fetchPc f_parked (nI qh) (nI qc) (nI h) (nI c) f_waitingCount f_memCount a_regs a_memory a_progOp a_progA a_progB a_progC a_latency a_counters a_fqPc a_fqNext a_twoBit a_jumpDelta a_robPc a_robPredicted a_robState a_robRemaining a_robValue a_robFault a_robNext a_robSrc1 a_robVal1 a_robSrc2 a_robVal2 a_robOp a_robC a_robDest a_mapSlot a_unitBusy := by
  have hin : vp_in (nI s) 16 := vp_in_nI hs (by omega)
  have hcl : (nI s).toNatClampNeg = s := nI_clamp (by omega)
  refine And.intro hin ?_
  rw [hcl]
  rcases ht with ⟨e, e2⟩ | ⟨e, e2⟩
  · subst e e2
    refine nm_e (br_t rfl (And.intro hin (And.intro hin ?_)))
    rw [hcl]
    exact nm_e H
  · subst e e2
    refine nm_e (br_f (by decide) (And.intro hin (And.intro hin ?_)))
    rw [hcl]
    exact nm_e H
theorem tk_c (op x y : Int32) : rc_tk op x y = 0 ∨ rc_tk op x y = 1 := by
  unfold rc_tk
  repeat' split
  all_goals first | exact Or.inl rfl | exact Or.inr rfl
theorem j_ex12 {p : Nat} (hh : h < 16) (hc : c ≤ 16) (hp : p < c) (hl : len ≤ 64) (hset : ∀ i, i < 7 → a_settings i = a_latency i) (ho : rc_op len a_progOp (a_ePc p) = 12 ∨ rc_op len a_progOp (a_ePc p) = 13) (r4 : rc_RA 16 h c a_robRemaining a_eRemaining) (r5 : rc_RA 16 h c a_robValue a_eValue) (r6 : rc_RA 16 h c a_robFault a_eFault) (r7 : rc_RA 16 h c a_robNext a_eNext) (e1 : a_robPc ((h + p) % 16) = a_ePc p) (e12 : a_robOp ((h + p) % 16) = rc_op len a_progOp (a_ePc p)) (e9 : a_robVal1 ((h + p) % 16) = a_eVal1 p) (e11 : a_robVal2 ((h + p) % 16) = a_eVal2 p) (e13 : a_robC ((h + p) % 16) = rc_fa len a_progC (a_ePc p)) :
    ∃ Rm Vl Ft Nx rm vl ft nx, rc_RA 16 h c Rm rm ∧ rc_RA 16 h c Vl vl ∧ rc_RA 16 h c Ft ft ∧ rc_RA 16 h c Nx nx ∧ (∀ post : SX → Prop, post ((nI rs), f_stations, f_queueSize, (nI w), f_phase, f_pc, f_epc, f_cause, f_handling, f_vector, (nI len), f_fetchPc, f_parked, (nI qh), (nI qc), (nI h), (nI c), f_waitingCount, f_memCount, a_regs, a_memory, a_progOp, a_progA, a_progB, a_progC, a_latency, a_counters, a_fqPc, a_fqNext, a_twoBit, a_jumpDelta, a_robPc, a_robPredicted, a_robState, Rm, Vl, Ft, Nx, a_robSrc1, a_robVal1, a_robSrc2, a_robVal2, a_robOp, a_robC, a_robDest, a_mapSlot, a_unitBusy) → wpX_execute post ((nI rs), f_stations, f_queueSize, (nI w), f_phase, f_pc, f_epc, f_cause, f_handling, f_vector, (nI len), f_fetchPc, f_parked, (nI qh), (nI qc), (nI h), (nI c), f_waitingCount, f_memCount, a_regs, a_memory, a_progOp, a_progA, a_progB, a_progC, a_latency, a_counters, a_fqPc, a_fqNext, a_twoBit, a_jumpDelta, a_robPc, a_robPredicted, a_robState, a_robRemaining, a_robValue, a_robFault, a_robNext, a_robSrc1, a_robVal1, a_robSrc2, a_robVal2, a_robOp, a_robC, a_robDest, a_mapSlot, a_unitBusy) (nI ((h + p) % 16))) ∧ (∀ post : SY → Prop, post (f_pc, f_epc, f_cause, f_handling, f_vector, f_phase, (nI len), f_fetchPc, f_parked, (nI qc), (nI c), a_regs, a_memory, a_progOp, a_progA, a_progB, a_progC, a_counters, a_settings, a_queuePc, a_queueNext, a_twoBit, a_jumpDelta, a_ePc, a_ePredicted, (upd a_eState p 2), rm, vl, ft, nx, a_eWait1, a_eVal1, a_eWait2, a_eVal2) → wpY_issueEntry post (f_pc, f_epc, f_cause, f_handling, f_vector, f_phase, (nI len), f_fetchPc, f_parked, (nI qc), (nI c), a_regs, a_memory, a_progOp, a_progA, a_progB, a_progC, a_counters, a_settings, a_queuePc, a_queueNext, a_twoBit, a_jumpDelta, a_ePc, a_ePredicted, a_eState, a_eRemaining, a_eValue, a_eFault, a_eNext, a_eWait1, a_eVal1, a_eWait2, a_eVal2) (nI p)) := by
  have hip : vp_in (nI p) 16 := vp_in_nI (by omega) (by omega)
  have hcp : (nI p).toNatClampNeg = p := nI_clamp (by omega)
  have hT : ∃ t nx, rc_tk (rc_op len a_progOp (a_ePc p)) (a_eVal1 p) (a_eVal2 p) = t ∧ (t = 0 ∧ nx = a_ePc p + 1 ∨ t = 1 ∧ nx = a_ePc p + rc_fa len a_progC (a_ePc p)) := by
    rcases tk_c (rc_op len a_progOp (a_ePc p)) (a_eVal1 p) (a_eVal2 p) with e | e
    · exact ⟨0, _, e, Or.inl ⟨rfl, rfl⟩⟩
    · exact ⟨1, _, e, Or.inr ⟨rfl, rfl⟩⟩
  obtain ⟨t, nx, et, ht⟩ := hT
  have hun : rc_un (rc_op len a_progOp (a_ePc p)) = nI 3 := by rcases ho with e | e <;> rw [e] <;> decide
  refine ⟨_, _, _, _, _, _, _, _, ra_u (v := a_latency 3) rc_16 hc hp r4, ra_u (v := t) rc_16 hc hp r5, r6, ra_u (v := nx) rc_16 hc hp r7, fun post G => ?_, fun post G => ?_⟩
  · refine x_exP (by omega) e12 e9 e11 e13 (fun q => ?_) (fun q => ?_) (fun _ => x_taken ?_) (fun _ _ q1 q2 => ?_)
    · rcases ho with e | e <;> rw [e] at q <;> exact absurd q (by decide)
    · rcases ho with e | e <;> rw [e] at q <;> exact absurd q (by decide)
    · rw [et, hun]
      have g : wX_execute_145 post (nI ((h + p) % 16)) (rc_fa len a_progC (a_ePc p)) (nI 3) t t (nI ((h + p) % 16)) (nI rs) f_stations f_queueSize (nI w) f_phase f_pc f_epc f_cause f_handling f_vector (nI len) f_fetchPc f_parked (nI qh) (nI qc) (nI h) (nI c) f_waitingCount f_memCount a_regs a_memory a_progOp a_progA a_progB a_progC a_latency a_counters a_fqPc a_fqNext a_twoBit a_jumpDelta a_robPc a_robPredicted a_robState a_robRemaining a_robValue a_robFault a_robNext a_robSrc1 a_robVal1 a_robSrc2 a_robVal2 a_robOp a_robC a_robDest a_mapSlot a_unitBusy := x_145 (by omega) (by rw [e1]; exact ht) (x_213 (kd := 3) (by omega) (by omega) G)
      rcases ht with ⟨e, _⟩ | ⟨e, _⟩
      · subst e
        exact br_t rfl g
      · subst e
        exact br_f (by decide) g
    · rcases ho with e | e
      · exact absurd e q1
      · exact absurd e q2
  · have g : wY_issueEntry_190 post (nI p) (a_ePc p) (rc_fa len a_progC (a_ePc p)) 3 t f_pc f_epc f_cause f_handling f_vector f_phase (nI len) f_fetchPc f_parked (nI qc) (nI c) a_regs a_memory a_progOp a_progA a_progB a_progC a_counters a_settings a_queuePc a_queueNext a_twoBit a_jumpDelta a_ePc a_ePredicted a_eState a_eRemaining a_eValue a_eFault a_eNext a_eWait1 a_eVal1 a_eWait2 a_eVal2 := y_190 (by omega) ht (y_373 (kd := 3) (by omega) (by omega) (hset 3 (by omega)) G)
    rcases ho with e | e
    · refine y_ieO hl (by omega) e rfl rfl rfl (by decide) (by decide) (br_f (by decide) (br_t rfl ?_))
      rw [e, rc_tk, if_pos rfl] at et
      have g2 : wY_issueEntry_168 post (nI p) (a_ePc p) 12 (rc_fa len a_progC (a_ePc p)) (a_eVal1 p) (a_eVal2 p) 3 0 f_pc f_epc f_cause f_handling f_vector f_phase (nI len) f_fetchPc f_parked (nI qc) (nI c) a_regs a_memory a_progOp a_progA a_progB a_progC a_counters a_settings a_queuePc a_queueNext a_twoBit a_jumpDelta a_ePc a_ePredicted a_eState a_eRemaining a_eValue a_eFault a_eNext a_eWait1 a_eVal1 a_eWait2 a_eVal2 ∧ wY_issueEntry_168 post (nI p) (a_ePc p) 12 (rc_fa len a_progC (a_ePc p)) (a_eVal1 p) (a_eVal2 p) 3 1 f_pc f_epc f_cause f_handling f_vector f_phase (nI len) f_fetchPc f_parked (nI qc) (nI c) a_regs a_memory a_progOp a_progA a_progB a_progC a_counters a_settings a_queuePc a_queueNext a_twoBit a_jumpDelta a_ePc a_ePredicted a_eState a_eRemaining a_eValue a_eFault a_eNext a_eWait1 a_eVal1 a_eWait2 a_eVal2 := by
        by_cases q : a_eVal1 p = a_eVal2 p
        · rw [if_pos q] at et
          subst et
          exact ⟨br_t rfl (br_t q g), br_t rfl (br_t q g)⟩
        · rw [if_neg q] at et
          subst et
          exact ⟨br_t rfl (br_f q g), br_t rfl (br_f q g)⟩
      exact br_c (fun _ => g2.1) (fun _ => g2.2)
    · refine y_ieO hl (by omega) e rfl rfl rfl (by decide) (by decide) (br_f (by decide) (br_f (by decide) (br_t rfl ?_)))
      rw [e, rc_tk, if_neg (by decide)] at et
      by_cases q : a_eVal2 p ≤ a_eVal1 p
      · rw [if_pos q] at et
        subst et
        exact br_t q (br_f (by decide) g)
      · rw [if_neg q] at et
        subst et
        exact br_f q (br_f (by decide) g)
theorem un_cp {op : Int32} (h1 : ¬ op < 1) (h9 : ¬ 9 < op) : (op = 3 ∧ rc_un op = nI 1) ∨ (op = 4 ∧ rc_un op = nI 2) ∨ (¬ op = 3 ∧ ¬ op = 4 ∧ rc_un op = nI 0) := by
  by_cases q3 : op = 3
  · exact Or.inl ⟨q3, by rw [q3]; decide⟩
  · by_cases q4 : op = 4
    · exact Or.inr (Or.inl ⟨q4, by rw [q4]; decide⟩)
    · refine Or.inr (Or.inr ⟨q3, q4, ?_⟩)
      rw [rc_un, if_neg q3, if_neg q4, if_neg (fun e => h9 (by rw [e]; decide)), if_neg (fun e => h9 (by rw [e]; decide)), if_neg (fun e => h9 (by rw [e]; decide)), if_neg (fun e => h9 (by rw [e]; decide)), if_neg (fun e => h9 (by rw [e]; decide))]
      rfl
theorem j_exC {p : Nat} (hh : h < 16) (hc : c ≤ 16) (hp : p < c) (hl : len ≤ 64) (hset : ∀ i, i < 7 → a_settings i = a_latency i) (h1 : ¬ rc_op len a_progOp (a_ePc p) < 1) (h9 : ¬ 9 < rc_op len a_progOp (a_ePc p)) (r4 : rc_RA 16 h c a_robRemaining a_eRemaining) (r5 : rc_RA 16 h c a_robValue a_eValue) (r6 : rc_RA 16 h c a_robFault a_eFault) (r7 : rc_RA 16 h c a_robNext a_eNext) (e12 : a_robOp ((h + p) % 16) = rc_op len a_progOp (a_ePc p)) (e9 : a_robVal1 ((h + p) % 16) = a_eVal1 p) (e11 : a_robVal2 ((h + p) % 16) = a_eVal2 p) (e13 : a_robC ((h + p) % 16) = rc_fa len a_progC (a_ePc p)) :
    ∃ Rm Vl Ft Nx rm vl ft nx, rc_RA 16 h c Rm rm ∧ rc_RA 16 h c Vl vl ∧ rc_RA 16 h c Ft ft ∧ rc_RA 16 h c Nx nx ∧ (∀ post : SX → Prop, post ((nI rs), f_stations, f_queueSize, (nI w), f_phase, f_pc, f_epc, f_cause, f_handling, f_vector, (nI len), f_fetchPc, f_parked, (nI qh), (nI qc), (nI h), (nI c), f_waitingCount, f_memCount, a_regs, a_memory, a_progOp, a_progA, a_progB, a_progC, a_latency, a_counters, a_fqPc, a_fqNext, a_twoBit, a_jumpDelta, a_robPc, a_robPredicted, a_robState, Rm, Vl, Ft, Nx, a_robSrc1, a_robVal1, a_robSrc2, a_robVal2, a_robOp, a_robC, a_robDest, a_mapSlot, a_unitBusy) → wpX_execute post ((nI rs), f_stations, f_queueSize, (nI w), f_phase, f_pc, f_epc, f_cause, f_handling, f_vector, (nI len), f_fetchPc, f_parked, (nI qh), (nI qc), (nI h), (nI c), f_waitingCount, f_memCount, a_regs, a_memory, a_progOp, a_progA, a_progB, a_progC, a_latency, a_counters, a_fqPc, a_fqNext, a_twoBit, a_jumpDelta, a_robPc, a_robPredicted, a_robState, a_robRemaining, a_robValue, a_robFault, a_robNext, a_robSrc1, a_robVal1, a_robSrc2, a_robVal2, a_robOp, a_robC, a_robDest, a_mapSlot, a_unitBusy) (nI ((h + p) % 16))) ∧ (∀ post : SY → Prop, post (f_pc, f_epc, f_cause, f_handling, f_vector, f_phase, (nI len), f_fetchPc, f_parked, (nI qc), (nI c), a_regs, a_memory, a_progOp, a_progA, a_progB, a_progC, a_counters, a_settings, a_queuePc, a_queueNext, a_twoBit, a_jumpDelta, a_ePc, a_ePredicted, (upd a_eState p 2), rm, vl, ft, nx, a_eWait1, a_eVal1, a_eWait2, a_eVal2) → wpY_issueEntry post (f_pc, f_epc, f_cause, f_handling, f_vector, f_phase, (nI len), f_fetchPc, f_parked, (nI qc), (nI c), a_regs, a_memory, a_progOp, a_progA, a_progB, a_progC, a_counters, a_settings, a_queuePc, a_queueNext, a_twoBit, a_jumpDelta, a_ePc, a_ePredicted, a_eState, a_eRemaining, a_eValue, a_eFault, a_eNext, a_eWait1, a_eVal1, a_eWait2, a_eVal2) (nI p)) := by
  have hin : vp_in (nI ((h + p) % 16)) 16 := vp_in_nI (by omega) (by omega)
  have hip : vp_in (nI p) 16 := vp_in_nI (by omega) (by omega)
  have hcp : (nI p).toNatClampNeg = p := nI_clamp (by omega)
  generalize eo : rc_op len a_progOp (a_ePc p) = op at h1 h9 e12
  have n11 : ¬ op = 11 := fun e => h9 (by rw [e]; decide)
  have n14 : ¬ op = 14 := fun e => h9 (by rw [e]; decide)
  have n12 : ¬ (op = 12 ∨ op = 13) := fun e => h9 (by rcases e with e | e <;> rw [e] <;> decide)
  by_cases q : op = 4 ∧ a_eVal2 p = 0
  · obtain ⟨q4, qy⟩ := q
    refine ⟨_, _, _, _, _, _, _, _, ra_u (v := a_latency 2) rc_16 hc hp r4, ra_u (v := rc_cp op (a_eVal1 p) (a_eVal2 p) (rc_fa len a_progC (a_ePc p))) rc_16 hc hp r5, ra_u (v := 2) rc_16 hc hp r6, r7, fun post G => ?_, fun post G => ?_⟩
    · refine x_exP (by omega) e12 e9 e11 e13 (fun q => absurd q n11) (fun q => absurd q n14) (fun q => absurd q n12) (fun _ _ _ _ => nm_e ?_)
      rw [show rc_un op = nI 2 from by rw [q4]; decide]
      exact br_t q4 (br_t qy (And.intro hin (nm_e (x_213 (kd := 2) (by omega) (by omega) G))))
    · refine y_ieC hl (by omega) eo rfl rfl rfl h1 h9 (fun kd hk => br_t q4 (br_t qy (And.intro hip ?_)))
      rw [hcp]
      exact nm_e (y_373 (kd := 2) (by omega) (by omega) (hset 2 (by omega)) G)
  · have hk : ∃ k0, k0 < 7 ∧ rc_un op = nI k0 ∧ ∀ kd, (op = 3 ∧ kd = 1 ∨ ¬ op = 3 ∧ kd = 0) → ¬ op = 4 → kd = nI k0 := by
      rcases un_cp h1 h9 with ⟨e, eu⟩ | ⟨e, eu⟩ | ⟨n3, n4, eu⟩
      · refine ⟨1, by omega, eu, fun kd hkd _ => ?_⟩
        rcases hkd with z | z
        · exact z.2
        · exact absurd e z.1
      · exact ⟨2, by omega, eu, fun kd _ z => absurd e z⟩
      · refine ⟨0, by omega, eu, fun kd hkd _ => ?_⟩
        rcases hkd with z | z
        · exact absurd z.1 n3
        · exact z.2
    have hk4 : op = 4 → rc_un op = nI 2 := fun e => by rw [e]; decide
    obtain ⟨k0, hk0, eu, hkd⟩ := hk
    refine ⟨_, _, _, _, _, _, _, _, ra_u (v := a_latency k0) rc_16 hc hp r4, ra_u (v := rc_cp op (a_eVal1 p) (a_eVal2 p) (rc_fa len a_progC (a_ePc p))) rc_16 hc hp r5, r6, r7, fun post G => ?_, fun post G => ?_⟩
    · refine x_exP (by omega) e12 e9 e11 e13 (fun q => absurd q n11) (fun q => absurd q n14) (fun q => absurd q n12) (fun _ _ _ _ => nm_e ?_)
      rw [eu]
      exact br_c (fun q4 => br_f (fun z => q ⟨q4, z⟩) (x_213 (kd := k0) (by omega) (by omega) G)) (fun _ => x_213 (kd := k0) (by omega) (by omega) G)
    · refine y_ieC hl (by omega) eo rfl rfl rfl h1 h9 (fun kd hkk => br_c (fun q4 => br_f (fun z => q ⟨q4, z⟩) ?_) (fun q4 => ?_))
      · have e2 : k0 = 2 := (nI_eq (by omega) (by omega)).mp (eu.symm.trans (hk4 q4))
        subst e2
        exact y_373 (kd := 2) (by omega) (by omega) (hset 2 (by omega)) G
      · rw [hkd kd hkk q4]
        exact y_373 (kd := k0) (by omega) (by omega) (hset k0 hk0) G
/-- anything but a load -/
theorem j_exec {p : Nat} (H : rc_F0 w rs len qh qc h c f_stations f_queueSize f_waitingCount f_memCount a_latency a_settings a_progOp a_progA a_progB a_progC a_fqPc a_fqNext a_queuePc a_queueNext a_robPc a_robPredicted a_robState a_robRemaining a_robValue a_robFault a_robNext a_robSrc1 a_robVal1 a_robSrc2 a_robVal2 a_robOp a_robC a_robDest a_ePc a_ePredicted a_eState a_eRemaining a_eValue a_eFault a_eNext a_eWait1 a_eVal1 a_eWait2 a_eVal2 a_mapSlot a_unitBusy) (hp : p < c) (hs : a_eState p = 1) (ho : ¬ rc_op len a_progOp (a_ePc p) = 10) :
    ∃ Rm Vl Ft Nx rm vl ft nx, rc_RA 16 h c Rm rm ∧ rc_RA 16 h c Vl vl ∧ rc_RA 16 h c Ft ft ∧ rc_RA 16 h c Nx nx ∧ (∀ post : SX → Prop, post ((nI rs), f_stations, f_queueSize, (nI w), f_phase, f_pc, f_epc, f_cause, f_handling, f_vector, (nI len), f_fetchPc, f_parked, (nI qh), (nI qc), (nI h), (nI c), f_waitingCount, f_memCount, a_regs, a_memory, a_progOp, a_progA, a_progB, a_progC, a_latency, a_counters, a_fqPc, a_fqNext, a_twoBit, a_jumpDelta, a_robPc, a_robPredicted, a_robState, Rm, Vl, Ft, Nx, a_robSrc1, a_robVal1, a_robSrc2, a_robVal2, a_robOp, a_robC, a_robDest, a_mapSlot, a_unitBusy) → wpX_execute post ((nI rs), f_stations, f_queueSize, (nI w), f_phase, f_pc, f_epc, f_cause, f_handling, f_vector, (nI len), f_fetchPc, f_parked, (nI qh), (nI qc), (nI h), (nI c), f_waitingCount, f_memCount, a_regs, a_memory, a_progOp, a_progA, a_progB, a_progC, a_latency, a_counters, a_fqPc, a_fqNext, a_twoBit, a_jumpDelta, a_robPc, a_robPredicted, a_robState, a_robRemaining, a_robValue, a_robFault, a_robNext, a_robSrc1, a_robVal1, a_robSrc2, a_robVal2, a_robOp, a_robC, a_robDest, a_mapSlot, a_unitBusy) (nI ((h + p) % 16))) ∧ (∀ post : SY → Prop, post (f_pc, f_epc, f_cause, f_handling, f_vector, f_phase, (nI len), f_fetchPc, f_parked, (nI qc), (nI c), a_regs, a_memory, a_progOp, a_progA, a_progB, a_progC, a_counters, a_settings, a_queuePc, a_queueNext, a_twoBit, a_jumpDelta, a_ePc, a_ePredicted, (upd a_eState p 2), rm, vl, ft, nx, a_eWait1, a_eVal1, a_eWait2, a_eVal2) → wpY_issueEntry post (f_pc, f_epc, f_cause, f_handling, f_vector, f_phase, (nI len), f_fetchPc, f_parked, (nI qc), (nI c), a_regs, a_memory, a_progOp, a_progA, a_progB, a_progC, a_counters, a_settings, a_queuePc, a_queueNext, a_twoBit, a_jumpDelta, a_ePc, a_ePredicted, a_eState, a_eRemaining, a_eValue, a_eFault, a_eNext, a_eWait1, a_eVal1, a_eWait2, a_eVal2) (nI p)) := by
  obtain ⟨⟨_, _, _, _, _, _, _, hset⟩, hP, hQ, ⟨hh, hc, r1, r2, r3, r4, r5, r6, r7, r8, r9, r10, r11, r12, r13, r14⟩, hI, hw, hm, hM, hU⟩ := H
  have hl := hP.1
  obtain ⟨_, _, i3⟩ := hI p hp
  obtain ⟨i1, i14⟩ := i3 hs
  by_cases h11 : rc_op len a_progOp (a_ePc p) = 11
  · exact j_ex11 hh hc hp hl hset h11 r4 r5 r6 r7 (r12 p hp) (r9 p hp) (r11 p hp) (r13 p hp)
  · by_cases h14 : rc_op len a_progOp (a_ePc p) = 14
    · exact j_ex14 hh hc hp hl hset h14 r4 r5 r6 r7 (r1 p hp) (r12 p hp) (r9 p hp) (r11 p hp) (r13 p hp)
    · by_cases h12 : rc_op len a_progOp (a_ePc p) = 12 ∨ rc_op len a_progOp (a_ePc p) = 13
      · exact j_ex12 hh hc hp hl hset h12 r4 r5 r6 r7 (r1 p hp) (r12 p hp) (r9 p hp) (r11 p hp) (r13 p hp)
      · refine j_exC hh hc hp hl hset (Int32.not_lt.mpr i1) ?_ r4 r5 r6 r7 (r12 p hp) (r9 p hp) (r11 p hp) (r13 p hp)
        intro q9
        rcases pg_op hP (a_ePc p) with e | ⟨o, ho', e⟩
        · rw [e] at q9
          exact absurd q9 (by decide)
        · rw [e] at q9 i14 ho h11 h14 h12
          have a1 : ¬ o ≤ 9 := fun z => nI_nlt (a := 9) (b := o) z (by omega) q9
          have a2 : o ≤ 14 := (nI_leI (a := o) (b := 14) (by omega) (by omega)).mp i14
          have a3 : o = 10 ∨ o = 11 ∨ o = 12 ∨ o = 13 ∨ o = 14 := by omega
          rcases a3 with rfl | rfl | rfl | rfl | rfl
          · exact ho rfl
          · exact h11 rfl
          · exact h12 (Or.inl rfl)
          · exact h12 (Or.inr rfl)
          · exact h14 rfl
end
end
section
/-! the issue stage, in lockstep -/
section
variable {w rs len qh qc h c : Nat} {f_stations f_queueSize f_phase f_pc f_epc f_cause f_handling f_vector f_fetchPc f_parked f_waitingCount f_memCount : Int32} {a_regs a_memory a_progOp a_progA a_progB a_progC a_latency a_counters a_fqPc a_fqNext a_twoBit a_jumpDelta a_robPc a_robPredicted a_robState a_robRemaining a_robValue a_robFault a_robNext a_robSrc1 a_robVal1 a_robSrc2 a_robVal2 a_robOp a_robC a_robDest a_mapSlot a_unitBusy a_settings a_queuePc a_queueNext a_ePc a_ePredicted a_eState a_eRemaining a_eValue a_eFault a_eNext a_eWait1 a_eVal1 a_eWait2 a_eVal2 : Nat → Int32}
theorem x_106 {s u0 : Nat} {post : Int32 → SX → Prop} (hs : s < 16) (hu : u0 < 5) (H : post 1 ((nI rs), f_stations, f_queueSize, (nI w), f_phase, f_pc, f_epc, f_cause, f_handling, f_vector, (nI len), f_fetchPc, f_parked, (nI qh), (nI qc), (nI h), (nI c), (f_waitingCount - 1), f_memCount, a_regs, a_memory, a_progOp, a_progA, a_progB, a_progC, a_latency, a_counters, a_fqPc, a_fqNext, a_twoBit, a_jumpDelta, a_robPc, a_robPredicted, (upd a_robState s 2), a_robRemaining, a_robValue, a_robFault, a_robNext, a_robSrc1, a_robVal1, a_robSrc2, a_robVal2, a_robOp, a_robC, a_robDest, a_mapSlot, (upd a_unitBusy u0 (a_unitBusy u0 + 1)))) : wX_tryIssue_106 post (nI s) (nI u0) (nI rs) f_stations f_queueSize (nI w) f_phase f_pc f_epc f_cause f_handling f_vector (nI len) f_fetchPc f_parked (nI qh) (nI qc) (nI h) (nI c) f_waitingCount f_memCount a_regs a_memory a_progOp a_progA a_progB a_progC a_latency a_counters a_fqPc a_fqNext a_twoBit a_jumpDelta a_robPc a_robPredicted a_robState a_robRemaining a_robValue a_robFault a_robNext a_robSrc1 a_robVal1 a_robSrc2 a_robVal2 a_robOp a_robC a_robDest a_mapSlot a_unitBusy := by
  refine And.intro (vp_in_nI hs (by omega)) ?_
  rw [nI_clamp (n := s) (by omega), nI_clamp (n := u0) (by omega)]
  exact nm_e (nm_e (And.intro (vp_in_nI hu (by omega)) (And.intro (vp_in_nI hu (by omega)) (nm_e H))))
theorem j_is {p q : Nat} (H : rc_F0 w rs len qh qc h c f_stations f_queueSize f_waitingCount f_memCount a_latency a_settings a_progOp a_progA a_progB a_progC a_fqPc a_fqNext a_queuePc a_queueNext a_robPc a_robPredicted a_robState a_robRemaining a_robValue a_robFault a_robNext a_robSrc1 a_robVal1 a_robSrc2 a_robVal2 a_robOp a_robC a_robDest a_ePc a_ePredicted a_eState a_eRemaining a_eValue a_eFault a_eNext a_eWait1 a_eVal1 a_eWait2 a_eVal2 a_mapSlot a_unitBusy) (hp : p < c) (hq : q < w) :
    ((∀ post : Int32 → SX → Prop, post 0 ((nI rs), f_stations, f_queueSize, (nI w), f_phase, f_pc, f_epc, f_cause, f_handling, f_vector, (nI len), f_fetchPc, f_parked, (nI qh), (nI qc), (nI h), (nI c), f_waitingCount, f_memCount, a_regs, a_memory, a_progOp, a_progA, a_progB, a_progC, a_latency, a_counters, a_fqPc, a_fqNext, a_twoBit, a_jumpDelta, a_robPc, a_robPredicted, a_robState, a_robRemaining, a_robValue, a_robFault, a_robNext, a_robSrc1, a_robVal1, a_robSrc2, a_robVal2, a_robOp, a_robC, a_robDest, a_mapSlot, a_unitBusy) → wpX_tryIssue post ((nI rs), f_stations, f_queueSize, (nI w), f_phase, f_pc, f_epc, f_cause, f_handling, f_vector, (nI len), f_fetchPc, f_parked, (nI qh), (nI qc), (nI h), (nI c), f_waitingCount, f_memCount, a_regs, a_memory, a_progOp, a_progA, a_progB, a_progC, a_latency, a_counters, a_fqPc, a_fqNext, a_twoBit, a_jumpDelta, a_robPc, a_robPredicted, a_robState, a_robRemaining, a_robValue, a_robFault, a_robNext, a_robSrc1, a_robVal1, a_robSrc2, a_robVal2, a_robOp, a_robC, a_robDest, a_mapSlot, a_unitBusy) (nI p)) ∧ (∀ (post : SY → Prop) (n : Nat), wY_issueStage_4 post n (nI q) (nI (p + 1)) f_pc f_epc f_cause f_handling f_vector f_phase (nI len) f_fetchPc f_parked (nI qc) (nI c) a_regs a_memory a_progOp a_progA a_progB a_progC a_counters a_settings a_queuePc a_queueNext a_twoBit a_jumpDelta a_ePc a_ePredicted a_eState a_eRemaining a_eValue a_eFault a_eNext a_eWait1 a_eVal1 a_eWait2 a_eVal2 → wY_issueStage_4 post (n + 1) (nI q) (nI p) f_pc f_epc f_cause f_handling f_vector f_phase (nI len) f_fetchPc f_parked (nI qc) (nI c) a_regs a_memory a_progOp a_progA a_progB a_progC a_counters a_settings a_queuePc a_queueNext a_twoBit a_jumpDelta a_ePc a_ePredicted a_eState a_eRemaining a_eValue a_eFault a_eNext a_eWait1 a_eVal1 a_eWait2 a_eVal2)) ∨
    (∃ Rm Vl Ft Nx rm vl ft nx u0 ct, (rc_F0 w rs len qh qc h c f_stations f_queueSize (f_waitingCount - 1) f_memCount a_latency a_settings a_progOp a_progA a_progB a_progC a_fqPc a_fqNext a_queuePc a_queueNext a_robPc a_robPredicted (upd a_robState ((h + p) % 16) 2) Rm Vl Ft Nx a_robSrc1 a_robVal1 a_robSrc2 a_robVal2 a_robOp a_robC a_robDest a_ePc a_ePredicted (upd a_eState p 2) rm vl ft nx a_eWait1 a_eVal1 a_eWait2 a_eVal2 a_mapSlot (upd a_unitBusy u0 (a_unitBusy u0 + 1))) ∧ (∀ post : Int32 → SX → Prop, post 1 ((nI rs), f_stations, f_queueSize, (nI w), f_phase, f_pc, f_epc, f_cause, f_handling, f_vector, (nI len), f_fetchPc, f_parked, (nI qh), (nI qc), (nI h), (nI c), (f_waitingCount - 1), f_memCount, a_regs, a_memory, a_progOp, a_progA, a_progB, a_progC, a_latency, ct, a_fqPc, a_fqNext, a_twoBit, a_jumpDelta, a_robPc, a_robPredicted, (upd a_robState ((h + p) % 16) 2), Rm, Vl, Ft, Nx, a_robSrc1, a_robVal1, a_robSrc2, a_robVal2, a_robOp, a_robC, a_robDest, a_mapSlot, (upd a_unitBusy u0 (a_unitBusy u0 + 1))) → wpX_tryIssue post ((nI rs), f_stations, f_queueSize, (nI w), f_phase, f_pc, f_epc, f_cause, f_handling, f_vector, (nI len), f_fetchPc, f_parked, (nI qh), (nI qc), (nI h), (nI c), f_waitingCount, f_memCount, a_regs, a_memory, a_progOp, a_progA, a_progB, a_progC, a_latency, a_counters, a_fqPc, a_fqNext, a_twoBit, a_jumpDelta, a_robPc, a_robPredicted, a_robState, a_robRemaining, a_robValue, a_robFault, a_robNext, a_robSrc1, a_robVal1, a_robSrc2, a_robVal2, a_robOp, a_robC, a_robDest, a_mapSlot, a_unitBusy) (nI p)) ∧ (∀ (post : SY → Prop) (n : Nat), wY_issueStage_4 post n (nI (q + 1)) (nI (p + 1)) f_pc f_epc f_cause f_handling f_vector f_phase (nI len) f_fetchPc f_parked (nI qc) (nI c) a_regs a_memory a_progOp a_progA a_progB a_progC ct a_settings a_queuePc a_queueNext a_twoBit a_jumpDelta a_ePc a_ePredicted (upd a_eState p 2) rm vl ft nx a_eWait1 a_eVal1 a_eWait2 a_eVal2 → wY_issueStage_4 post (n + 1) (nI q) (nI p) f_pc f_epc f_cause f_handling f_vector f_phase (nI len) f_fetchPc f_parked (nI qc) (nI c) a_regs a_memory a_progOp a_progA a_progB a_progC a_counters a_settings a_queuePc a_queueNext a_twoBit a_jumpDelta a_ePc a_ePredicted a_eState a_eRemaining a_eValue a_eFault a_eNext a_eWait1 a_eVal1 a_eWait2 a_eVal2)) := by
  have H' := H
  obtain ⟨⟨hw1, hw3, _, _, _, _, hs10, hset⟩, hP, hQ, ⟨hh, hc, r1, r2, r3, r4, r5, r6, r7, r8, r9, r10, r11, r12, r13, r14⟩, hI, hw, hm, hM, hU⟩ := H
  have hl := hP.1
  have hin : vp_in (nI ((h + p) % 16)) 16 := vp_in_nI (by omega) (by omega)
  have hcl : (nI ((h + p) % 16)).toNatClampNeg = (h + p) % 16 := nI_clamp (by omega)
  have hip : vp_in (nI p) 16 := vp_in_nI (by omega) (by omega)
  have hcp : (nI p).toNatClampNeg = p := nI_clamp (by omega)
  have e3 : a_robState ((h + p) % 16) = a_eState p := r3 p hp
  have e8 : a_robSrc1 ((h + p) % 16) = rc_sl h (a_eWait1 p) := r8 p hp
  have e10 : a_robSrc2 ((h + p) % 16) = rc_sl h (a_eWait2 p) := r10 p hp
  have e12 : a_robOp ((h + p) % 16) = rc_op len a_progOp (a_ePc p) := r12 p hp
  have m1 := sl_m1 hh (wt_16 (by omega) (hI p hp).1)
  have m2 := sl_m1 hh (wt_16 (by omega) (hI p hp).2.1)
  have k16 : ¬ (16 : Int32) ≤ nI p := nI_ge (b := 16) (by omega) (by omega)
  have kc : ¬ nI c ≤ nI p := nI_ge (by omega) (by omega)
  have kw : ¬ a_settings 10 ≤ nI q := by rw [hs10]; exact nI_ge (by omega) (by omega)
  by_cases s1 : a_eState p = 1
  · by_cases a1 : a_eWait1 p = -1
    · by_cases a2 : a_eWait2 p = -1
      · obtain ⟨u0, hu0, hu⟩ := un_5 (rc_op len a_progOp (a_ePc p))
        have hz : ∃ z0 : Int32, (u0 = 0 ∧ z0 = nI w ∨ ¬ u0 = 0 ∧ z0 = 1) := by
          by_cases q0 : u0 = 0
          · exact ⟨nI w, Or.inl ⟨q0, rfl⟩⟩
          · exact ⟨1, Or.inr ⟨q0, rfl⟩⟩
        obtain ⟨z0, hz0⟩ := hz
        have h5 : vp_in (nI u0) 5 := vp_in_nI hu0 (by omega)
        have hc5 : (nI u0).toNatClampNeg = u0 := nI_clamp (by omega)
        have eU := hU u0 hu0
        have xP : ∀ post : Int32 → SX → Prop, wX_tryIssue_69 post (nI p) (nI ((h + p) % 16)) (rc_op len a_progOp (a_ePc p)) (nI u0) z0 (nI rs) f_stations f_queueSize (nI w) f_phase f_pc f_epc f_cause f_handling f_vector (nI len) f_fetchPc f_parked (nI qh) (nI qc) (nI h) (nI c) f_waitingCount f_memCount a_regs a_memory a_progOp a_progA a_progB a_progC a_latency a_counters a_fqPc a_fqNext a_twoBit a_jumpDelta a_robPc a_robPredicted a_robState a_robRemaining a_robValue a_robFault a_robNext a_robSrc1 a_robVal1 a_robSrc2 a_robVal2 a_robOp a_robC a_robDest a_mapSlot a_unitBusy → wpX_tryIssue post ((nI rs), f_stations, f_queueSize, (nI w), f_phase, f_pc, f_epc, f_cause, f_handling, f_vector, (nI len), f_fetchPc, f_parked, (nI qh), (nI qc), (nI h), (nI c), f_waitingCount, f_memCount, a_regs, a_memory, a_progOp, a_progA, a_progB, a_progC, a_latency, a_counters, a_fqPc, a_fqNext, a_twoBit, a_jumpDelta, a_robPc, a_robPredicted, a_robState, a_robRemaining, a_robValue, a_robFault, a_robNext, a_robSrc1, a_robVal1, a_robSrc2, a_robVal2, a_robOp, a_robC, a_robDest, a_mapSlot, a_unitBusy) (nI p) := by
          intro post g
          refine nm_r (rc_slot hh (by omega)) (And.intro hin ?_)
          rw [hcl, e3, e8, e10]
          refine br_t s1 (And.intro hin (br_t (m1.mpr a1) (And.intro hin (br_t (m2.mpr a2) (And.intro hin (nm_r (e' := rc_op len a_progOp (a_ePc p)) e12 (x_unitOf ?_)))))))
          rw [hu]
          rcases hz0 with ⟨q0, e⟩ | ⟨q0, e⟩
          · subst e
            exact br_t (by rw [q0]; rfl) g
          · subst e
            exact br_f (nI_ne0 (by omega) (by omega)) g
        have yP : ∀ (post : SY → Prop) (n : Nat), (a_unitBusy u0 < z0 → (rc_op len a_progOp (a_ePc p) = 10 → wpY_loadAllowed (fun r => wY_issueStage_103 post (wY_issueStage_4 post n) (nI q) (nI p) r f_pc f_epc f_cause f_handling f_vector f_phase (nI len) f_fetchPc f_parked (nI qc) (nI c) a_regs a_memory a_progOp a_progA a_progB a_progC a_counters a_settings a_queuePc a_queueNext a_twoBit a_jumpDelta a_ePc a_ePredicted a_eState a_eRemaining a_eValue a_eFault a_eNext a_eWait1 a_eVal1 a_eWait2 a_eVal2) (f_pc, f_epc, f_cause, f_handling, f_vector, f_phase, (nI len), f_fetchPc, f_parked, (nI qc), (nI c), a_regs, a_memory, a_progOp, a_progA, a_progB, a_progC, a_counters, a_settings, a_queuePc, a_queueNext, a_twoBit, a_jumpDelta, a_ePc, a_ePredicted, a_eState, a_eRemaining, a_eValue, a_eFault, a_eNext, a_eWait1, a_eVal1, a_eWait2, a_eVal2) (nI p)) ∧ (¬ rc_op len a_progOp (a_ePc p) = 10 → wY_issueStage_103 post (wY_issueStage_4 post n) (nI q) (nI p) 1 f_pc f_epc f_cause f_handling f_vector f_phase (nI len) f_fetchPc f_parked (nI qc) (nI c) a_regs a_memory a_progOp a_progA a_progB a_progC a_counters a_settings a_queuePc a_queueNext a_twoBit a_jumpDelta a_ePc a_ePredicted a_eState a_eRemaining a_eValue a_eFault a_eNext a_eWait1 a_eVal1 a_eWait2 a_eVal2)) ∧ (¬ a_unitBusy u0 < z0 → wY_issueStage_103 post (wY_issueStage_4 post n) (nI q) (nI p) 0 f_pc f_epc f_cause f_handling f_vector f_phase (nI len) f_fetchPc f_parked (nI qc) (nI c) a_regs a_memory a_progOp a_progA a_progB a_progC a_counters a_settings a_queuePc a_queueNext a_twoBit a_jumpDelta a_ePc a_ePredicted a_eState a_eRemaining a_eValue a_eFault a_eNext a_eWait1 a_eVal1 a_eWait2 a_eVal2) → wY_issueStage_4 post (n + 1) (nI q) (nI p) f_pc f_epc f_cause f_handling f_vector f_phase (nI len) f_fetchPc f_parked (nI qc) (nI c) a_regs a_memory a_progOp a_progA a_progB a_progC a_counters a_settings a_queuePc a_queueNext a_twoBit a_jumpDelta a_ePc a_ePredicted a_eState a_eRemaining a_eValue a_eFault a_eNext a_eWait1 a_eVal1 a_eWait2 a_eVal2 := by
          intro post n g
          refine br_f k16 (br_f kc (And.intro hip ?_))
          rw [hcp]
          refine br_t s1 (br_f kw (And.intro hip (br_t a1 (And.intro hip (br_t a2 (And.intro hip (y_opAt hl (y_classOf ?_))))))))
          rw [hu]
          refine y_unitFree hl hc ?_
          rw [← eU]
          rcases hz0 with ⟨q0, e⟩ | ⟨q0, e⟩
          · subst e
            refine br_t (by rw [q0]; rfl) ?_
            rw [hs10]
            exact br_c (fun z => br_t rfl (g.2 (Int32.not_lt.mpr z))) (fun z => br_f (by decide) (g.1 (Int32.not_le.mp z)))
          · subst e
            refine br_f (nI_ne0 (by omega) (by omega)) ?_
            exact br_c (fun z => br_t rfl (g.2 (Int32.not_lt.mpr z))) (fun z => br_f (by decide) (g.1 (Int32.not_le.mp z)))
        by_cases hf : a_unitBusy u0 < z0
        · by_cases ho : rc_op len a_progOp (a_ePc p) = 10
          · rcases j_load (w := w) (rs := rs) (len := len) (qh := qh) (qc := qc) (h := h) (c := c) (f_stations := f_stations) (f_queueSize := f_queueSize) (f_phase := f_phase) (f_pc := f_pc) (f_epc := f_epc) (f_cause := f_cause) (f_handling := f_handling) (f_vector := f_vector) (f_fetchPc := f_fetchPc) (f_parked := f_parked) (f_waitingCount := f_waitingCount) (f_memCount := f_memCount) (a_regs := a_regs) (a_memory := a_memory) (a_progOp := a_progOp) (a_progA := a_progA) (a_progB := a_progB) (a_progC := a_progC) (a_latency := a_latency) (a_counters := a_counters) (a_fqPc := a_fqPc) (a_fqNext := a_fqNext) (a_twoBit := a_twoBit) (a_jumpDelta := a_jumpDelta) (a_robPc := a_robPc) (a_robPredicted := a_robPredicted) (a_robState := a_robState) (a_robRemaining := a_robRemaining) (a_robValue := a_robValue) (a_robFault := a_robFault) (a_robNext := a_robNext) (a_robSrc1 := a_robSrc1) (a_robVal1 := a_robVal1) (a_robSrc2 := a_robSrc2) (a_robVal2 := a_robVal2) (a_robOp := a_robOp) (a_robC := a_robC) (a_robDest := a_robDest) (a_mapSlot := a_mapSlot) (a_unitBusy := a_unitBusy) (a_settings := a_settings) (a_queuePc := a_queuePc) (a_queueNext := a_queueNext) (a_ePc := a_ePc) (a_ePredicted := a_ePredicted) (a_eState := a_eState) (a_eRemaining := a_eRemaining) (a_eValue := a_eValue) (a_eFault := a_eFault) (a_eNext := a_eNext) (a_eWait1 := a_eWait1) (a_eVal1 := a_eVal1) (a_eWait2 := a_eWait2) (a_eVal2 := a_eVal2) H' hp ho with ⟨lX, lY⟩ | ⟨Rm, Vl, Ft, rm, vl, ft, ct, t4, t5, t6, lX, lY, lI⟩
            · refine Or.inl ⟨fun post G => xP post (And.intro h5 ?_), fun post n G => yP post n (br_t hf (br_t ho (lY _ (br_t rfl (nm_r (nI_1 p) G)))))⟩
              rw [hc5]
              exact br_t hf (br_t ho (lX _ (br_t rfl G)))
            · refine Or.inr ⟨Rm, Vl, Ft, a_robNext, rm, vl, ft, a_eNext, u0, ct, f0_issue H' hp s1 hu0 hu t4 t5 t6 r7, fun post G => xP post (And.intro h5 ?_), fun post n G => yP post n (br_t hf (br_t ho (lY _ (br_f (by decide) (lI _ (nm_r (nI_1 q) (nm_r (nI_1 p) G)))))))⟩
              rw [hc5]
              exact br_t hf (br_t ho (lX _ (br_f (by decide) (x_106 (by omega) hu0 G))))
          · obtain ⟨Rm, Vl, Ft, Nx, rm, vl, ft, nx, t4, t5, t6, t7, lX, lI⟩ := j_exec (w := w) (rs := rs) (len := len) (qh := qh) (qc := qc) (h := h) (c := c) (f_stations := f_stations) (f_queueSize := f_queueSize) (f_phase := f_phase) (f_pc := f_pc) (f_epc := f_epc) (f_cause := f_cause) (f_handling := f_handling) (f_vector := f_vector) (f_fetchPc := f_fetchPc) (f_parked := f_parked) (f_waitingCount := f_waitingCount) (f_memCount := f_memCount) (a_regs := a_regs) (a_memory := a_memory) (a_progOp := a_progOp) (a_progA := a_progA) (a_progB := a_progB) (a_progC := a_progC) (a_latency := a_latency) (a_counters := a_counters) (a_fqPc := a_fqPc) (a_fqNext := a_fqNext) (a_twoBit := a_twoBit) (a_jumpDelta := a_jumpDelta) (a_robPc := a_robPc) (a_robPredicted := a_robPredicted) (a_robState := a_robState) (a_robRemaining := a_robRemaining) (a_robValue := a_robValue) (a_robFault := a_robFault) (a_robNext := a_robNext) (a_robSrc1 := a_robSrc1) (a_robVal1 := a_robVal1) (a_robSrc2 := a_robSrc2) (a_robVal2 := a_robVal2) (a_robOp := a_robOp) (a_robC := a_robC) (a_robDest := a_robDest) (a_mapSlot := a_mapSlot) (a_unitBusy := a_unitBusy) (a_settings := a_settings) (a_queuePc := a_queuePc) (a_queueNext := a_queueNext) (a_ePc := a_ePc) (a_ePredicted := a_ePredicted) (a_eState := a_eState) (a_eRemaining := a_eRemaining) (a_eValue := a_eValue) (a_eFault := a_eFault) (a_eNext := a_eNext) (a_eWait1 := a_eWait1) (a_eVal1 := a_eVal1) (a_eWait2 := a_eWait2) (a_eVal2 := a_eVal2) H' hp s1 ho
            refine Or.inr ⟨Rm, Vl, Ft, Nx, rm, vl, ft, nx, u0, a_counters, f0_issue H' hp s1 hu0 hu t4 t5 t6 t7, fun post G => xP post (And.intro h5 ?_), fun post n G => yP post n (br_t hf (br_f ho (br_f (by decide) (lI _ (nm_r (nI_1 q) (nm_r (nI_1 p) G))))))⟩
            rw [hc5]
            exact br_t hf (br_f ho (lX _ (x_106 (by omega) hu0 G)))
        · refine Or.inl ⟨fun post G => xP post (And.intro h5 ?_), fun post n G => yP post n (br_f hf (br_t rfl (nm_r (nI_1 p) G)))⟩
          rw [hc5]
          exact br_f hf G
      · refine Or.inl ⟨fun post G => nm_r (rc_slot hh (by omega)) (And.intro hin ?_), fun post n G => br_f k16 (br_f kc (And.intro hip ?_))⟩
        · rw [hcl, e3, e8, e10]
          exact br_t s1 (And.intro hin (br_t (m1.mpr a1) (And.intro hin (br_f (fun z => a2 (m2.mp z)) G))))
        · rw [hcp]
          exact br_t s1 (br_f kw (And.intro hip (br_t a1 (And.intro hip (br_f a2 (nm_r (nI_1 p) G))))))
    · refine Or.inl ⟨fun post G => nm_r (rc_slot hh (by omega)) (And.intro hin ?_), fun post n G => br_f k16 (br_f kc (And.intro hip ?_))⟩
      · rw [hcl, e3, e8]
        exact br_t s1 (And.intro hin (br_f (fun z => a1 (m1.mp z)) G))
      · rw [hcp]
        exact br_t s1 (br_f kw (And.intro hip (br_f a1 (nm_r (nI_1 p) G))))
  · refine Or.inl ⟨fun post G => nm_r (rc_slot hh (by omega)) (And.intro hin ?_), fun post n G => br_f k16 (br_f kc (And.intro hip ?_))⟩
    · rw [hcl, e3]
      exact br_f s1 G
    · rw [hcp]
      exact br_f s1 (nm_r (nI_1 p) G)
theorem y_skip {q : Nat} (hc : c ≤ 16) (hq : a_settings 10 ≤ nI q) : ∀ (d p : Nat), p + d = c → ∀ (post : SY → Prop) (n : Nat), d < n → post (f_pc, f_epc, f_cause, f_handling, f_vector, f_phase, (nI len), f_fetchPc, f_parked, (nI qc), (nI c), a_regs, a_memory, a_progOp, a_progA, a_progB, a_progC, a_counters, a_settings, a_queuePc, a_queueNext, a_twoBit, a_jumpDelta, a_ePc, a_ePredicted, a_eState, a_eRemaining, a_eValue, a_eFault, a_eNext, a_eWait1, a_eVal1, a_eWait2, a_eVal2) → wY_issueStage_4 post n (nI q) (nI p) f_pc f_epc f_cause f_handling f_vector f_phase (nI len) f_fetchPc f_parked (nI qc) (nI c) a_regs a_memory a_progOp a_progA a_progB a_progC a_counters a_settings a_queuePc a_queueNext a_twoBit a_jumpDelta a_ePc a_ePredicted a_eState a_eRemaining a_eValue a_eFault a_eNext a_eWait1 a_eVal1 a_eWait2 a_eVal2 := by
  intro d
  induction d with
  | zero =>
    intro p hp post n hn G
    have hp : p = c := by omega
    subst hp
    obtain ⟨n, rfl⟩ : ∃ m, n = m + 1 := ⟨n - 1, by omega⟩
    exact br_c (fun _ => G) (fun _ => br_t (nI_le (Nat.le_refl _) (by omega)) G)
  | succ d ih =>
    intro p hp post n hn G
    obtain ⟨n, rfl⟩ : ∃ m, n = m + 1 := ⟨n - 1, by omega⟩
    have g := ih (p + 1) (by omega) post n (by omega) G
    have hip : vp_in (nI p) 16 := vp_in_nI (by omega) (by omega)
    exact br_f (nI_ge (b := 16) (by omega) (by omega)) (br_f (nI_ge (by omega) (by omega)) (And.intro hip (br_c (fun _ => br_t hq (nm_r (nI_1 p) g)) (fun _ => nm_r (nI_1 p) g))))
/-- the issue loop -/
theorem j_isLoop {e c0 : Nat} : ∀ (d p q : Nat) (z : rc_Z), p + d = c0 → q ≤ e → rc_zc z = c0 → rc_RU e z → ∃ z', rc_RU e z' ∧ (∀ (post : SX → Prop) (n : Nat), d < n → post (rc_zX z') → rc_iX post n q p (rc_zX z)) ∧ (∀ (post : SY → Prop) (n : Nat), d < n → post (rc_zY z') → rc_iY post n q p (rc_zY z)) := by
  intro d
  induction d with
  | zero =>
    intro p q
    refine rc_el ?_
    intro w rs len qh qc h c f_stations f_queueSize f_phase f_pc f_epc f_cause f_handling f_vector f_fetchPc f_parked f_waitingCount f_memCount a_regs a_memory a_progOp a_progA a_progB a_progC a_latency a_counters a_fqPc a_fqNext a_twoBit a_jumpDelta a_robPc a_robPredicted a_robState a_robRemaining a_robValue a_robFault a_robNext a_robSrc1 a_robVal1 a_robSrc2 a_robVal2 a_robOp a_robC a_robDest a_mapSlot a_unitBusy a_settings a_queuePc a_queueNext a_ePc a_ePredicted a_eState a_eRemaining a_eValue a_eFault a_eNext a_eWait1 a_eVal1 a_eWait2 a_eVal2 hp hq hz HR
    have hz : c = c0 := hz
    have hp : p = c := by omega
    obtain ⟨⟨H, hb, hpk, hpc⟩, hph, hwe⟩ := HR
    refine ⟨(w, rs, len, qh, qc, h, c, f_stations, f_queueSize, f_phase, f_pc, f_epc, f_cause, f_handling, f_vector, f_fetchPc, f_parked, f_waitingCount, f_memCount, a_regs, a_memory, a_progOp, a_progA, a_progB, a_progC, a_latency, a_counters, a_fqPc, a_fqNext, a_twoBit, a_jumpDelta, a_robPc, a_robPredicted, a_robState, a_robRemaining, a_robValue, a_robFault, a_robNext, a_robSrc1, a_robVal1, a_robSrc2, a_robVal2, a_robOp, a_robC, a_robDest, a_mapSlot, a_unitBusy, a_settings, a_queuePc, a_queueNext, a_ePc, a_ePredicted, a_eState, a_eRemaining, a_eValue, a_eFault, a_eNext, a_eWait1, a_eVal1, a_eWait2, a_eVal2), ⟨⟨H, hb, hpk, hpc⟩, hph, hwe⟩, ?_⟩
    obtain ⟨_, hP, hQ, ⟨hh, hc, _⟩, _⟩ := H
    refine ⟨fun post n hn G => ?_, fun post n hn G => ?_⟩
    · obtain ⟨n, rfl⟩ : ∃ m, n = m + 1 := ⟨n - 1, by omega⟩
      show wX_issueStage_4 post (n + 1) (nI q) (nI p) (nI rs) f_stations f_queueSize (nI w) f_phase f_pc f_epc f_cause f_handling f_vector (nI len) f_fetchPc f_parked (nI qh) (nI qc) (nI h) (nI c) f_waitingCount f_memCount a_regs a_memory a_progOp a_progA a_progB a_progC a_latency a_counters a_fqPc a_fqNext a_twoBit a_jumpDelta a_robPc a_robPredicted a_robState a_robRemaining a_robValue a_robFault a_robNext a_robSrc1 a_robVal1 a_robSrc2 a_robVal2 a_robOp a_robC a_robDest a_mapSlot a_unitBusy
      exact br_t (nI_le (by omega) (by omega)) G
    · obtain ⟨n, rfl⟩ : ∃ m, n = m + 1 := ⟨n - 1, by omega⟩
      show wY_issueStage_4 post (n + 1) (nI q) (nI p) f_pc f_epc f_cause f_handling f_vector f_phase (nI len) f_fetchPc f_parked (nI qc) (nI c) a_regs a_memory a_progOp a_progA a_progB a_progC a_counters a_settings a_queuePc a_queueNext a_twoBit a_jumpDelta a_ePc a_ePredicted a_eState a_eRemaining a_eValue a_eFault a_eNext a_eWait1 a_eVal1 a_eWait2 a_eVal2
      exact br_c (fun _ => G) (fun _ => br_t (nI_le (by omega) (by omega)) G)
  | succ d ih =>
    intro p q
    refine rc_el ?_
    intro w rs len qh qc h c f_stations f_queueSize f_phase f_pc f_epc f_cause f_handling f_vector f_fetchPc f_parked f_waitingCount f_memCount a_regs a_memory a_progOp a_progA a_progB a_progC a_latency a_counters a_fqPc a_fqNext a_twoBit a_jumpDelta a_robPc a_robPredicted a_robState a_robRemaining a_robValue a_robFault a_robNext a_robSrc1 a_robVal1 a_robSrc2 a_robVal2 a_robOp a_robC a_robDest a_mapSlot a_unitBusy a_settings a_queuePc a_queueNext a_ePc a_ePredicted a_eState a_eRemaining a_eValue a_eFault a_eNext a_eWait1 a_eVal1 a_eWait2 a_eVal2 hp hq hz HR
    have hz : c = c0 := hz
    obtain ⟨⟨H, hb, hpk, hpc⟩, hph, hwe⟩ := HR
    have H' : rc_F0 w rs len qh qc h c f_stations f_queueSize f_waitingCount f_memCount a_latency a_settings a_progOp a_progA a_progB a_progC a_fqPc a_fqNext a_queuePc a_queueNext a_robPc a_robPredicted a_robState a_robRemaining a_robValue a_robFault a_robNext a_robSrc1 a_robVal1 a_robSrc2 a_robVal2 a_robOp a_robC a_robDest a_ePc a_ePredicted a_eState a_eRemaining a_eValue a_eFault a_eNext a_eWait1 a_eVal1 a_eWait2 a_eVal2 a_mapSlot a_unitBusy := H
    have hph : f_phase = 1 := hph
    have hwe : w = e := hwe
    obtain ⟨⟨hw1, hw3, _, _, _, _, hs10, hset⟩, hP, hQ, ⟨hh, hc, _⟩, _⟩ := H
    have kc : ¬ nI c ≤ nI p := nI_ge (by omega) (by omega)
    by_cases hqe : q < w
    · have kw : ¬ nI w ≤ nI q := nI_ge (by omega) (by omega)
      rcases j_is (w := w) (rs := rs) (len := len) (qh := qh) (qc := qc) (h := h) (c := c) (f_stations := f_stations) (f_queueSize := f_queueSize) (f_phase := f_phase) (f_pc := f_pc) (f_epc := f_epc) (f_cause := f_cause) (f_handling := f_handling) (f_vector := f_vector) (f_fetchPc := f_fetchPc) (f_parked := f_parked) (f_waitingCount := f_waitingCount) (f_memCount := f_memCount) (a_regs := a_regs) (a_memory := a_memory) (a_progOp := a_progOp) (a_progA := a_progA) (a_progB := a_progB) (a_progC := a_progC) (a_latency := a_latency) (a_counters := a_counters) (a_fqPc := a_fqPc) (a_fqNext := a_fqNext) (a_twoBit := a_twoBit) (a_jumpDelta := a_jumpDelta) (a_robPc := a_robPc) (a_robPredicted := a_robPredicted) (a_robState := a_robState) (a_robRemaining := a_robRemaining) (a_robValue := a_robValue) (a_robFault := a_robFault) (a_robNext := a_robNext) (a_robSrc1 := a_robSrc1) (a_robVal1 := a_robVal1) (a_robSrc2 := a_robSrc2) (a_robVal2 := a_robVal2) (a_robOp := a_robOp) (a_robC := a_robC) (a_robDest := a_robDest) (a_mapSlot := a_mapSlot) (a_unitBusy := a_unitBusy) (a_settings := a_settings) (a_queuePc := a_queuePc) (a_queueNext := a_queueNext) (a_ePc := a_ePc) (a_ePredicted := a_ePredicted) (a_eState := a_eState) (a_eRemaining := a_eRemaining) (a_eValue := a_eValue) (a_eFault := a_eFault) (a_eNext := a_eNext) (a_eWait1 := a_eWait1) (a_eVal1 := a_eVal1) (a_eWait2 := a_eWait2) (a_eVal2 := a_eVal2) (p := p) H' (by omega) hqe with ⟨iX, iY⟩ | ⟨Rm, Vl, Ft, Nx, rm, vl, ft, nx, u0, ct, hF, iX, iY⟩
      · obtain ⟨z', h1, h2, h3⟩ := ih (p + 1) q (w, rs, len, qh, qc, h, c, f_stations, f_queueSize, f_phase, f_pc, f_epc, f_cause, f_handling, f_vector, f_fetchPc, f_parked, f_waitingCount, f_memCount, a_regs, a_memory, a_progOp, a_progA, a_progB, a_progC, a_latency, a_counters, a_fqPc, a_fqNext, a_twoBit, a_jumpDelta, a_robPc, a_robPredicted, a_robState, a_robRemaining, a_robValue, a_robFault, a_robNext, a_robSrc1, a_robVal1, a_robSrc2, a_robVal2, a_robOp, a_robC, a_robDest, a_mapSlot, a_unitBusy, a_settings, a_queuePc, a_queueNext, a_ePc, a_ePredicted, a_eState, a_eRemaining, a_eValue, a_eFault, a_eNext, a_eWait1, a_eVal1, a_eWait2, a_eVal2) (by omega) hq hz ⟨⟨H', hb, hpk, Or.inl hph⟩, hph, hwe⟩
        refine ⟨z', h1, fun post n hn G => ?_, fun post n hn G => ?_⟩
        · obtain ⟨n, rfl⟩ : ∃ m, n = m + 1 := ⟨n - 1, by omega⟩
          have g := h2 post n (by omega) G
          show wX_issueStage_4 post (n + 1) (nI q) (nI p) (nI rs) f_stations f_queueSize (nI w) f_phase f_pc f_epc f_cause f_handling f_vector (nI len) f_fetchPc f_parked (nI qh) (nI qc) (nI h) (nI c) f_waitingCount f_memCount a_regs a_memory a_progOp a_progA a_progB a_progC a_latency a_counters a_fqPc a_fqNext a_twoBit a_jumpDelta a_robPc a_robPredicted a_robState a_robRemaining a_robValue a_robFault a_robNext a_robSrc1 a_robVal1 a_robSrc2 a_robVal2 a_robOp a_robC a_robDest a_mapSlot a_unitBusy
          exact br_f kc (br_f kw (iX _ (br_t rfl (nm_r (nI_1 p) g))))
        · obtain ⟨n, rfl⟩ : ∃ m, n = m + 1 := ⟨n - 1, by omega⟩
          exact iY post n (h3 post n (by omega) G)
      · obtain ⟨z', h1, h2, h3⟩ := ih (p + 1) (q + 1) (w, rs, len, qh, qc, h, c, f_stations, f_queueSize, f_phase, f_pc, f_epc, f_cause, f_handling, f_vector, f_fetchPc, f_parked, (f_waitingCount - 1), f_memCount, a_regs, a_memory, a_progOp, a_progA, a_progB, a_progC, a_latency, ct, a_fqPc, a_fqNext, a_twoBit, a_jumpDelta, a_robPc, a_robPredicted, (upd a_robState ((h + p) % 16) 2), Rm, Vl, Ft, Nx, a_robSrc1, a_robVal1, a_robSrc2, a_robVal2, a_robOp, a_robC, a_robDest, a_mapSlot, (upd a_unitBusy u0 (a_unitBusy u0 + 1)), a_settings, a_queuePc, a_queueNext, a_ePc, a_ePredicted, (upd a_eState p 2), rm, vl, ft, nx, a_eWait1, a_eVal1, a_eWait2, a_eVal2) (by omega) (by omega) hz ⟨⟨hF, hb, hpk, Or.inl hph⟩, hph, hwe⟩
        refine ⟨z', h1, fun post n hn G => ?_, fun post n hn G => ?_⟩
        · obtain ⟨n, rfl⟩ : ∃ m, n = m + 1 := ⟨n - 1, by omega⟩
          have g := h2 post n (by omega) G
          show wX_issueStage_4 post (n + 1) (nI q) (nI p) (nI rs) f_stations f_queueSize (nI w) f_phase f_pc f_epc f_cause f_handling f_vector (nI len) f_fetchPc f_parked (nI qh) (nI qc) (nI h) (nI c) f_waitingCount f_memCount a_regs a_memory a_progOp a_progA a_progB a_progC a_latency a_counters a_fqPc a_fqNext a_twoBit a_jumpDelta a_robPc a_robPredicted a_robState a_robRemaining a_robValue a_robFault a_robNext a_robSrc1 a_robVal1 a_robSrc2 a_robVal2 a_robOp a_robC a_robDest a_mapSlot a_unitBusy
          exact br_f kc (br_f kw (iX _ (br_f (by decide) (nm_r (nI_1 q) (nm_r (nI_1 p) g)))))
        · obtain ⟨n, rfl⟩ : ∃ m, n = m + 1 := ⟨n - 1, by omega⟩
          exact iY post n (h3 post n (by omega) G)
    · have kw : nI w ≤ nI q := nI_le (by omega) (by omega)
      refine ⟨(w, rs, len, qh, qc, h, c, f_stations, f_queueSize, f_phase, f_pc, f_epc, f_cause, f_handling, f_vector, f_fetchPc, f_parked, f_waitingCount, f_memCount, a_regs, a_memory, a_progOp, a_progA, a_progB, a_progC, a_latency, a_counters, a_fqPc, a_fqNext, a_twoBit, a_jumpDelta, a_robPc, a_robPredicted, a_robState, a_robRemaining, a_robValue, a_robFault, a_robNext, a_robSrc1, a_robVal1, a_robSrc2, a_robVal2, a_robOp, a_robC, a_robDest, a_mapSlot, a_unitBusy, a_settings, a_queuePc, a_queueNext, a_ePc, a_ePredicted, a_eState, a_eRemaining, a_eValue, a_eFault, a_eNext, a_eWait1, a_eVal1, a_eWait2, a_eVal2), ⟨⟨H', hb, hpk, Or.inl hph⟩, hph, hwe⟩, fun post n hn G => ?_, fun post n hn G => ?_⟩
      · obtain ⟨n, rfl⟩ : ∃ m, n = m + 1 := ⟨n - 1, by omega⟩
        show wX_issueStage_4 post (n + 1) (nI q) (nI p) (nI rs) f_stations f_queueSize (nI w) f_phase f_pc f_epc f_cause f_handling f_vector (nI len) f_fetchPc f_parked (nI qh) (nI qc) (nI h) (nI c) f_waitingCount f_memCount a_regs a_memory a_progOp a_progA a_progB a_progC a_latency a_counters a_fqPc a_fqNext a_twoBit a_jumpDelta a_robPc a_robPredicted a_robState a_robRemaining a_robValue a_robFault a_robNext a_robSrc1 a_robVal1 a_robSrc2 a_robVal2 a_robOp a_robC a_robDest a_mapSlot a_unitBusy
        exact br_f kc (br_t kw G)
      · exact y_skip hc (by rw [hs10]; exact kw) (d + 1) p (by omega) post n hn G
theorem j_issueStage {e : Nat} (z : rc_Z) (H : rc_RU e z) : ∃ z', rc_RU e z' ∧ (∀ post : SX → Prop, post (rc_zX z') → wpX_issueStage post (rc_zX z)) ∧ (∀ post : SY → Prop, post (rc_zY z') → wpY_issueStage post (rc_zY z)) := by
  obtain ⟨z', h1, h2, h3⟩ := j_isLoop (e := e) (c0 := rc_zc z) (rc_zc z) 0 0 z (by omega) (by omega) rfl H
  exact ⟨z', h1, fun post G => ⟨_, h2 post (rc_zc z + 1) (by omega) G⟩, fun post G => ⟨_, h3 post (rc_zc z + 1) (by omega) G⟩⟩
end
end
section
/-! counts and the youngest writer on Y; operands on both sides -/
/-- the register r, the place waited on and the value -/
def rc_OP (c : Nat) (d rg es ev : Nat → Int32) (r W V : Int32) : Prop :=
  (r = -1 ∧ W = -1 ∧ V = 0) ∨ (∃ j, j ≤ 7 ∧ r = nI j ∧ ((rc_yw d r c = -1 ∧ W = -1 ∧ V = rg j) ∨ (∃ t, t < c ∧ rc_yw d r c = nI t ∧ (es t = 3 ∧ W = -1 ∧ V = ev t ∨ ¬ es t = 3 ∧ W = nI t ∧ V = 0))))
theorem op_ex {c : Nat} {d rg es ev : Nat → Int32} {r : Int32} (hr : rc_d8 r) : ∃ W V, rc_OP c d rg es ev r W V := by
  rcases hr with e | ⟨j, hj, e⟩
  · exact ⟨-1, 0, Or.inl ⟨e, rfl, rfl⟩⟩
  · rcases yw_w (d := d) (r := r) c with y | ⟨t, ht, y, _⟩
    · exact ⟨-1, rg j, Or.inr ⟨j, hj, e, Or.inl ⟨y, rfl, rfl⟩⟩⟩
    · by_cases q : es t = 3
      · exact ⟨-1, ev t, Or.inr ⟨j, hj, e, Or.inr ⟨t, ht, y, Or.inl ⟨q, rfl, rfl⟩⟩⟩⟩
      · exact ⟨nI t, 0, Or.inr ⟨j, hj, e, Or.inr ⟨t, ht, y, Or.inr ⟨q, rfl, rfl⟩⟩⟩⟩
theorem op_wt {c : Nat} {d rg es ev : Nat → Int32} {r W V : Int32} (h : rc_OP c d rg es ev r W V) : rc_wt es c W := by
  rcases h with h | ⟨j, hj, e, h | ⟨t, ht, y, h | h⟩⟩
  · exact Or.inl h.2.1
  · exact Or.inl h.2.1
  · exact Or.inl h.2.1
  · exact Or.inr ⟨t, ht, h.2.1, h.1⟩
section
variable {w rs len qh qc h c : Nat} {f_stations f_queueSize f_phase f_pc f_epc f_cause f_handling f_vector f_fetchPc f_parked f_waitingCount f_memCount : Int32} {a_regs a_memory a_progOp a_progA a_progB a_progC a_latency a_counters a_fqPc a_fqNext a_twoBit a_jumpDelta a_robPc a_robPredicted a_robState a_robRemaining a_robValue a_robFault a_robNext a_robSrc1 a_robVal1 a_robSrc2 a_robVal2 a_robOp a_robC a_robDest a_mapSlot a_unitBusy a_settings a_queuePc a_queueNext a_ePc a_ePredicted a_eState a_eRemaining a_eValue a_eFault a_eNext a_eWait1 a_eVal1 a_eWait2 a_eVal2 : Nat → Int32}
theorem y_wc4 (hc : c ≤ 16) : ∀ (d i : Nat), i + d = c → ∀ (post : Int32 → Prop) (n : Nat), d < n → post (rc_cn (rc_pw a_eState) c) → wY_waitingCount_4 post f_pc f_epc f_cause f_handling f_vector f_phase (nI len) f_fetchPc f_parked (nI qc) (nI c) a_regs a_memory a_progOp a_progA a_progB a_progC a_counters a_settings a_queuePc a_queueNext a_twoBit a_jumpDelta a_ePc a_ePredicted a_eState a_eRemaining a_eValue a_eFault a_eNext a_eWait1 a_eVal1 a_eWait2 a_eVal2 n (rc_cn (rc_pw a_eState) i) (nI i) := by
  intro d
  induction d with
  | zero =>
    intro i hi post n hn H
    have hi : i = c := by omega
    subst hi
    obtain ⟨n, rfl⟩ : ∃ m, n = m + 1 := ⟨n - 1, by omega⟩
    exact br_c (fun _ => H) (fun _ => br_t (nI_le (Nat.le_refl _) (by omega)) H)
  | succ d ih =>
    intro i hi post n hn H
    obtain ⟨n, rfl⟩ : ∃ m, n = m + 1 := ⟨n - 1, by omega⟩
    have g := ih (i + 1) (by omega) post n (by omega) H
    refine br_f (nI_ge (b := 16) (by omega) (by omega)) (br_f (nI_ge (by omega) (by omega)) (And.intro (vp_in_nI (by omega) (by omega)) ?_))
    rw [nI_clamp (by omega)]
    rw [rc_cn] at g
    by_cases q : a_eState i = 1
    · rw [if_pos (pw_t q)] at g
      exact br_t q (nm_e (nm_r (nI_1 i) g))
    · rw [if_neg (bl_f (pw_f q))] at g
      exact br_f q (nm_r (nI_1 i) g)
theorem y_waitingCount {post : Int32 → Prop} (hc : c ≤ 16) (H : post (rc_cn (rc_pw a_eState) c)) : wpY_waitingCount post (f_pc, f_epc, f_cause, f_handling, f_vector, f_phase, (nI len), f_fetchPc, f_parked, (nI qc), (nI c), a_regs, a_memory, a_progOp, a_progA, a_progB, a_progC, a_counters, a_settings, a_queuePc, a_queueNext, a_twoBit, a_jumpDelta, a_ePc, a_ePredicted, a_eState, a_eRemaining, a_eValue, a_eFault, a_eNext, a_eWait1, a_eVal1, a_eWait2, a_eVal2) := ⟨c + 1, y_wc4 hc c 0 (by omega) post (c + 1) (by omega) H⟩
theorem y_lc4 (hl : len ≤ 64) (hc : c ≤ 16) : ∀ (d i : Nat), i + d = c → ∀ (post : Int32 → Prop) (n : Nat), d < n → post (rc_cn (rc_pm len a_progOp a_ePc) c) → wY_loadStoreCount_4 post f_pc f_epc f_cause f_handling f_vector f_phase (nI len) f_fetchPc f_parked (nI qc) (nI c) a_regs a_memory a_progOp a_progA a_progB a_progC a_counters a_settings a_queuePc a_queueNext a_twoBit a_jumpDelta a_ePc a_ePredicted a_eState a_eRemaining a_eValue a_eFault a_eNext a_eWait1 a_eVal1 a_eWait2 a_eVal2 n (rc_cn (rc_pm len a_progOp a_ePc) i) (nI i) := by
  intro d
  induction d with
  | zero =>
    intro i hi post n hn H
    have hi : i = c := by omega
    subst hi
    obtain ⟨n, rfl⟩ : ∃ m, n = m + 1 := ⟨n - 1, by omega⟩
    exact br_c (fun _ => H) (fun _ => br_t (nI_le (Nat.le_refl _) (by omega)) H)
  | succ d ih =>
    intro i hi post n hn H
    obtain ⟨n, rfl⟩ : ∃ m, n = m + 1 := ⟨n - 1, by omega⟩
    have g := ih (i + 1) (by omega) post n (by omega) H
    refine br_f (nI_ge (b := 16) (by omega) (by omega)) (br_f (nI_ge (by omega) (by omega)) (And.intro (vp_in_nI (by omega) (by omega)) ?_))
    rw [nI_clamp (by omega)]
    refine y_opAt hl ?_
    rw [rc_cn] at g
    by_cases q : rc_op len a_progOp (a_ePc i) = 10
    · rw [if_pos (pm_t (Or.inl q))] at g
      exact br_t q (nm_e (nm_r (nI_1 i) g))
    · by_cases q1 : rc_op len a_progOp (a_ePc i) = 11
      · rw [if_pos (pm_t (Or.inr q1))] at g
        exact br_f q (br_t q1 (nm_e (nm_r (nI_1 i) g)))
      · rw [if_neg (bl_f (pm_f (fun z => z.elim q q1)))] at g
        exact br_f q (br_f q1 (nm_r (nI_1 i) g))
theorem y_loadStoreCount {post : Int32 → Prop} (hl : len ≤ 64) (hc : c ≤ 16) (H : post (rc_cn (rc_pm len a_progOp a_ePc) c)) : wpY_loadStoreCount post (f_pc, f_epc, f_cause, f_handling, f_vector, f_phase, (nI len), f_fetchPc, f_parked, (nI qc), (nI c), a_regs, a_memory, a_progOp, a_progA, a_progB, a_progC, a_counters, a_settings, a_queuePc, a_queueNext, a_twoBit, a_jumpDelta, a_ePc, a_ePredicted, a_eState, a_eRemaining, a_eValue, a_eFault, a_eNext, a_eWait1, a_eVal1, a_eWait2, a_eVal2) := ⟨c + 1, y_lc4 hl hc c 0 (by omega) post (c + 1) (by omega) H⟩
theorem y_yw4 {r : Int32} (hl : len ≤ 64) (hc : c ≤ 16) (hr : ¬ r = -1) : ∀ (d i : Nat), i + d = c → ∀ (post : Int32 → Prop) (n : Nat), d < n → post (rc_yw (fun i => rc_dt len a_progOp a_progA a_progC (a_ePc i)) r c) → wY_youngestWriter_4 post r f_pc f_epc f_cause f_handling f_vector f_phase (nI len) f_fetchPc f_parked (nI qc) (nI c) a_regs a_memory a_progOp a_progA a_progB a_progC a_counters a_settings a_queuePc a_queueNext a_twoBit a_jumpDelta a_ePc a_ePredicted a_eState a_eRemaining a_eValue a_eFault a_eNext a_eWait1 a_eVal1 a_eWait2 a_eVal2 n (rc_yw (fun i => rc_dt len a_progOp a_progA a_progC (a_ePc i)) r i) (nI i) := by
  intro d
  induction d with
  | zero =>
    intro i hi post n hn H
    have hi : i = c := by omega
    subst hi
    obtain ⟨n, rfl⟩ : ∃ m, n = m + 1 := ⟨n - 1, by omega⟩
    exact br_c (fun _ => H) (fun _ => br_t (nI_le (Nat.le_refl _) (by omega)) H)
  | succ d ih =>
    intro i hi post n hn H
    obtain ⟨n, rfl⟩ : ∃ m, n = m + 1 := ⟨n - 1, by omega⟩
    have g := ih (i + 1) (by omega) post n (by omega) H
    refine br_f (nI_ge (b := 16) (by omega) (by omega)) (br_f (nI_ge (by omega) (by omega)) (And.intro (vp_in_nI (by omega) (by omega)) ?_))
    rw [nI_clamp (by omega)]
    refine y_destinationAt hl ?_
    rw [rc_yw] at g
    by_cases q : rc_dt len a_progOp a_progA a_progC (a_ePc i) = -1
    · rw [if_neg (fun z => hr (z.symm.trans q))] at g
      exact br_t q (nm_r (nI_1 i) g)
    · by_cases q1 : rc_dt len a_progOp a_progA a_progC (a_ePc i) = r
      · rw [if_pos q1] at g
        exact br_f q (br_t q1 (nm_r (nI_1 i) g))
      · rw [if_neg q1] at g
        exact br_f q (br_f q1 (nm_r (nI_1 i) g))
theorem y_youngestWriter {r : Int32} {post : Int32 → Prop} (hl : len ≤ 64) (hc : c ≤ 16) (hr : ¬ r = -1) (H : post (rc_yw (fun i => rc_dt len a_progOp a_progA a_progC (a_ePc i)) r c)) : wpY_youngestWriter post (f_pc, f_epc, f_cause, f_handling, f_vector, f_phase, (nI len), f_fetchPc, f_parked, (nI qc), (nI c), a_regs, a_memory, a_progOp, a_progA, a_progB, a_progC, a_counters, a_settings, a_queuePc, a_queueNext, a_twoBit, a_jumpDelta, a_ePc, a_ePredicted, a_eState, a_eRemaining, a_eValue, a_eFault, a_eNext, a_eWait1, a_eVal1, a_eWait2, a_eVal2) r := ⟨c + 1, y_yw4 hl hc hr c 0 (by omega) post (c + 1) (by omega) H⟩
/-! X's operands -/
theorem x_source {r W V : Int32} {post : Int32 → Prop} (hh : h < 16) (hc : c ≤ 16) (hM : rc_Mp h c len a_progOp a_progA a_progC a_ePc a_mapSlot) (r3 : rc_RA 16 h c a_robState a_eState) (hO : rc_OP c (fun i => rc_dt len a_progOp a_progA a_progC (a_ePc i)) a_regs a_eState a_eValue r W V) (H : post (rc_sl h W)) : wpX_operandSource post ((nI rs), f_stations, f_queueSize, (nI w), f_phase, f_pc, f_epc, f_cause, f_handling, f_vector, (nI len), f_fetchPc, f_parked, (nI qh), (nI qc), (nI h), (nI c), f_waitingCount, f_memCount, a_regs, a_memory, a_progOp, a_progA, a_progB, a_progC, a_latency, a_counters, a_fqPc, a_fqNext, a_twoBit, a_jumpDelta, a_robPc, a_robPredicted, a_robState, a_robRemaining, a_robValue, a_robFault, a_robNext, a_robSrc1, a_robVal1, a_robSrc2, a_robVal2, a_robOp, a_robC, a_robDest, a_mapSlot, a_unitBusy) r := by
  rcases hO with ⟨e, eW, _⟩ | ⟨j, hj, e, hO⟩
  · rw [eW, sl_m] at H
    exact br_t (by rw [e]; decide) H
  · subst e
    have em := hM j (by omega)
    refine br_f (nI_pos (by omega)) (br_t (nI_le (b := 7) hj (by omega)) (And.intro (in_8 hj) ?_))
    rw [nI_clamp (by omega)]
    rcases hO with ⟨y, eW, _⟩ | ⟨t, ht, y, hO⟩
    · rw [y, sl_m] at em
      rw [eW, sl_m] at H
      exact nm_r em (br_t (by decide) H)
    · rw [y, sl_n hh (by omega)] at em
      refine nm_r em (br_f (nI_pos (by omega)) (br_t (nI_le (b := 15) (by omega) (by omega)) (And.intro (vp_in_nI (by omega) (by omega)) ?_)))
      have e3 : a_robState ((h + t) % 16) = a_eState t := r3 t ht
      rw [nI_clamp (by omega), e3]
      rcases hO with ⟨q, eW, _⟩ | ⟨q, eW, _⟩
      · rw [eW, sl_m] at H
        exact br_t q H
      · rw [eW, sl_n hh (by omega)] at H
        exact br_f q H
theorem x_value {r W V : Int32} {post : Int32 → Prop} (hh : h < 16) (hc : c ≤ 16) (hM : rc_Mp h c len a_progOp a_progA a_progC a_ePc a_mapSlot) (r3 : rc_RA 16 h c a_robState a_eState) (r5 : rc_RA 16 h c a_robValue a_eValue) (hO : rc_OP c (fun i => rc_dt len a_progOp a_progA a_progC (a_ePc i)) a_regs a_eState a_eValue r W V) (H : post V) : wpX_operandValue post ((nI rs), f_stations, f_queueSize, (nI w), f_phase, f_pc, f_epc, f_cause, f_handling, f_vector, (nI len), f_fetchPc, f_parked, (nI qh), (nI qc), (nI h), (nI c), f_waitingCount, f_memCount, a_regs, a_memory, a_progOp, a_progA, a_progB, a_progC, a_latency, a_counters, a_fqPc, a_fqNext, a_twoBit, a_jumpDelta, a_robPc, a_robPredicted, a_robState, a_robRemaining, a_robValue, a_robFault, a_robNext, a_robSrc1, a_robVal1, a_robSrc2, a_robVal2, a_robOp, a_robC, a_robDest, a_mapSlot, a_unitBusy) r := by
  rcases hO with ⟨e, _, eV⟩ | ⟨j, hj, e, hO⟩
  · rw [eV] at H
    exact br_t (by rw [e]; decide) H
  · subst e
    have em := hM j (by omega)
    refine br_f (nI_pos (by omega)) (br_t (nI_le (b := 7) hj (by omega)) (And.intro (in_8 hj) ?_))
    rw [nI_clamp (by omega)]
    rcases hO with ⟨y, _, eV⟩ | ⟨t, ht, y, hO⟩
    · rw [y, sl_m] at em
      rw [eV] at H
      exact nm_r em (br_t (by decide) (And.intro (in_8 hj) H))
    · rw [y, sl_n hh (by omega)] at em
      have hin : vp_in (nI ((h + t) % 16)) 16 := vp_in_nI (by omega) (by omega)
      refine nm_r em (br_f (nI_pos (by omega)) (br_t (nI_le (b := 15) (by omega) (by omega)) (And.intro hin ?_)))
      have e3 : a_robState ((h + t) % 16) = a_eState t := r3 t ht
      have e5 : a_robValue ((h + t) % 16) = a_eValue t := r5 t ht
      rw [nI_clamp (n := (h + t) % 16) (by omega), e3, e5]
      rcases hO with ⟨q, _, eV⟩ | ⟨q, _, eV⟩
      · rw [eV] at H
        exact br_t q (And.intro hin H)
      · rw [eV] at H
        exact br_f q H
theorem x_readOperands {s : Nat} {op a b d W1 v1 W2 v2 : Int32} {post : SX → Prop} (hh : h < 16) (hc : c ≤ 16) (hs : s < 16) (hM : rc_Mp h c len a_progOp a_progA a_progC a_ePc a_mapSlot) (r3 : rc_RA 16 h c a_robState a_eState) (r5 : rc_RA 16 h c a_robValue a_eValue) (eo : a_robOp s = op) (ed : a_robC s = d)
    (hO1 : rc_OP c (fun i => rc_dt len a_progOp a_progA a_progC (a_ePc i)) a_regs a_eState a_eValue (rc_r1 op a b) W1 v1) (hO2 : rc_OP c (fun i => rc_dt len a_progOp a_progA a_progC (a_ePc i)) a_regs a_eState a_eValue (rc_r2 op a b d) W2 v2)
    (H : post ((nI rs), f_stations, f_queueSize, (nI w), f_phase, f_pc, f_epc, f_cause, f_handling, f_vector, (nI len), f_fetchPc, f_parked, (nI qh), (nI qc), (nI h), (nI c), f_waitingCount, f_memCount, a_regs, a_memory, a_progOp, a_progA, a_progB, a_progC, a_latency, a_counters, a_fqPc, a_fqNext, a_twoBit, a_jumpDelta, a_robPc, a_robPredicted, a_robState, a_robRemaining, a_robValue, a_robFault, a_robNext, (upd a_robSrc1 s (rc_sl h W1)), (upd a_robVal1 s v1), (upd a_robSrc2 s (rc_sl h W2)), (upd a_robVal2 s v2), a_robOp, a_robC, a_robDest, a_mapSlot, a_unitBusy)) : wpX_readOperands post ((nI rs), f_stations, f_queueSize, (nI w), f_phase, f_pc, f_epc, f_cause, f_handling, f_vector, (nI len), f_fetchPc, f_parked, (nI qh), (nI qc), (nI h), (nI c), f_waitingCount, f_memCount, a_regs, a_memory, a_progOp, a_progA, a_progB, a_progC, a_latency, a_counters, a_fqPc, a_fqNext, a_twoBit, a_jumpDelta, a_robPc, a_robPredicted, a_robState, a_robRemaining, a_robValue, a_robFault, a_robNext, a_robSrc1, a_robVal1, a_robSrc2, a_robVal2, a_robOp, a_robC, a_robDest, a_mapSlot, a_unitBusy) (nI s) a b := by
  have hin : vp_in (nI s) 16 := vp_in_nI hs (by omega)
  have hcl : (nI s).toNatClampNeg = s := nI_clamp (by omega)
  refine And.intro hin (nm_r (e' := op) (by rw [hcl, eo]) (x_firstRegister (x_source hh hc hM r3 hO1 (And.intro hin ?_))))
  rw [hcl]
  refine nm_e (x_value hh hc hM r3 r5 hO1 (And.intro hin (nm_e (And.intro hin ?_))))
  rw [ed]
  exact x_secondRegister (x_source hh hc hM r3 hO2 (And.intro hin (nm_e (x_value hh hc hM r3 r5 hO2 (And.intro hin (nm_e H))))))
/-! Y's operands -/
theorem y_299 {k : Int32} {p pd op cc dn W1 v1 W2 v2 : Int32} {post : SY → Prop} {J2} (hl : len ≤ 64) (hc : c ≤ 16) (hO2 : rc_OP c (fun i => rc_dt len a_progOp a_progA a_progC (a_ePc i)) a_regs a_eState a_eValue (rc_r2 (rc_op len a_progOp p) (rc_fa len a_progA p) (rc_fa len a_progB p) (rc_fa len a_progC p)) W2 v2) (H : wY_dispatchStage_370 post J2 k p pd op cc dn W1 v1 W2 v2 f_pc f_epc f_cause f_handling f_vector f_phase (nI len) f_fetchPc f_parked (nI qc) (nI c) a_regs a_memory a_progOp a_progA a_progB a_progC a_counters a_settings a_queuePc a_queueNext a_twoBit a_jumpDelta a_ePc a_ePredicted a_eState a_eRemaining a_eValue a_eFault a_eNext a_eWait1 a_eVal1 a_eWait2 a_eVal2) : wY_dispatchStage_299 post J2 k p pd op cc dn W1 v1 f_pc f_epc f_cause f_handling f_vector f_phase (nI len) f_fetchPc f_parked (nI qc) (nI c) a_regs a_memory a_progOp a_progA a_progB a_progC a_counters a_settings a_queuePc a_queueNext a_twoBit a_jumpDelta a_ePc a_ePredicted a_eState a_eRemaining a_eValue a_eFault a_eNext a_eWait1 a_eVal1 a_eWait2 a_eVal2 := by
  unfold wY_dispatchStage_299
  refine y_secondRegisterAt hl ?_
  rcases hO2 with ⟨e, eW, eV⟩ | ⟨j, hj, e, hO⟩
  · subst eW eV
    exact br_t e H
  · have hn : ¬ rc_r2 (rc_op len a_progOp p) (rc_fa len a_progA p) (rc_fa len a_progB p) (rc_fa len a_progC p) = -1 := by rw [e]; exact rc_nm1 (by omega)
    refine br_f hn (y_youngestWriter hl hc hn ?_)
    rcases hO with ⟨y, eW, eV⟩ | ⟨t, ht, y, hO⟩
    · subst eW
      rw [y]
      refine br_t rfl (y_reg ?_)
      rw [e, rg_n hj, ← eV]
      exact H
    · rw [y]
      refine br_f (rc_nm1 (by omega)) (And.intro (vp_in_nI (by omega) (by omega)) ?_)
      rw [nI_clamp (by omega)]
      rcases hO with ⟨q, eW, eV⟩ | ⟨q, eW, eV⟩
      · subst eW
        refine br_t q (And.intro (vp_in_nI (by omega) (by omega)) (nm_r (e' := v2) eV.symm H))
      · subst eW eV
        exact br_f q H
theorem y_218 {k : Int32} {p pd op cc dn W1 v1 W2 v2 : Int32} {post : SY → Prop} {J2} {qd : Nat} (hl : len ≤ 64) (hc : c ≤ 16) (hO1 : rc_OP c (fun i => rc_dt len a_progOp a_progA a_progC (a_ePc i)) a_regs a_eState a_eValue (rc_r1 (rc_op len a_progOp p) (rc_fa len a_progA p) (rc_fa len a_progB p)) W1 v1) (hO2 : rc_OP c (fun i => rc_dt len a_progOp a_progA a_progC (a_ePc i)) a_regs a_eState a_eValue (rc_r2 (rc_op len a_progOp p) (rc_fa len a_progA p) (rc_fa len a_progB p) (rc_fa len a_progC p)) W2 v2) (H : wY_dispatchStage_370 post J2 k p pd op cc dn W1 v1 W2 v2 f_pc f_epc f_cause f_handling f_vector f_phase (nI len) f_fetchPc f_parked (nI qd) (nI c) a_regs a_memory a_progOp a_progA a_progB a_progC a_counters a_settings a_queuePc a_queueNext a_twoBit a_jumpDelta a_ePc a_ePredicted a_eState a_eRemaining a_eValue a_eFault a_eNext a_eWait1 a_eVal1 a_eWait2 a_eVal2) : wY_dispatchStage_218 post J2 k p pd op cc dn f_pc f_epc f_cause f_handling f_vector f_phase (nI len) f_fetchPc f_parked (nI (qd + 1)) (nI c) a_regs a_memory a_progOp a_progA a_progB a_progC a_counters a_settings a_queuePc a_queueNext a_twoBit a_jumpDelta a_ePc a_ePredicted a_eState a_eRemaining a_eValue a_eFault a_eNext a_eWait1 a_eVal1 a_eWait2 a_eVal2 := by
  refine nm_r (nI_pred qd) (y_firstRegisterAt hl ?_)
  rcases hO1 with ⟨e, eW, eV⟩ | ⟨j, hj, e, hO⟩
  · subst eW eV
    exact br_t e (y_299 hl hc hO2 H)
  · have hn : ¬ rc_r1 (rc_op len a_progOp p) (rc_fa len a_progA p) (rc_fa len a_progB p) = -1 := by rw [e]; exact rc_nm1 (by omega)
    refine br_f hn (y_youngestWriter hl hc hn ?_)
    rcases hO with ⟨y, eW, eV⟩ | ⟨t, ht, y, hO⟩
    · subst eW
      rw [y]
      refine br_t rfl (y_reg ?_)
      rw [e, rg_n hj, ← eV]
      exact y_299 hl hc hO2 H
    · rw [y]
      refine br_f (rc_nm1 (by omega)) (And.intro (vp_in_nI (by omega) (by omega)) ?_)
      rw [nI_clamp (by omega)]
      rcases hO with ⟨q, eW, eV⟩ | ⟨q, eW, eV⟩
      · subst eW
        refine br_t q (And.intro (vp_in_nI (by omega) (by omega)) (nm_r (e' := v1) eV.symm (y_299 hl hc hO2 H)))
      · subst eW eV
        exact br_f q (y_299 hl hc hO2 H)
end
end
section
/-! one dispatch, both sides -/
/-- state, value and fault of a new entry -/
def rc_EN (op cc ep ca st vl ft : Int32) : Prop :=
  (¬ op = -1 ∧ ¬ op = 0 ∧ ¬ op = 15 ∧ st = 1 ∧ vl = 0 ∧ ft = 0) ∨ (op = -1 ∧ st = 3 ∧ vl = 0 ∧ ft = 1) ∨ (op = 0 ∧ st = 3 ∧ vl = 0 ∧ ft = 0) ∨
  (op = 15 ∧ st = 3 ∧ ((cc = 0 ∧ vl = 0 ∧ ft = 5) ∨ ((cc = 1 ∨ cc = 2) ∧ vl = 0 ∧ ft = 0) ∨ (cc = 3 ∧ vl = ep ∧ ft = 0) ∨ (cc = 4 ∧ vl = ca ∧ ft = 0) ∨ (¬ cc = 0 ∧ ¬ cc = 1 ∧ ¬ cc = 2 ∧ ¬ cc = 3 ∧ ¬ cc = 4 ∧ vl = 0 ∧ ft = 4)))
theorem en_ex (op cc ep ca : Int32) : ∃ st vl ft, rc_EN op cc ep ca st vl ft := by
  by_cases a : op = -1
  · exact ⟨3, 0, 1, Or.inr (Or.inl ⟨a, rfl, rfl, rfl⟩)⟩
  · by_cases b : op = 0
    · exact ⟨3, 0, 0, Or.inr (Or.inr (Or.inl ⟨b, rfl, rfl, rfl⟩))⟩
    · by_cases d : op = 15
      · by_cases c0 : cc = 0
        · exact ⟨3, 0, 5, Or.inr (Or.inr (Or.inr ⟨d, rfl, Or.inl ⟨c0, rfl, rfl⟩⟩))⟩
        · by_cases c1 : cc = 1 ∨ cc = 2
          · exact ⟨3, 0, 0, Or.inr (Or.inr (Or.inr ⟨d, rfl, Or.inr (Or.inl ⟨c1, rfl, rfl⟩)⟩))⟩
          · by_cases c3 : cc = 3
            · exact ⟨3, ep, 0, Or.inr (Or.inr (Or.inr ⟨d, rfl, Or.inr (Or.inr (Or.inl ⟨c3, rfl, rfl⟩))⟩))⟩
            · by_cases c4 : cc = 4
              · exact ⟨3, ca, 0, Or.inr (Or.inr (Or.inr ⟨d, rfl, Or.inr (Or.inr (Or.inr (Or.inl ⟨c4, rfl, rfl⟩)))⟩))⟩
              · exact ⟨3, 0, 4, Or.inr (Or.inr (Or.inr ⟨d, rfl, Or.inr (Or.inr (Or.inr (Or.inr ⟨c0, fun z => c1 (Or.inl z), fun z => c1 (Or.inr z), c3, c4, rfl, rfl⟩)))⟩))⟩
      · exact ⟨1, 0, 0, Or.inl ⟨a, b, d, rfl, rfl, rfl⟩⟩
theorem ns_1 {op : Int32} (ho : rc_o16 op) (a : ¬ op = -1) (b : ¬ op = 0) (d : ¬ op = 15) : rc_ns op = 1 ∧ 1 ≤ op ∧ op ≤ 14 := by
  rcases ho with e | ⟨o, ho, e⟩
  · exact absurd e a
  · subst e
    have h0 : ¬ o = 0 := fun z => b (by rw [z]; rfl)
    have h15 : ¬ o = 15 := fun z => d (by rw [z]; rfl)
    refine ⟨?_, nI_le (a := 1) (by omega) (by omega), nI_le (b := 14) (by omega) (by omega)⟩
    rw [rc_ns, if_neg (nI_nle (by omega) (by omega)), if_neg]
    exact nI_ge (b := 15) (by omega) (by omega)
theorem up_2 {f : Nat → Int32} {k : Nat} {a b : Int32} : upd (upd f k a) k b = upd f k b := by
  funext i
  by_cases q : i = k
  · rw [q, pk_us, pk_us]
  · rw [pk_un q, pk_un q, pk_un q]
theorem ra_k {x y : Nat → Int32} {h0 c0 : Nat} {v : Int32} (hc : c0 < 16) (R : rc_RA 16 h0 c0 x y) : rc_RA 16 h0 c0 (upd x ((h0 + c0) % 16) v) y := by
  intro i hi
  rw [pk_un (by omega)]
  exact R i hi
section
variable {w rs len qh qc h c : Nat} {f_stations f_queueSize f_phase f_pc f_epc f_cause f_handling f_vector f_fetchPc f_parked f_waitingCount f_memCount : Int32} {a_regs a_memory a_progOp a_progA a_progB a_progC a_latency a_counters a_fqPc a_fqNext a_twoBit a_jumpDelta a_robPc a_robPredicted a_robState a_robRemaining a_robValue a_robFault a_robNext a_robSrc1 a_robVal1 a_robSrc2 a_robVal2 a_robOp a_robC a_robDest a_mapSlot a_unitBusy a_settings a_queuePc a_queueNext a_ePc a_ePredicted a_eState a_eRemaining a_eValue a_eFault a_eNext a_eWait1 a_eVal1 a_eWait2 a_eVal2 : Nat → Int32}
theorem x_enter {s : Nat} {op cc st vl ft wc mc : Int32} {V0 F0 : Nat → Int32} {post : SX → Prop} (hs : s < 16) (ho : rc_o16 op) (eo : a_robOp s = op) (ec : a_robC s = cc) (E : rc_EN op cc f_epc f_cause st vl ft) (hwc : st = 1 ∧ wc = f_waitingCount + 1 ∨ ¬ st = 1 ∧ wc = f_waitingCount) (hmc : mc = if op = 10 ∨ op = 11 then f_memCount + 1 else f_memCount)
    (H : post ((nI rs), f_stations, f_queueSize, (nI w), f_phase, f_pc, f_epc, f_cause, f_handling, f_vector, (nI len), f_fetchPc, f_parked, (nI qh), (nI qc), (nI h), (nI c), wc, mc, a_regs, a_memory, a_progOp, a_progA, a_progB, a_progC, a_latency, a_counters, a_fqPc, a_fqNext, a_twoBit, a_jumpDelta, a_robPc, a_robPredicted, (upd a_robState s st), a_robRemaining, (upd V0 s vl), (upd F0 s ft), a_robNext, a_robSrc1, a_robVal1, a_robSrc2, a_robVal2, a_robOp, a_robC, a_robDest, a_mapSlot, a_unitBusy)) : wpX_enterState post ((nI rs), f_stations, f_queueSize, (nI w), f_phase, f_pc, f_epc, f_cause, f_handling, f_vector, (nI len), f_fetchPc, f_parked, (nI qh), (nI qc), (nI h), (nI c), f_waitingCount, f_memCount, a_regs, a_memory, a_progOp, a_progA, a_progB, a_progC, a_latency, a_counters, a_fqPc, a_fqNext, a_twoBit, a_jumpDelta, a_robPc, a_robPredicted, a_robState, a_robRemaining, (upd V0 s 0), (upd F0 s 0), a_robNext, a_robSrc1, a_robVal1, a_robSrc2, a_robVal2, a_robOp, a_robC, a_robDest, a_mapSlot, a_unitBusy) (nI s) := by
  have hin : vp_in (nI s) 16 := vp_in_nI hs (by omega)
  have hcl : (nI s).toNatClampNeg = s := nI_clamp (by omega)
  refine And.intro hin (nm_r (e' := op) (by rw [hcl, eo]) (x_needsStation ?_))
  rw [hcl]
  rcases E with ⟨a, b, d, e1, e2, e3⟩ | E
  · subst e1 e2 e3
    have ew : wc = f_waitingCount + 1 := by
      rcases hwc with z | z
      · exact z.2
      · exact absurd rfl z.1
    rw [(ns_1 ho a b d).1]
    subst ew
    refine br_f (by decide) (And.intro hin (nm_e (nm_e (x_isMemory ?_))))
    by_cases q : op = 10 ∨ op = 11
    · rw [if_pos q] at hmc
      subst hmc
      rw [im_1 q]
      exact br_f (by decide) (nm_e H)
    · rw [if_neg q] at hmc
      subst hmc
      rw [im_0 q]
      exact br_t rfl H
  · have e1 : st = 3 := by rcases E with z | z | z <;> exact z.2.1
    subst e1
    have ew : wc = f_waitingCount := by
      rcases hwc with z | z
      · exact absurd z.1 (by decide)
      · exact z.2
    subst ew
    rcases E with ⟨a, _, e2, e3⟩ | ⟨a, _, e2, e3⟩ | ⟨a, _, E⟩
    · subst a e2 e3
      rw [if_neg (by decide)] at hmc
      subst hmc
      rw [show rc_ns (-1) = 0 from by decide]
      rw [← up_2 (f := F0) (a := 0)] at H
      exact br_t rfl (And.intro hin (nm_e (br_t rfl (And.intro hin (nm_e H)))))
    · subst a e2 e3
      rw [if_neg (by decide)] at hmc
      subst hmc
      rw [show rc_ns 0 = 0 from by decide]
      exact br_t rfl (And.intro hin (nm_e (br_f (by decide) (br_f (by decide) H))))
    · subst a
      rw [if_neg (by decide)] at hmc
      subst hmc
      rw [show rc_ns 15 = 0 from by decide]
      refine br_t rfl (And.intro hin (nm_e (br_f (by decide) (br_t rfl (And.intro hin (nm_r (e' := cc) (by rw [hcl, ec]) ?_))))))
      rw [hcl]
      rcases E with ⟨a, e2, e3⟩ | ⟨a, e2, e3⟩ | ⟨a, e2, e3⟩ | ⟨a, e2, e3⟩ | ⟨c0, c1, c2, c3, c4, e2, e3⟩
      · subst a e2 e3
        rw [← up_2 (f := F0) (a := 0)] at H
        exact br_f (by decide) (br_f (by decide) (br_t rfl (And.intro hin (nm_e H))))
      · subst e2 e3
        rcases a with a | a
        · subst a
          exact br_f (by decide) (br_f (by decide) (br_f (by decide) (br_t rfl H)))
        · subst a
          exact br_f (by decide) (br_f (by decide) (br_f (by decide) (br_f (by decide) (br_t rfl H))))
      · subst a e2 e3
        rw [← up_2 (f := V0) (a := 0)] at H
        exact br_f (by decide) (br_f (by decide) (br_f (by decide) (br_f (by decide) (br_f (by decide) (br_t rfl (And.intro hin (nm_e H)))))))
      · subst a e2 e3
        rw [← up_2 (f := V0) (a := 0)] at H
        exact br_f (by decide) (br_f (by decide) (br_f (by decide) (br_f (by decide) (br_f (by decide) (br_f (by decide) (br_t rfl (And.intro hin (nm_e H))))))))
      · subst e2 e3
        rw [← up_2 (f := F0) (a := 0)] at H
        exact br_c (fun _ => And.intro hin (nm_e H)) (fun _ => br_c (fun _ => And.intro hin (nm_e H)) (fun _ => br_f c0 (br_f c1 (br_f c2 (br_f c3 (br_f c4 trivial))))))
theorem x_dispatchOne {qd : Nat} {p pd st vl ft W1 v1 W2 v2 wc mc : Int32} (H : rc_F0 w rs len qh (qd + 1) h c f_stations f_queueSize f_waitingCount f_memCount a_latency a_settings a_progOp a_progA a_progB a_progC a_fqPc a_fqNext a_queuePc a_queueNext a_robPc a_robPredicted a_robState a_robRemaining a_robValue a_robFault a_robNext a_robSrc1 a_robVal1 a_robSrc2 a_robVal2 a_robOp a_robC a_robDest a_ePc a_ePredicted a_eState a_eRemaining a_eValue a_eFault a_eNext a_eWait1 a_eVal1 a_eWait2 a_eVal2 a_mapSlot a_unitBusy) (hc16 : c < 16) (ep : a_fqPc qh = p) (epd : a_fqNext qh = pd) (E : rc_EN (rc_op len a_progOp p) (rc_fa len a_progC p) f_epc f_cause st vl ft) (hwc : st = 1 ∧ wc = f_waitingCount + 1 ∨ ¬ st = 1 ∧ wc = f_waitingCount) (hmc : mc = if rc_op len a_progOp p = 10 ∨ rc_op len a_progOp p = 11 then f_memCount + 1 else f_memCount)
    (hO1 : rc_OP c (fun i => rc_dt len a_progOp a_progA a_progC (a_ePc i)) a_regs a_eState a_eValue (rc_r1 (rc_op len a_progOp p) (rc_fa len a_progA p) (rc_fa len a_progB p)) W1 v1) (hO2 : rc_OP c (fun i => rc_dt len a_progOp a_progA a_progC (a_ePc i)) a_regs a_eState a_eValue (rc_r2 (rc_op len a_progOp p) (rc_fa len a_progA p) (rc_fa len a_progB p) (rc_fa len a_progC p)) W2 v2) :
    ∃ ms, (∀ r, r < 8 → ms r = if rc_dt len a_progOp a_progA a_progC p = nI r then nI ((h + c) % 16) else a_mapSlot r) ∧ ∀ post : SX → Prop, post ((nI rs), f_stations, f_queueSize, (nI w), f_phase, f_pc, f_epc, f_cause, f_handling, f_vector, (nI len), f_fetchPc, f_parked, (nI ((qh + 1) % 4)), (nI qd), (nI h), (nI (c + 1)), wc, mc, a_regs, a_memory, a_progOp, a_progA, a_progB, a_progC, a_latency, a_counters, a_fqPc, a_fqNext, a_twoBit, a_jumpDelta, (upd a_robPc ((h + c) % 16) p), (upd a_robPredicted ((h + c) % 16) pd), (upd a_robState ((h + c) % 16) st), (upd a_robRemaining ((h + c) % 16) 0), (upd a_robValue ((h + c) % 16) vl), (upd a_robFault ((h + c) % 16) ft), (upd a_robNext ((h + c) % 16) (p + 1)), (upd a_robSrc1 ((h + c) % 16) (rc_sl h W1)), (upd a_robVal1 ((h + c) % 16) v1), (upd a_robSrc2 ((h + c) % 16) (rc_sl h W2)), (upd a_robVal2 ((h + c) % 16) v2), (upd a_robOp ((h + c) % 16) (rc_op len a_progOp p)), (upd a_robC ((h + c) % 16) (rc_fa len a_progC p)), (upd a_robDest ((h + c) % 16) (rc_dt len a_progOp a_progA a_progC p)), ms, a_unitBusy) → wpX_dispatchOne post ((nI rs), f_stations, f_queueSize, (nI w), f_phase, f_pc, f_epc, f_cause, f_handling, f_vector, (nI len), f_fetchPc, f_parked, (nI qh), (nI (qd + 1)), (nI h), (nI c), f_waitingCount, f_memCount, a_regs, a_memory, a_progOp, a_progA, a_progB, a_progC, a_latency, a_counters, a_fqPc, a_fqNext, a_twoBit, a_jumpDelta, a_robPc, a_robPredicted, a_robState, a_robRemaining, a_robValue, a_robFault, a_robNext, a_robSrc1, a_robVal1, a_robSrc2, a_robVal2, a_robOp, a_robC, a_robDest, a_mapSlot, a_unitBusy) := by
  obtain ⟨_, hP, ⟨hq4, hqd, _, _⟩, ⟨hh, hc, r1, r2, r3, r4, r5, r6, r7, r8, r9, r10, r11, r12, r13, r14⟩, hI, hw, hm, hM, hU⟩ := H
  have hl := hP.1
  have hin : vp_in (nI ((h + c) % 16)) 16 := vp_in_nI (by omega) (by omega)
  have hcl : (nI ((h + c) % 16)).toNatClampNeg = ((h + c) % 16) := nI_clamp (by omega)
  have hqi : vp_in (nI qh) 4 := vp_in_nI hq4 (by omega)
  have hqc : (nI qh).toNatClampNeg = qh := nI_clamp (by omega)
  have xP : ∀ (post : SX → Prop), wX_dispatchOne_118 post p (nI ((h + c) % 16)) (rc_op len a_progOp p) (rc_fa len a_progA p) (rc_fa len a_progB p) (rc_fa len a_progC p) (nI rs) f_stations f_queueSize (nI w) f_phase f_pc f_epc f_cause f_handling f_vector (nI len) f_fetchPc f_parked (nI ((qh + 1) % 4)) (nI qd) (nI h) (nI c) f_waitingCount f_memCount a_regs a_memory a_progOp a_progA a_progB a_progC a_latency a_counters a_fqPc a_fqNext a_twoBit a_jumpDelta (upd a_robPc ((h + c) % 16) p) (upd a_robPredicted ((h + c) % 16) pd) a_robState a_robRemaining a_robValue a_robFault a_robNext a_robSrc1 a_robVal1 a_robSrc2 a_robVal2 a_robOp a_robC a_robDest a_mapSlot a_unitBusy → wpX_dispatchOne post ((nI rs), f_stations, f_queueSize, (nI w), f_phase, f_pc, f_epc, f_cause, f_handling, f_vector, (nI len), f_fetchPc, f_parked, (nI qh), (nI (qd + 1)), (nI h), (nI c), f_waitingCount, f_memCount, a_regs, a_memory, a_progOp, a_progA, a_progB, a_progC, a_latency, a_counters, a_fqPc, a_fqNext, a_twoBit, a_jumpDelta, a_robPc, a_robPredicted, a_robState, a_robRemaining, a_robValue, a_robFault, a_robNext, a_robSrc1, a_robVal1, a_robSrc2, a_robVal2, a_robOp, a_robC, a_robDest, a_mapSlot, a_unitBusy) := by
    intro post g
    refine And.intro hqi (nm_r (e' := p) (by rw [hqc, ep]) (nm_r (rc_slot hh hc) (And.intro hin ?_)))
    rw [hcl, hqc, epd]
    refine nm_e (And.intro hqi (And.intro hin (nm_e (nm_r (rc_qslot1 hq4) (nm_r (nI_pred qd) (x_opAt hl ?_))))))
    rcases pg_c hP p with ⟨_, ea, eb, ec, hx⟩ | ⟨j, hj64, hj, ej, h0, h1, _, ea, eb, ec, _⟩
    · rw [ea, eb, ec] at g
      rcases hx with hx | hx
      · exact br_t hx g
      · exact br_c (fun _ => g) (fun _ => br_t hx g)
    · have hi := pg_in hl h0 h1
      have hj' : p.toNatClampNeg = j := by rw [ej]; exact nI_clamp (by omega)
      refine br_f h0 (br_f h1 (And.intro hi (nm_r (e' := rc_fa len a_progA p) (by rw [hj', ea]) (And.intro hi (nm_r (e' := rc_fa len a_progB p) (by rw [hj', eb]) (And.intro hi (nm_r (e' := rc_fa len a_progC p) (by rw [hj', ec]) g)))))))
  have xQ : ∀ (post : SX → Prop), (vp_in (nI ((h + c) % 16)) 16 ∧ ∀ D, D = upd a_robDest ((h + c) % 16) (rc_dt len a_progOp a_progA a_progC p) → (rc_dt len a_progOp a_progA a_progC p < 0 → ∀ cn, cn = nI c + 1 → post ((nI rs), f_stations, f_queueSize, (nI w), f_phase, f_pc, f_epc, f_cause, f_handling, f_vector, (nI len), f_fetchPc, f_parked, (nI ((qh + 1) % 4)), (nI qd), (nI h), cn, wc, mc, a_regs, a_memory, a_progOp, a_progA, a_progB, a_progC, a_latency, a_counters, a_fqPc, a_fqNext, a_twoBit, a_jumpDelta, (upd a_robPc ((h + c) % 16) p), (upd a_robPredicted ((h + c) % 16) pd), (upd a_robState ((h + c) % 16) st), (upd a_robRemaining ((h + c) % 16) 0), (upd a_robValue ((h + c) % 16) vl), (upd a_robFault ((h + c) % 16) ft), (upd a_robNext ((h + c) % 16) (p + 1)), (upd a_robSrc1 ((h + c) % 16) (rc_sl h W1)), (upd a_robVal1 ((h + c) % 16) v1), (upd a_robSrc2 ((h + c) % 16) (rc_sl h W2)), (upd a_robVal2 ((h + c) % 16) v2), (upd a_robOp ((h + c) % 16) (rc_op len a_progOp p)), (upd a_robC ((h + c) % 16) (rc_fa len a_progC p)), D, a_mapSlot, a_unitBusy)) ∧ (¬ rc_dt len a_progOp a_progA a_progC p < 0 → vp_in (rc_dt len a_progOp a_progA a_progC p &&& 7) 8 ∧ ∀ M, M = upd a_mapSlot (rc_dt len a_progOp a_progA a_progC p &&& 7).toNatClampNeg (nI ((h + c) % 16)) → ∀ cn, cn = nI c + 1 → post ((nI rs), f_stations, f_queueSize, (nI w), f_phase, f_pc, f_epc, f_cause, f_handling, f_vector, (nI len), f_fetchPc, f_parked, (nI ((qh + 1) % 4)), (nI qd), (nI h), cn, wc, mc, a_regs, a_memory, a_progOp, a_progA, a_progB, a_progC, a_latency, a_counters, a_fqPc, a_fqNext, a_twoBit, a_jumpDelta, (upd a_robPc ((h + c) % 16) p), (upd a_robPredicted ((h + c) % 16) pd), (upd a_robState ((h + c) % 16) st), (upd a_robRemaining ((h + c) % 16) 0), (upd a_robValue ((h + c) % 16) vl), (upd a_robFault ((h + c) % 16) ft), (upd a_robNext ((h + c) % 16) (p + 1)), (upd a_robSrc1 ((h + c) % 16) (rc_sl h W1)), (upd a_robVal1 ((h + c) % 16) v1), (upd a_robSrc2 ((h + c) % 16) (rc_sl h W2)), (upd a_robVal2 ((h + c) % 16) v2), (upd a_robOp ((h + c) % 16) (rc_op len a_progOp p)), (upd a_robC ((h + c) % 16) (rc_fa len a_progC p)), D, M, a_unitBusy))) → wpX_dispatchOne post ((nI rs), f_stations, f_queueSize, (nI w), f_phase, f_pc, f_epc, f_cause, f_handling, f_vector, (nI len), f_fetchPc, f_parked, (nI qh), (nI (qd + 1)), (nI h), (nI c), f_waitingCount, f_memCount, a_regs, a_memory, a_progOp, a_progA, a_progB, a_progC, a_latency, a_counters, a_fqPc, a_fqNext, a_twoBit, a_jumpDelta, a_robPc, a_robPredicted, a_robState, a_robRemaining, a_robValue, a_robFault, a_robNext, a_robSrc1, a_robVal1, a_robSrc2, a_robVal2, a_robOp, a_robC, a_robDest, a_mapSlot, a_unitBusy) := by
    intro post g
    refine xP post ?_
    refine And.intro hin ?_
    rw [hcl]
    refine nm_e (And.intro hin (nm_e (And.intro hin (nm_e (And.intro hin (nm_e (And.intro hin (nm_e (And.intro hin (nm_e ?_))))))))))
    refine x_readOperands hh hc (by omega) hM r3 (ra_k hc16 r5) pk_us pk_us hO1 hO2 ?_
    refine x_enter (by omega) (pg_op hP p) pk_us pk_us E hwc hmc ?_
    exact x_destination g
  rcases dt_8 hP p with e | ⟨j, hj, e⟩
  · refine ⟨a_mapSlot, fun r hr => ?_, fun post G => xQ post (And.intro hin (nm_e (br_t (by rw [e]; decide) (nm_r (nI_1 c) G))))⟩
    rw [if_neg (fun z => rc_nm1 (k := r) (by omega) (z.symm.trans e))]
  · refine ⟨upd a_mapSlot j (nI ((h + c) % 16)), fun r hr => ?_, fun post G => xQ post (And.intro hin (nm_e (br_f (by rw [e]; exact nI_pos (by omega)) ?_)))⟩
    · by_cases q : r = j
      · rw [q, pk_us, if_pos e]
      · rw [pk_un q, if_neg (fun z => q ((nI_eq (by omega) (by omega)).mp (z.symm.trans e)))]
    · have e2 : rc_dt len a_progOp a_progA a_progC p &&& 7 = nI j := by rw [e, rc_and7 (by omega)]
      rw [e2, nI_clamp (n := j) (by omega)]
      exact And.intro (in_8 hj) (nm_e (nm_r (nI_1 c) G))
theorem y_163 {qd : Nat} (hq : qd ≤ 3) : ∀ (d i : Nat) (y1 y2 : Nat → Int32), i + d = qd → rc_sh i a_queuePc y1 → rc_sh i a_queueNext y2 → ∃ z1 z2, rc_sh qd a_queuePc z1 ∧ rc_sh qd a_queueNext z2 ∧ ∀ (post : SY → Prop) J2 x1 x2 x3 x4 x5 x6 (n : Nat), d < n → wY_dispatchStage_218 post J2 x1 x2 x3 x4 x5 x6 f_pc f_epc f_cause f_handling f_vector f_phase (nI len) f_fetchPc f_parked (nI (qd + 1)) (nI c) a_regs a_memory a_progOp a_progA a_progB a_progC a_counters a_settings z1 z2 a_twoBit a_jumpDelta a_ePc a_ePredicted a_eState a_eRemaining a_eValue a_eFault a_eNext a_eWait1 a_eVal1 a_eWait2 a_eVal2 → wY_dispatchStage_163 post J2 x1 x2 x3 x4 x5 x6 f_pc f_epc f_cause f_handling f_vector f_phase (nI len) f_fetchPc f_parked (nI (qd + 1)) (nI c) n (nI i) a_regs a_memory a_progOp a_progA a_progB a_progC a_counters a_settings y1 y2 a_twoBit a_jumpDelta a_ePc a_ePredicted a_eState a_eRemaining a_eValue a_eFault a_eNext a_eWait1 a_eVal1 a_eWait2 a_eVal2 := by
  intro d
  induction d with
  | zero =>
    intro i y1 y2 hi s1 s2
    have hi : i = qd := by omega
    subst hi
    refine ⟨y1, y2, s1, s2, fun post J2 x1 x2 x3 x4 x5 x6 n hn H => ?_⟩
    obtain ⟨n, rfl⟩ : ∃ m, n = m + 1 := ⟨n - 1, by omega⟩
    refine br_c (fun _ => H) (fun _ => br_t ?_ H)
    rw [nI_1]
    exact nI_le (Nat.le_refl _) (by omega)
  | succ d ih =>
    intro i y1 y2 hi s1 s2
    obtain ⟨z1, z2, t1, t2, hw⟩ := ih (i + 1) _ _ (by omega) (sh_s s1) (sh_s s2)
    refine ⟨z1, z2, t1, t2, fun post J2 x1 x2 x3 x4 x5 x6 n hn H => ?_⟩
    obtain ⟨n, rfl⟩ : ∃ m, n = m + 1 := ⟨n - 1, by omega⟩
    have hin : vp_in (nI i) 4 := vp_in_nI (by omega) (by omega)
    have hin1 : vp_in (nI (i + 1)) 4 := vp_in_nI (by omega) (by omega)
    refine br_f (nI_ge (b := 3) (by omega) (by omega)) ?_
    rw [nI_1 i]
    refine br_f (nI_ge (by omega) (by omega)) ?_
    rw [nI_clamp (n := i + 1) (by omega), nI_clamp (n := i) (by omega)]
    exact And.intro hin1 (And.intro hin (nm_e (And.intro hin1 (And.intro hin (nm_e (nm_e (hw post J2 x1 x2 x3 x4 x5 x6 n (by omega) H)))))))
theorem y_370 {k : Nat} {p pd op cc dn st vl ft W1 v1 W2 v2 : Int32} {post : SY → Prop} {J2} (hc16 : c < 16) (hdn : dn = 0 ∧ ¬ op = -1 ∧ ¬ op = 0 ∧ ¬ op = 15 ∨ dn = 1 ∧ (op = -1 ∨ op = 0 ∨ op = 15)) (E : rc_EN op cc f_epc f_cause st vl ft) (H : J2 (nI (k + 1)) (nI qc) (nI (c + 1)) a_regs a_memory a_progOp a_progA a_progB a_progC a_counters a_settings a_queuePc a_queueNext a_twoBit a_jumpDelta (upd a_ePc c p) (upd a_ePredicted c pd) (upd a_eState c st) (upd a_eRemaining c 0) (upd a_eValue c vl) (upd a_eFault c ft) (upd a_eNext c (p + 1)) (upd a_eWait1 c W1) (upd a_eVal1 c v1) (upd a_eWait2 c W2) (upd a_eVal2 c v2)) : wY_dispatchStage_370 post J2 (nI k) p pd op cc dn W1 v1 W2 v2 f_pc f_epc f_cause f_handling f_vector f_phase (nI len) f_fetchPc f_parked (nI qc) (nI c) a_regs a_memory a_progOp a_progA a_progB a_progC a_counters a_settings a_queuePc a_queueNext a_twoBit a_jumpDelta a_ePc a_ePredicted a_eState a_eRemaining a_eValue a_eFault a_eNext a_eWait1 a_eVal1 a_eWait2 a_eVal2 := by
  have hin : vp_in (nI c) 16 := vp_in_nI (by omega) (by omega)
  refine And.intro hin ?_
  rw [nI_clamp (n := c) (by omega)]
  refine nm_e (And.intro hin (nm_e (And.intro hin (nm_e (And.intro hin (nm_e (And.intro hin (nm_e (And.intro hin (nm_e (And.intro hin (nm_e (And.intro hin (nm_e (And.intro hin (nm_e (And.intro hin (nm_e (And.intro hin (nm_e ?_))))))))))))))))))))
  rcases E with ⟨a, b, d, e1, e2, e3⟩ | E
  · subst e1 e2 e3
    have hd : dn = 0 := by
      rcases hdn with z | ⟨_, z | z | z⟩
      · exact z.1
      · exact absurd z a
      · exact absurd z b
      · exact absurd z d
    exact br_t hd (nm_r (nI_1 c) (nm_r (nI_1 k) H))
  · have hd : ¬ dn = 0 := by
      rcases hdn with ⟨_, a, b, d⟩ | z
      · rcases E with z | z | z
        · exact absurd z.1 a
        · exact absurd z.1 b
        · exact absurd z.1 d
      · rw [z.1]
        decide
    have e1 : st = 3 := by rcases E with z | z | z <;> exact z.2.1
    subst e1
    rw [← up_2 (f := a_eState) (a := 1)] at H
    refine br_f hd (And.intro hin (nm_e ?_))
    rcases E with ⟨a, _, e2, e3⟩ | ⟨a, _, e2, e3⟩ | ⟨a, _, E⟩
    · subst a e2 e3
      rw [← up_2 (f := a_eFault) (a := 0)] at H
      exact br_t rfl (And.intro hin (nm_e (nm_r (nI_1 c) (nm_r (nI_1 k) H))))
    · subst a e2 e3
      exact br_f (by decide) (br_f (by decide) (nm_r (nI_1 c) (nm_r (nI_1 k) H)))
    · subst a
      refine br_f (by decide) (br_t rfl ?_)
      rcases E with ⟨a, e2, e3⟩ | ⟨a, e2, e3⟩ | ⟨a, e2, e3⟩ | ⟨a, e2, e3⟩ | ⟨c0, c1, c2, c3, c4, e2, e3⟩
      · subst a e2 e3
        rw [← up_2 (f := a_eFault) (a := 0)] at H
        exact br_t rfl (And.intro hin (nm_e (nm_r (nI_1 c) (nm_r (nI_1 k) H))))
      · subst e2 e3
        rw [← up_2 (f := a_eFault) (a := 0)] at H
        have g : wY_dispatchStage_535 post J2 (nI k) (nI c) f_pc f_epc f_cause f_handling f_vector f_phase (nI len) f_fetchPc f_parked (nI qc) (nI c) a_regs a_memory a_progOp a_progA a_progB a_progC a_counters a_settings a_queuePc a_queueNext a_twoBit a_jumpDelta (upd a_ePc c p) (upd a_ePredicted c pd) (upd (upd a_eState c 1) c 3) (upd a_eRemaining c 0) (upd a_eValue c 0) (upd a_eFault c 0) (upd a_eNext c (p + 1)) (upd a_eWait1 c W1) (upd a_eVal1 c v1) (upd a_eWait2 c W2) (upd a_eVal2 c v2) := by
          refine And.intro hin ?_
          rw [nI_clamp (n := c) (by omega)]
          exact nm_e (nm_r (nI_1 c) (nm_r (nI_1 k) H))
        rcases a with a | a
        · subst a
          exact br_f (by decide) (br_t rfl g)
        · subst a
          exact br_f (by decide) (br_f (by decide) (br_t rfl g))
      · subst a e2 e3
        rw [← up_2 (f := a_eValue) (a := 0)] at H
        exact br_f (by decide) (br_f (by decide) (br_f (by decide) (br_t rfl (And.intro hin (nm_e (nm_r (nI_1 c) (nm_r (nI_1 k) H)))))))
      · subst a e2 e3
        rw [← up_2 (f := a_eValue) (a := 0)] at H
        exact br_f (by decide) (br_f (by decide) (br_f (by decide) (br_f (by decide) (br_t rfl (And.intro hin (nm_e (nm_r (nI_1 c) (nm_r (nI_1 k) H))))))))
      · subst e2 e3
        rw [← up_2 (f := a_eFault) (a := 0)] at H
        exact br_f c0 (br_f c1 (br_f c2 (br_f c3 (br_f c4 (And.intro hin (nm_e (nm_r (nI_1 c) (nm_r (nI_1 k) H))))))))
end
end
section
/-! the dispatch stage, in lockstep -/
section
variable {w rs len qh qc h c : Nat} {f_stations f_queueSize f_phase f_pc f_epc f_cause f_handling f_vector f_fetchPc f_parked f_waitingCount f_memCount : Int32} {a_regs a_memory a_progOp a_progA a_progB a_progC a_latency a_counters a_fqPc a_fqNext a_twoBit a_jumpDelta a_robPc a_robPredicted a_robState a_robRemaining a_robValue a_robFault a_robNext a_robSrc1 a_robVal1 a_robSrc2 a_robVal2 a_robOp a_robC a_robDest a_mapSlot a_unitBusy a_settings a_queuePc a_queueNext a_ePc a_ePredicted a_eState a_eRemaining a_eValue a_eFault a_eNext a_eWait1 a_eVal1 a_eWait2 a_eVal2 : Nat → Int32}
theorem j_d1 {k qd : Nat} {p pd : Int32} (H : rc_F0 w rs len qh (qd + 1) h c f_stations f_queueSize f_waitingCount f_memCount a_latency a_settings a_progOp a_progA a_progB a_progC a_fqPc a_fqNext a_queuePc a_queueNext a_robPc a_robPredicted a_robState a_robRemaining a_robValue a_robFault a_robNext a_robSrc1 a_robVal1 a_robSrc2 a_robVal2 a_robOp a_robC a_robDest a_ePc a_ePredicted a_eState a_eRemaining a_eValue a_eFault a_eNext a_eWait1 a_eVal1 a_eWait2 a_eVal2 a_mapSlot a_unitBusy) (hc16 : c < 16) (hp0 : a_queuePc 0 = p) (hpd0 : a_queueNext 0 = pd) :
    ∃ st vl ft W1 v1 W2 v2 wc mc ms z1 z2, (rc_F0 w rs len ((qh + 1) % 4) qd h (c + 1) f_stations f_queueSize wc mc a_latency a_settings a_progOp a_progA a_progB a_progC a_fqPc a_fqNext z1 z2 (upd a_robPc ((h + c) % 16) p) (upd a_robPredicted ((h + c) % 16) pd) (upd a_robState ((h + c) % 16) st) (upd a_robRemaining ((h + c) % 16) 0) (upd a_robValue ((h + c) % 16) vl) (upd a_robFault ((h + c) % 16) ft) (upd a_robNext ((h + c) % 16) (p + 1)) (upd a_robSrc1 ((h + c) % 16) (rc_sl h W1)) (upd a_robVal1 ((h + c) % 16) v1) (upd a_robSrc2 ((h + c) % 16) (rc_sl h W2)) (upd a_robVal2 ((h + c) % 16) v2) (upd a_robOp ((h + c) % 16) (rc_op len a_progOp p)) (upd a_robC ((h + c) % 16) (rc_fa len a_progC p)) (upd a_robDest ((h + c) % 16) (rc_dt len a_progOp a_progA a_progC p)) (upd a_ePc c p) (upd a_ePredicted c pd) (upd a_eState c st) (upd a_eRemaining c 0) (upd a_eValue c vl) (upd a_eFault c ft) (upd a_eNext c (p + 1)) (upd a_eWait1 c W1) (upd a_eVal1 c v1) (upd a_eWait2 c W2) (upd a_eVal2 c v2) ms a_unitBusy) ∧ (∀ post : SX → Prop, post ((nI rs), f_stations, f_queueSize, (nI w), f_phase, f_pc, f_epc, f_cause, f_handling, f_vector, (nI len), f_fetchPc, f_parked, (nI ((qh + 1) % 4)), (nI qd), (nI h), (nI (c + 1)), wc, mc, a_regs, a_memory, a_progOp, a_progA, a_progB, a_progC, a_latency, a_counters, a_fqPc, a_fqNext, a_twoBit, a_jumpDelta, (upd a_robPc ((h + c) % 16) p), (upd a_robPredicted ((h + c) % 16) pd), (upd a_robState ((h + c) % 16) st), (upd a_robRemaining ((h + c) % 16) 0), (upd a_robValue ((h + c) % 16) vl), (upd a_robFault ((h + c) % 16) ft), (upd a_robNext ((h + c) % 16) (p + 1)), (upd a_robSrc1 ((h + c) % 16) (rc_sl h W1)), (upd a_robVal1 ((h + c) % 16) v1), (upd a_robSrc2 ((h + c) % 16) (rc_sl h W2)), (upd a_robVal2 ((h + c) % 16) v2), (upd a_robOp ((h + c) % 16) (rc_op len a_progOp p)), (upd a_robC ((h + c) % 16) (rc_fa len a_progC p)), (upd a_robDest ((h + c) % 16) (rc_dt len a_progOp a_progA a_progC p)), ms, a_unitBusy) → wpX_dispatchOne post ((nI rs), f_stations, f_queueSize, (nI w), f_phase, f_pc, f_epc, f_cause, f_handling, f_vector, (nI len), f_fetchPc, f_parked, (nI qh), (nI (qd + 1)), (nI h), (nI c), f_waitingCount, f_memCount, a_regs, a_memory, a_progOp, a_progA, a_progB, a_progC, a_latency, a_counters, a_fqPc, a_fqNext, a_twoBit, a_jumpDelta, a_robPc, a_robPredicted, a_robState, a_robRemaining, a_robValue, a_robFault, a_robNext, a_robSrc1, a_robVal1, a_robSrc2, a_robVal2, a_robOp, a_robC, a_robDest, a_mapSlot, a_unitBusy)) ∧ (∀ (post : SY → Prop) J2 dn, (dn = 0 ∧ ¬ rc_op len a_progOp p = -1 ∧ ¬ rc_op len a_progOp p = 0 ∧ ¬ rc_op len a_progOp p = 15 ∨ dn = 1 ∧ (rc_op len a_progOp p = -1 ∨ rc_op len a_progOp p = 0 ∨ rc_op len a_progOp p = 15)) → J2 (nI (k + 1)) (nI qd) (nI (c + 1)) a_regs a_memory a_progOp a_progA a_progB a_progC a_counters a_settings z1 z2 a_twoBit a_jumpDelta (upd a_ePc c p) (upd a_ePredicted c pd) (upd a_eState c st) (upd a_eRemaining c 0) (upd a_eValue c vl) (upd a_eFault c ft) (upd a_eNext c (p + 1)) (upd a_eWait1 c W1) (upd a_eVal1 c v1) (upd a_eWait2 c W2) (upd a_eVal2 c v2) → ∃ n163, wY_dispatchStage_163 post J2 (nI k) p pd (rc_op len a_progOp p) (rc_fa len a_progC p) dn f_pc f_epc f_cause f_handling f_vector f_phase (nI len) f_fetchPc f_parked (nI (qd + 1)) (nI c) n163 0 a_regs a_memory a_progOp a_progA a_progB a_progC a_counters a_settings a_queuePc a_queueNext a_twoBit a_jumpDelta a_ePc a_ePredicted a_eState a_eRemaining a_eValue a_eFault a_eNext a_eWait1 a_eVal1 a_eWait2 a_eVal2) := by
  have H' := H
  obtain ⟨_, hP, ⟨hq4, hqd, q1, q2⟩, ⟨hh, hc, _⟩, hI, hw, hm, hM, hU⟩ := H
  have hl := hP.1
  have hz : (qh + 0) % 4 = qh := by omega
  have ep : a_fqPc qh = p := by have := q1 0 (by omega); rw [hz] at this; exact this.trans hp0
  have epd : a_fqNext qh = pd := by have := q2 0 (by omega); rw [hz] at this; exact this.trans hpd0
  obtain ⟨st, vl, ft, E⟩ := en_ex (rc_op len a_progOp p) (rc_fa len a_progC p) f_epc f_cause
  obtain ⟨W1, v1, hO1⟩ := op_ex (c := c) (d := fun i => rc_dt len a_progOp a_progA a_progC (a_ePc i)) (rg := a_regs) (es := a_eState) (ev := a_eValue) (r1_8 (op := rc_op len a_progOp p) (pg_a hP p) (pg_b hP p))
  obtain ⟨W2, v2, hO2⟩ := op_ex (c := c) (d := fun i => rc_dt len a_progOp a_progA a_progC (a_ePc i)) (rg := a_regs) (es := a_eState) (ev := a_eValue) (r2_8 (op := rc_op len a_progOp p) (pg_a hP p) (pg_b hP p) (pg_cc hP p))
  have hwc : ∃ wc, (st = 1 ∧ wc = f_waitingCount + 1 ∨ ¬ st = 1 ∧ wc = f_waitingCount) := by
    by_cases q : st = 1
    · exact ⟨_, Or.inl ⟨q, rfl⟩⟩
    · exact ⟨_, Or.inr ⟨q, rfl⟩⟩
  obtain ⟨wc, hwc⟩ := hwc
  obtain ⟨ms, hms, dX⟩ := x_dispatchOne (w := w) (rs := rs) (len := len) (qh := qh) (h := h) (c := c) (f_stations := f_stations) (f_queueSize := f_queueSize) (f_phase := f_phase) (f_pc := f_pc) (f_epc := f_epc) (f_cause := f_cause) (f_handling := f_handling) (f_vector := f_vector) (f_fetchPc := f_fetchPc) (f_parked := f_parked) (f_waitingCount := f_waitingCount) (f_memCount := f_memCount) (a_regs := a_regs) (a_memory := a_memory) (a_progOp := a_progOp) (a_progA := a_progA) (a_progB := a_progB) (a_progC := a_progC) (a_latency := a_latency) (a_counters := a_counters) (a_fqPc := a_fqPc) (a_fqNext := a_fqNext) (a_twoBit := a_twoBit) (a_jumpDelta := a_jumpDelta) (a_robPc := a_robPc) (a_robPredicted := a_robPredicted) (a_robState := a_robState) (a_robRemaining := a_robRemaining) (a_robValue := a_robValue) (a_robFault := a_robFault) (a_robNext := a_robNext) (a_robSrc1 := a_robSrc1) (a_robVal1 := a_robVal1) (a_robSrc2 := a_robSrc2) (a_robVal2 := a_robVal2) (a_robOp := a_robOp) (a_robC := a_robC) (a_robDest := a_robDest) (a_mapSlot := a_mapSlot) (a_unitBusy := a_unitBusy) (qd := qd) H' hc16 ep epd E hwc rfl hO1 hO2
  obtain ⟨z1, z2, t1, t2, dY⟩ := y_163 (len := len) (c := c) (f_phase := f_phase) (f_pc := f_pc) (f_epc := f_epc) (f_cause := f_cause) (f_handling := f_handling) (f_vector := f_vector) (f_fetchPc := f_fetchPc) (f_parked := f_parked) (a_regs := a_regs) (a_memory := a_memory) (a_progOp := a_progOp) (a_progA := a_progA) (a_progB := a_progB) (a_progC := a_progC) (a_counters := a_counters) (a_settings := a_settings) (a_twoBit := a_twoBit) (a_jumpDelta := a_jumpDelta) (a_ePc := a_ePc) (a_ePredicted := a_ePredicted) (a_eState := a_eState) (a_eRemaining := a_eRemaining) (a_eValue := a_eValue) (a_eFault := a_eFault) (a_eNext := a_eNext) (a_eWait1 := a_eWait1) (a_eVal1 := a_eVal1) (a_eWait2 := a_eWait2) (a_eVal2 := a_eVal2) (qd := qd) (by omega) qd 0 a_queuePc a_queueNext (by omega) sh_0 sh_0
  have hs : st = 1 ∧ 1 ≤ rc_op len a_progOp p ∧ rc_op len a_progOp p ≤ 14 ∧ wc = f_waitingCount + 1 ∨ st = 3 ∧ wc = f_waitingCount := by
    rcases E with ⟨a, b, d, e, _⟩ | E
    · rcases hwc with z | z
      · exact Or.inl ⟨z.1, (ns_1 (pg_op hP p) a b d).2.1, (ns_1 (pg_op hP p) a b d).2.2, z.2⟩
      · exact absurd e z.1
    · have e1 : st = 3 := by rcases E with z | z | z <;> exact z.2.1
      rcases hwc with z | z
      · rw [e1] at z
        exact absurd z.1 (by decide)
      · exact Or.inr ⟨e1, z.2⟩
  have hF1 := f0_fq (qh' := (qh + 1) % 4) (qc' := qd) (fp := a_fqPc) (fn := a_fqNext) (qp := z1) (qn := z2) H' ⟨by omega, by omega, ra_c (fun i hi => (t1.1 i hi).symm) (ra_o rc_4 q1), ra_c (fun i hi => (t2.1 i hi).symm) (ra_o rc_4 q2)⟩
  have hF := f0_push (pd := pd) (vl := vl) (ft := ft) (nx := p + 1) (v1 := v1) (v2 := v2) hF1 hc16 hs (op_wt hO1) (op_wt hO2) rfl hms
  exact ⟨st, vl, ft, W1, v1, W2, v2, wc, _, ms, z1, z2, hF, dX, fun post J2 dn hdn G => ⟨qd + 1, dY post J2 (nI k) p pd _ _ dn (qd + 1) (by omega) (y_218 hl hc hO1 hO2 (y_370 hc16 hdn E G))⟩⟩
theorem j_ds {k : Nat} : ∀ z, k < rc_zw z → rc_RU (rc_zw z) z → rc_ST rc_dX rc_dY (rc_RU (rc_zw z)) (rc_RU (rc_zw z)) k z := by
  refine rc_el ?_
  intro w rs len qh qc h c f_stations f_queueSize f_phase f_pc f_epc f_cause f_handling f_vector f_fetchPc f_parked f_waitingCount f_memCount a_regs a_memory a_progOp a_progA a_progB a_progC a_latency a_counters a_fqPc a_fqNext a_twoBit a_jumpDelta a_robPc a_robPredicted a_robState a_robRemaining a_robValue a_robFault a_robNext a_robSrc1 a_robVal1 a_robSrc2 a_robVal2 a_robOp a_robC a_robDest a_mapSlot a_unitBusy a_settings a_queuePc a_queueNext a_ePc a_ePredicted a_eState a_eRemaining a_eValue a_eFault a_eNext a_eWait1 a_eVal1 a_eWait2 a_eVal2 hk HR
  obtain ⟨⟨H, hb, hpk, _⟩, hph, _⟩ := HR
  show rc_ST rc_dX rc_dY (rc_RU w) (rc_RU w) k (w, rs, len, qh, qc, h, c, f_stations, f_queueSize, f_phase, f_pc, f_epc, f_cause, f_handling, f_vector, f_fetchPc, f_parked, f_waitingCount, f_memCount, a_regs, a_memory, a_progOp, a_progA, a_progB, a_progC, a_latency, a_counters, a_fqPc, a_fqNext, a_twoBit, a_jumpDelta, a_robPc, a_robPredicted, a_robState, a_robRemaining, a_robValue, a_robFault, a_robNext, a_robSrc1, a_robVal1, a_robSrc2, a_robVal2, a_robOp, a_robC, a_robDest, a_mapSlot, a_unitBusy, a_settings, a_queuePc, a_queueNext, a_ePc, a_ePredicted, a_eState, a_eRemaining, a_eValue, a_eFault, a_eNext, a_eWait1, a_eVal1, a_eWait2, a_eVal2)
  have hk : k < w := hk
  have hph : f_phase = 1 := hph
  have H' : rc_F0 w rs len qh qc h c f_stations f_queueSize f_waitingCount f_memCount a_latency a_settings a_progOp a_progA a_progB a_progC a_fqPc a_fqNext a_queuePc a_queueNext a_robPc a_robPredicted a_robState a_robRemaining a_robValue a_robFault a_robNext a_robSrc1 a_robVal1 a_robSrc2 a_robVal2 a_robOp a_robC a_robDest a_ePc a_ePredicted a_eState a_eRemaining a_eValue a_eFault a_eNext a_eWait1 a_eVal1 a_eWait2 a_eVal2 a_mapSlot a_unitBusy := H
  obtain ⟨⟨hw1, hw3, hrs, hs7, hs8, hs9, hs10, _⟩, hP, ⟨hq4, hqc, q1, q2⟩, ⟨hh, hc, _⟩, hI, hw, hm, hM, hU⟩ := H
  have hl := hP.1
  have hwk : ¬ nI w ≤ nI k := nI_ge hk (by omega)
  have hwk' : ¬ a_settings 10 ≤ nI k := by rw [hs10]; exact hwk
  have hk3 : ¬ (3 : Int32) ≤ nI k := nI_ge (b := 3) (by omega) (by omega)
  have hRU : rc_RU w (w, rs, len, qh, qc, h, c, f_stations, f_queueSize, f_phase, f_pc, f_epc, f_cause, f_handling, f_vector, f_fetchPc, f_parked, f_waitingCount, f_memCount, a_regs, a_memory, a_progOp, a_progA, a_progB, a_progC, a_latency, a_counters, a_fqPc, a_fqNext, a_twoBit, a_jumpDelta, a_robPc, a_robPredicted, a_robState, a_robRemaining, a_robValue, a_robFault, a_robNext, a_robSrc1, a_robVal1, a_robSrc2, a_robVal2, a_robOp, a_robC, a_robDest, a_mapSlot, a_unitBusy, a_settings, a_queuePc, a_queueNext, a_ePc, a_ePredicted, a_eState, a_eRemaining, a_eValue, a_eFault, a_eNext, a_eWait1, a_eVal1, a_eWait2, a_eVal2) := ⟨⟨H', hb, hpk, Or.inl hph⟩, hph, rfl⟩
  rcases qc with _ | qd
  · refine Or.inl ⟨(w, rs, len, qh, 0, h, c, f_stations, f_queueSize, f_phase, f_pc, f_epc, f_cause, f_handling, f_vector, f_fetchPc, f_parked, f_waitingCount, f_memCount, a_regs, a_memory, a_progOp, a_progA, a_progB, a_progC, a_latency, a_counters, a_fqPc, a_fqNext, a_twoBit, a_jumpDelta, a_robPc, a_robPredicted, a_robState, a_robRemaining, a_robValue, a_robFault, a_robNext, a_robSrc1, a_robVal1, a_robSrc2, a_robVal2, a_robOp, a_robC, a_robDest, a_mapSlot, a_unitBusy, a_settings, a_queuePc, a_queueNext, a_ePc, a_ePredicted, a_eState, a_eRemaining, a_eValue, a_eFault, a_eNext, a_eWait1, a_eVal1, a_eWait2, a_eVal2), hRU, fun post n G => ?_, fun post n G => ?_⟩
    · show wX_dispatchStage_2 post (n + 2) (nI k) (nI rs) f_stations f_queueSize (nI w) f_phase f_pc f_epc f_cause f_handling f_vector (nI len) f_fetchPc f_parked (nI qh) (nI 0) (nI h) (nI c) f_waitingCount f_memCount a_regs a_memory a_progOp a_progA a_progB a_progC a_latency a_counters a_fqPc a_fqNext a_twoBit a_jumpDelta a_robPc a_robPredicted a_robState a_robRemaining a_robValue a_robFault a_robNext a_robSrc1 a_robVal1 a_robSrc2 a_robVal2 a_robOp a_robC a_robDest a_mapSlot a_unitBusy
      exact br_f hwk (br_t rfl (br_t rfl G))
    · show wY_dispatchStage_2 post f_pc f_epc f_cause f_handling f_vector f_phase (nI len) f_fetchPc f_parked (n + 1) (nI k) (nI 0) (nI c) a_regs a_memory a_progOp a_progA a_progB a_progC a_counters a_settings a_queuePc a_queueNext a_twoBit a_jumpDelta a_ePc a_ePredicted a_eState a_eRemaining a_eValue a_eFault a_eNext a_eWait1 a_eVal1 a_eWait2 a_eVal2
      exact br_f hk3 (br_f hwk' (br_t rfl G))
  · have hq0 : ¬ nI (qd + 1) = 0 := nI_ne0 (by omega) (by omega)
    by_cases hcr : c < rs
    · have kx : nI c < nI rs := nI_lt hcr (by omega)
      have ky : ¬ a_settings 7 ≤ nI c := by rw [hs7]; exact nI_ge hcr (by omega)
      have k15 : nI c ≤ 15 := nI_le (b := 15) (by omega) (by omega)
      have hz : (qh + 0) % 4 = qh := by omega
      have ep : a_fqPc qh = a_queuePc 0 := by have := q1 0 (by omega); rw [hz] at this; exact this
      have hqc' : (nI qh).toNatClampNeg = qh := nI_clamp (by omega)
      have xP : ∀ post : Int32 → Prop, (rc_ns (rc_op len a_progOp (a_queuePc 0)) = 0 → wX_canDispatch_55 post (rc_op len a_progOp (a_queuePc 0)) (nI rs) f_stations f_queueSize (nI w) f_phase f_pc f_epc f_cause f_handling f_vector (nI len) f_fetchPc f_parked (nI qh) (nI (qd + 1)) (nI h) (nI c) f_waitingCount f_memCount a_regs a_memory a_progOp a_progA a_progB a_progC a_latency a_counters a_fqPc a_fqNext a_twoBit a_jumpDelta a_robPc a_robPredicted a_robState a_robRemaining a_robValue a_robFault a_robNext a_robSrc1 a_robVal1 a_robSrc2 a_robVal2 a_robOp a_robC a_robDest a_mapSlot a_unitBusy) ∧ (¬ rc_ns (rc_op len a_progOp (a_queuePc 0)) = 0 → (f_waitingCount < f_stations → wX_canDispatch_55 post (rc_op len a_progOp (a_queuePc 0)) (nI rs) f_stations f_queueSize (nI w) f_phase f_pc f_epc f_cause f_handling f_vector (nI len) f_fetchPc f_parked (nI qh) (nI (qd + 1)) (nI h) (nI c) f_waitingCount f_memCount a_regs a_memory a_progOp a_progA a_progB a_progC a_latency a_counters a_fqPc a_fqNext a_twoBit a_jumpDelta a_robPc a_robPredicted a_robState a_robRemaining a_robValue a_robFault a_robNext a_robSrc1 a_robVal1 a_robSrc2 a_robVal2 a_robOp a_robC a_robDest a_mapSlot a_unitBusy) ∧ (¬ f_waitingCount < f_stations → post 0)) → wpX_canDispatch post ((nI rs), f_stations, f_queueSize, (nI w), f_phase, f_pc, f_epc, f_cause, f_handling, f_vector, (nI len), f_fetchPc, f_parked, (nI qh), (nI (qd + 1)), (nI h), (nI c), f_waitingCount, f_memCount, a_regs, a_memory, a_progOp, a_progA, a_progB, a_progC, a_latency, a_counters, a_fqPc, a_fqNext, a_twoBit, a_jumpDelta, a_robPc, a_robPredicted, a_robState, a_robRemaining, a_robValue, a_robFault, a_robNext, a_robSrc1, a_robVal1, a_robSrc2, a_robVal2, a_robOp, a_robC, a_robDest, a_mapSlot, a_unitBusy) := by
        intro post g
        refine br_f hq0 (br_t kx (And.intro (vp_in_nI hq4 (by omega)) ?_))
        rw [hqc', ep]
        exact x_opAt hl (x_needsStation g)
      have yP : ∀ (post : SY → Prop) (n : Nat) dn, (dn = 0 ∧ ¬ rc_op len a_progOp (a_queuePc 0) = -1 ∧ ¬ rc_op len a_progOp (a_queuePc 0) = 0 ∧ ¬ rc_op len a_progOp (a_queuePc 0) = 15 ∨ dn = 1 ∧ (rc_op len a_progOp (a_queuePc 0) = -1 ∨ rc_op len a_progOp (a_queuePc 0) = 0 ∨ rc_op len a_progOp (a_queuePc 0) = 15)) → wY_dispatchStage_101 post (wY_dispatchStage_2 post f_pc f_epc f_cause f_handling f_vector f_phase (nI len) f_fetchPc f_parked n) (nI k) (a_queuePc 0) (a_queueNext 0) (rc_op len a_progOp (a_queuePc 0)) (rc_fa len a_progC (a_queuePc 0)) dn f_pc f_epc f_cause f_handling f_vector f_phase (nI len) f_fetchPc f_parked (nI (qd + 1)) (nI c) a_regs a_memory a_progOp a_progA a_progB a_progC a_counters a_settings a_queuePc a_queueNext a_twoBit a_jumpDelta a_ePc a_ePredicted a_eState a_eRemaining a_eValue a_eFault a_eNext a_eWait1 a_eVal1 a_eWait2 a_eVal2 → wY_dispatchStage_2 post f_pc f_epc f_cause f_handling f_vector f_phase (nI len) f_fetchPc f_parked (n + 1) (nI k) (nI (qd + 1)) (nI c) a_regs a_memory a_progOp a_progA a_progB a_progC a_counters a_settings a_queuePc a_queueNext a_twoBit a_jumpDelta a_ePc a_ePredicted a_eState a_eRemaining a_eValue a_eFault a_eNext a_eWait1 a_eVal1 a_eWait2 a_eVal2 := by
        intro post n dn hdn g
        refine br_f hk3 (br_f hwk' (br_f hq0 (br_f ky (br_t k15 (nm_e (nm_e (y_opAt hl (y_cAt hl ?_))))))))
        rcases hdn with ⟨e, a, b, d⟩ | ⟨e, z⟩
        · subst e
          exact br_f a (br_f b (br_f d g))
        · subst e
          refine br_c (fun _ => g) (fun a => br_c (fun _ => g) (fun b => br_c (fun _ => g) (fun d => ?_)))
          rcases z with z | z | z
          · exact absurd z a
          · exact absurd z b
          · exact absurd z d
      by_cases hstop : (¬ rc_op len a_progOp (a_queuePc 0) = -1 ∧ ¬ rc_op len a_progOp (a_queuePc 0) = 0 ∧ ¬ rc_op len a_progOp (a_queuePc 0) = 15) ∧ ¬ f_waitingCount < f_stations
      · obtain ⟨⟨a, b, d⟩, hst⟩ := hstop
        refine Or.inl ⟨(w, rs, len, qh, (qd + 1), h, c, f_stations, f_queueSize, f_phase, f_pc, f_epc, f_cause, f_handling, f_vector, f_fetchPc, f_parked, f_waitingCount, f_memCount, a_regs, a_memory, a_progOp, a_progA, a_progB, a_progC, a_latency, a_counters, a_fqPc, a_fqNext, a_twoBit, a_jumpDelta, a_robPc, a_robPredicted, a_robState, a_robRemaining, a_robValue, a_robFault, a_robNext, a_robSrc1, a_robVal1, a_robSrc2, a_robVal2, a_robOp, a_robC, a_robDest, a_mapSlot, a_unitBusy, a_settings, a_queuePc, a_queueNext, a_ePc, a_ePredicted, a_eState, a_eRemaining, a_eValue, a_eFault, a_eNext, a_eWait1, a_eVal1, a_eWait2, a_eVal2), hRU, fun post n G => ?_, fun post n G => ?_⟩
        · show wX_dispatchStage_2 post (n + 2) (nI k) (nI rs) f_stations f_queueSize (nI w) f_phase f_pc f_epc f_cause f_handling f_vector (nI len) f_fetchPc f_parked (nI qh) (nI (qd + 1)) (nI h) (nI c) f_waitingCount f_memCount a_regs a_memory a_progOp a_progA a_progB a_progC a_latency a_counters a_fqPc a_fqNext a_twoBit a_jumpDelta a_robPc a_robPredicted a_robState a_robRemaining a_robValue a_robFault a_robNext a_robSrc1 a_robVal1 a_robSrc2 a_robVal2 a_robOp a_robC a_robDest a_mapSlot a_unitBusy
          refine br_f hwk (xP _ ?_)
          rw [(ns_1 (pg_op hP _) a b d).1]
          exact br_f (by decide) (br_f hst (br_t rfl G))
        · refine yP post n 0 (Or.inl ⟨rfl, a, b, d⟩) ?_
          refine y_waitingCount hc ?_
          rw [← hw, hs8]
          exact br_t rfl (br_f hst G)
      · have hgo : ∃ dn, (dn = 0 ∧ ¬ rc_op len a_progOp (a_queuePc 0) = -1 ∧ ¬ rc_op len a_progOp (a_queuePc 0) = 0 ∧ ¬ rc_op len a_progOp (a_queuePc 0) = 15 ∨ dn = 1 ∧ (rc_op len a_progOp (a_queuePc 0) = -1 ∨ rc_op len a_progOp (a_queuePc 0) = 0 ∨ rc_op len a_progOp (a_queuePc 0) = 15)) ∧ (∀ post : Int32 → Prop, wX_canDispatch_55 post (rc_op len a_progOp (a_queuePc 0)) (nI rs) f_stations f_queueSize (nI w) f_phase f_pc f_epc f_cause f_handling f_vector (nI len) f_fetchPc f_parked (nI qh) (nI (qd + 1)) (nI h) (nI c) f_waitingCount f_memCount a_regs a_memory a_progOp a_progA a_progB a_progC a_latency a_counters a_fqPc a_fqNext a_twoBit a_jumpDelta a_robPc a_robPredicted a_robState a_robRemaining a_robValue a_robFault a_robNext a_robSrc1 a_robVal1 a_robSrc2 a_robVal2 a_robOp a_robC a_robDest a_mapSlot a_unitBusy → wpX_canDispatch post ((nI rs), f_stations, f_queueSize, (nI w), f_phase, f_pc, f_epc, f_cause, f_handling, f_vector, (nI len), f_fetchPc, f_parked, (nI qh), (nI (qd + 1)), (nI h), (nI c), f_waitingCount, f_memCount, a_regs, a_memory, a_progOp, a_progA, a_progB, a_progC, a_latency, a_counters, a_fqPc, a_fqNext, a_twoBit, a_jumpDelta, a_robPc, a_robPredicted, a_robState, a_robRemaining, a_robValue, a_robFault, a_robNext, a_robSrc1, a_robVal1, a_robSrc2, a_robVal2, a_robOp, a_robC, a_robDest, a_mapSlot, a_unitBusy)) ∧ (∀ (post : SY → Prop) (n : Nat), wY_dispatchStage_127 post (wY_dispatchStage_2 post f_pc f_epc f_cause f_handling f_vector f_phase (nI len) f_fetchPc f_parked n) (nI k) (a_queuePc 0) (a_queueNext 0) (rc_op len a_progOp (a_queuePc 0)) (rc_fa len a_progC (a_queuePc 0)) dn f_pc f_epc f_cause f_handling f_vector f_phase (nI len) f_fetchPc f_parked (nI (qd + 1)) (nI c) a_regs a_memory a_progOp a_progA a_progB a_progC a_counters a_settings a_queuePc a_queueNext a_twoBit a_jumpDelta a_ePc a_ePredicted a_eState a_eRemaining a_eValue a_eFault a_eNext a_eWait1 a_eVal1 a_eWait2 a_eVal2 → wY_dispatchStage_2 post f_pc f_epc f_cause f_handling f_vector f_phase (nI len) f_fetchPc f_parked (n + 1) (nI k) (nI (qd + 1)) (nI c) a_regs a_memory a_progOp a_progA a_progB a_progC a_counters a_settings a_queuePc a_queueNext a_twoBit a_jumpDelta a_ePc a_ePredicted a_eState a_eRemaining a_eValue a_eFault a_eNext a_eWait1 a_eVal1 a_eWait2 a_eVal2) := by
          by_cases hn : ¬ rc_op len a_progOp (a_queuePc 0) = -1 ∧ ¬ rc_op len a_progOp (a_queuePc 0) = 0 ∧ ¬ rc_op len a_progOp (a_queuePc 0) = 15
          · have hst : f_waitingCount < f_stations := Classical.byContradiction fun z => hstop ⟨hn, z⟩
            obtain ⟨a, b, d⟩ := hn
            refine ⟨0, Or.inl ⟨rfl, a, b, d⟩, fun post g => xP post ?_, fun post n g => yP post n 0 (Or.inl ⟨rfl, a, b, d⟩) ?_⟩
            · rw [(ns_1 (pg_op hP _) a b d).1]
              exact br_f (by decide) (br_t hst g)
            · refine y_waitingCount hc ?_
              rw [← hw, hs8]
              exact br_t rfl (br_t hst g)
          · have hz : rc_op len a_progOp (a_queuePc 0) = -1 ∨ rc_op len a_progOp (a_queuePc 0) = 0 ∨ rc_op len a_progOp (a_queuePc 0) = 15 := by
              by_cases a : rc_op len a_progOp (a_queuePc 0) = -1
              · exact Or.inl a
              · by_cases b : rc_op len a_progOp (a_queuePc 0) = 0
                · exact Or.inr (Or.inl b)
                · exact Or.inr (Or.inr (Classical.byContradiction fun d => hn ⟨a, b, d⟩))
            have hns : rc_ns (rc_op len a_progOp (a_queuePc 0)) = 0 := by rcases hz with z | z | z <;> rw [z] <;> decide
            refine ⟨1, Or.inr ⟨rfl, hz⟩, fun post g => xP post (br_t hns g), fun post n g => yP post n 1 (Or.inr ⟨rfl, hz⟩) ?_⟩
            exact y_waitingCount hc (br_f (by decide) g)
        obtain ⟨dn, hdn, gX, gY⟩ := hgo
        by_cases hms : (rc_op len a_progOp (a_queuePc 0) = 10 ∨ rc_op len a_progOp (a_queuePc 0) = 11) ∧ ¬ f_memCount < f_queueSize
        · obtain ⟨hmo, hmq⟩ := hms
          refine Or.inl ⟨(w, rs, len, qh, (qd + 1), h, c, f_stations, f_queueSize, f_phase, f_pc, f_epc, f_cause, f_handling, f_vector, f_fetchPc, f_parked, f_waitingCount, f_memCount, a_regs, a_memory, a_progOp, a_progA, a_progB, a_progC, a_latency, a_counters, a_fqPc, a_fqNext, a_twoBit, a_jumpDelta, a_robPc, a_robPredicted, a_robState, a_robRemaining, a_robValue, a_robFault, a_robNext, a_robSrc1, a_robVal1, a_robSrc2, a_robVal2, a_robOp, a_robC, a_robDest, a_mapSlot, a_unitBusy, a_settings, a_queuePc, a_queueNext, a_ePc, a_ePredicted, a_eState, a_eRemaining, a_eValue, a_eFault, a_eNext, a_eWait1, a_eVal1, a_eWait2, a_eVal2), hRU, fun post n G => ?_, fun post n G => ?_⟩
          · show wX_dispatchStage_2 post (n + 2) (nI k) (nI rs) f_stations f_queueSize (nI w) f_phase f_pc f_epc f_cause f_handling f_vector (nI len) f_fetchPc f_parked (nI qh) (nI (qd + 1)) (nI h) (nI c) f_waitingCount f_memCount a_regs a_memory a_progOp a_progA a_progB a_progC a_latency a_counters a_fqPc a_fqNext a_twoBit a_jumpDelta a_robPc a_robPredicted a_robState a_robRemaining a_robValue a_robFault a_robNext a_robSrc1 a_robVal1 a_robSrc2 a_robVal2 a_robOp a_robC a_robDest a_mapSlot a_unitBusy
            refine br_f hwk (gX _ (x_isMemory ?_))
            rw [im_1 hmo]
            exact br_f (by decide) (br_t (Int32.not_lt.mp hmq) (br_t rfl G))
          · refine gY post n (y_loadStoreCount hl hc ?_)
            rw [← hm]
            have g : wY_dispatchStage_147 post (wY_dispatchStage_2 post f_pc f_epc f_cause f_handling f_vector f_phase (nI len) f_fetchPc f_parked n) (nI k) (a_queuePc 0) (a_queueNext 0) (rc_op len a_progOp (a_queuePc 0)) (rc_fa len a_progC (a_queuePc 0)) dn f_memCount f_pc f_epc f_cause f_handling f_vector f_phase (nI len) f_fetchPc f_parked (nI (qd + 1)) (nI c) a_regs a_memory a_progOp a_progA a_progB a_progC a_counters a_settings a_queuePc a_queueNext a_twoBit a_jumpDelta a_ePc a_ePredicted a_eState a_eRemaining a_eValue a_eFault a_eNext a_eWait1 a_eVal1 a_eWait2 a_eVal2 := br_f (by rw [hs9]; exact hmq) G
            rcases hmo with z | z
            · exact br_t z g
            · exact br_c (fun _ => g) (fun _ => br_t z g)
        · obtain ⟨st, vl, ft, W1, v1, W2, v2, wc, mc, ms, z1, z2, hF, dX, dY⟩ := j_d1 (w := w) (rs := rs) (len := len) (qh := qh) (h := h) (c := c) (f_stations := f_stations) (f_queueSize := f_queueSize) (f_phase := f_phase) (f_pc := f_pc) (f_epc := f_epc) (f_cause := f_cause) (f_handling := f_handling) (f_vector := f_vector) (f_fetchPc := f_fetchPc) (f_parked := f_parked) (f_waitingCount := f_waitingCount) (f_memCount := f_memCount) (a_regs := a_regs) (a_memory := a_memory) (a_progOp := a_progOp) (a_progA := a_progA) (a_progB := a_progB) (a_progC := a_progC) (a_latency := a_latency) (a_counters := a_counters) (a_fqPc := a_fqPc) (a_fqNext := a_fqNext) (a_twoBit := a_twoBit) (a_jumpDelta := a_jumpDelta) (a_robPc := a_robPc) (a_robPredicted := a_robPredicted) (a_robState := a_robState) (a_robRemaining := a_robRemaining) (a_robValue := a_robValue) (a_robFault := a_robFault) (a_robNext := a_robNext) (a_robSrc1 := a_robSrc1) (a_robVal1 := a_robVal1) (a_robSrc2 := a_robSrc2) (a_robVal2 := a_robVal2) (a_robOp := a_robOp) (a_robC := a_robC) (a_robDest := a_robDest) (a_mapSlot := a_mapSlot) (a_unitBusy := a_unitBusy) (a_settings := a_settings) (a_queuePc := a_queuePc) (a_queueNext := a_queueNext) (a_ePc := a_ePc) (a_ePredicted := a_ePredicted) (a_eState := a_eState) (a_eRemaining := a_eRemaining) (a_eValue := a_eValue) (a_eFault := a_eFault) (a_eNext := a_eNext) (a_eWait1 := a_eWait1) (a_eVal1 := a_eVal1) (a_eWait2 := a_eWait2) (a_eVal2 := a_eVal2) (k := k) (qd := qd) H' (by omega) rfl rfl
          refine Or.inr ⟨(w, rs, len, ((qh + 1) % 4), qd, h, (c + 1), f_stations, f_queueSize, f_phase, f_pc, f_epc, f_cause, f_handling, f_vector, f_fetchPc, f_parked, wc, mc, a_regs, a_memory, a_progOp, a_progA, a_progB, a_progC, a_latency, a_counters, a_fqPc, a_fqNext, a_twoBit, a_jumpDelta, (upd a_robPc ((h + c) % 16) (a_queuePc 0)), (upd a_robPredicted ((h + c) % 16) (a_queueNext 0)), (upd a_robState ((h + c) % 16) st), (upd a_robRemaining ((h + c) % 16) 0), (upd a_robValue ((h + c) % 16) vl), (upd a_robFault ((h + c) % 16) ft), (upd a_robNext ((h + c) % 16) (a_queuePc 0 + 1)), (upd a_robSrc1 ((h + c) % 16) (rc_sl h W1)), (upd a_robVal1 ((h + c) % 16) v1), (upd a_robSrc2 ((h + c) % 16) (rc_sl h W2)), (upd a_robVal2 ((h + c) % 16) v2), (upd a_robOp ((h + c) % 16) (rc_op len a_progOp (a_queuePc 0))), (upd a_robC ((h + c) % 16) (rc_fa len a_progC (a_queuePc 0))), (upd a_robDest ((h + c) % 16) (rc_dt len a_progOp a_progA a_progC (a_queuePc 0))), ms, a_unitBusy, a_settings, z1, z2, (upd a_ePc c (a_queuePc 0)), (upd a_ePredicted c (a_queueNext 0)), (upd a_eState c st), (upd a_eRemaining c 0), (upd a_eValue c vl), (upd a_eFault c ft), (upd a_eNext c (a_queuePc 0 + 1)), (upd a_eWait1 c W1), (upd a_eVal1 c v1), (upd a_eWait2 c W2), (upd a_eVal2 c v2)), ⟨⟨hF, hb, hpk, Or.inl hph⟩, hph, rfl⟩, fun post n G => ?_, fun post n G => ?_⟩
          · show wX_dispatchStage_2 post (n + 1) (nI k) (nI rs) f_stations f_queueSize (nI w) f_phase f_pc f_epc f_cause f_handling f_vector (nI len) f_fetchPc f_parked (nI qh) (nI (qd + 1)) (nI h) (nI c) f_waitingCount f_memCount a_regs a_memory a_progOp a_progA a_progB a_progC a_latency a_counters a_fqPc a_fqNext a_twoBit a_jumpDelta a_robPc a_robPredicted a_robState a_robRemaining a_robValue a_robFault a_robNext a_robSrc1 a_robVal1 a_robSrc2 a_robVal2 a_robOp a_robC a_robDest a_mapSlot a_unitBusy
            have gG := dX (fun u => rc_dX post n (k + 1) u) G
            refine br_f hwk (gX _ (x_isMemory ?_))
            by_cases q : rc_op len a_progOp (a_queuePc 0) = 10 ∨ rc_op len a_progOp (a_queuePc 0) = 11
            · rw [im_1 q]
              have hq2 : f_memCount < f_queueSize := Classical.byContradiction fun z => hms ⟨q, z⟩
              exact br_f (by decide) (br_f (Int32.not_le.mpr hq2) (br_f (by decide) (dX _ (nm_r (nI_1 k) G))))
            · rw [im_0 q]
              exact br_t rfl (br_f (by decide) (dX _ (nm_r (nI_1 k) G)))
          · refine gY post n (y_loadStoreCount hl hc ?_)
            rw [← hm]
            have g := dY post (wY_dispatchStage_2 post f_pc f_epc f_cause f_handling f_vector f_phase (nI len) f_fetchPc f_parked n) dn hdn G
            by_cases q : rc_op len a_progOp (a_queuePc 0) = 10 ∨ rc_op len a_progOp (a_queuePc 0) = 11
            · have hq2 : f_memCount < f_queueSize := Classical.byContradiction fun z => hms ⟨q, z⟩
              have g2 : wY_dispatchStage_147 post (wY_dispatchStage_2 post f_pc f_epc f_cause f_handling f_vector f_phase (nI len) f_fetchPc f_parked n) (nI k) (a_queuePc 0) (a_queueNext 0) (rc_op len a_progOp (a_queuePc 0)) (rc_fa len a_progC (a_queuePc 0)) dn f_memCount f_pc f_epc f_cause f_handling f_vector f_phase (nI len) f_fetchPc f_parked (nI (qd + 1)) (nI c) a_regs a_memory a_progOp a_progA a_progB a_progC a_counters a_settings a_queuePc a_queueNext a_twoBit a_jumpDelta a_ePc a_ePredicted a_eState a_eRemaining a_eValue a_eFault a_eNext a_eWait1 a_eVal1 a_eWait2 a_eVal2 := br_t (by rw [hs9]; exact hq2) g
              rcases q with z | z
              · exact br_t z g2
              · exact br_c (fun _ => g2) (fun _ => br_t z g2)
            · exact br_f (fun z => q (Or.inl z)) (br_f (fun z => q (Or.inr z)) g)
    · have kx : ¬ nI c < nI rs := nI_nlt (by omega) (by omega)
      have ky : a_settings 7 ≤ nI c := by rw [hs7]; exact nI_le (by omega) (by omega)
      refine Or.inl ⟨(w, rs, len, qh, (qd + 1), h, c, f_stations, f_queueSize, f_phase, f_pc, f_epc, f_cause, f_handling, f_vector, f_fetchPc, f_parked, f_waitingCount, f_memCount, a_regs, a_memory, a_progOp, a_progA, a_progB, a_progC, a_latency, a_counters, a_fqPc, a_fqNext, a_twoBit, a_jumpDelta, a_robPc, a_robPredicted, a_robState, a_robRemaining, a_robValue, a_robFault, a_robNext, a_robSrc1, a_robVal1, a_robSrc2, a_robVal2, a_robOp, a_robC, a_robDest, a_mapSlot, a_unitBusy, a_settings, a_queuePc, a_queueNext, a_ePc, a_ePredicted, a_eState, a_eRemaining, a_eValue, a_eFault, a_eNext, a_eWait1, a_eVal1, a_eWait2, a_eVal2), hRU, fun post n G => ?_, fun post n G => ?_⟩
      · show wX_dispatchStage_2 post (n + 2) (nI k) (nI rs) f_stations f_queueSize (nI w) f_phase f_pc f_epc f_cause f_handling f_vector (nI len) f_fetchPc f_parked (nI qh) (nI (qd + 1)) (nI h) (nI c) f_waitingCount f_memCount a_regs a_memory a_progOp a_progA a_progB a_progC a_latency a_counters a_fqPc a_fqNext a_twoBit a_jumpDelta a_robPc a_robPredicted a_robState a_robRemaining a_robValue a_robFault a_robNext a_robSrc1 a_robVal1 a_robSrc2 a_robVal2 a_robOp a_robC a_robDest a_mapSlot a_unitBusy
        exact br_f hwk (br_f hq0 (br_f kx (br_t rfl G)))
      · show wY_dispatchStage_2 post f_pc f_epc f_cause f_handling f_vector f_phase (nI len) f_fetchPc f_parked (n + 1) (nI k) (nI (qd + 1)) (nI c) a_regs a_memory a_progOp a_progA a_progB a_progC a_counters a_settings a_queuePc a_queueNext a_twoBit a_jumpDelta a_ePc a_ePredicted a_eState a_eRemaining a_eValue a_eFault a_eNext a_eWait1 a_eVal1 a_eWait2 a_eVal2
        exact br_f hk3 (br_f hwk' (br_f hq0 (br_t ky G)))
theorem j_dx : ∀ z, rc_FZ z → (∀ post n, post (rc_zX z) → rc_dX post (n + 1) (rc_zw z) (rc_zX z)) ∧ (∀ post n, post (rc_zY z) → rc_dY post (n + 1) (rc_zw z) (rc_zY z)) := by
  refine rc_el ?_
  intro w rs len qh qc h c f_stations f_queueSize f_phase f_pc f_epc f_cause f_handling f_vector f_fetchPc f_parked f_waitingCount f_memCount a_regs a_memory a_progOp a_progA a_progB a_progC a_latency a_counters a_fqPc a_fqNext a_twoBit a_jumpDelta a_robPc a_robPredicted a_robState a_robRemaining a_robValue a_robFault a_robNext a_robSrc1 a_robVal1 a_robSrc2 a_robVal2 a_robOp a_robC a_robDest a_mapSlot a_unitBusy a_settings a_queuePc a_queueNext a_ePc a_ePredicted a_eState a_eRemaining a_eValue a_eFault a_eNext a_eWait1 a_eVal1 a_eWait2 a_eVal2 HF
  obtain ⟨⟨⟨hw1, hw3, hrs, _, _, _, hs10, _⟩, _⟩, _⟩ := HF
  refine ⟨fun post n G => ?_, fun post n G => ?_⟩
  · show wX_dispatchStage_2 post (n + 1) (nI w) (nI rs) f_stations f_queueSize (nI w) f_phase f_pc f_epc f_cause f_handling f_vector (nI len) f_fetchPc f_parked (nI qh) (nI qc) (nI h) (nI c) f_waitingCount f_memCount a_regs a_memory a_progOp a_progA a_progB a_progC a_latency a_counters a_fqPc a_fqNext a_twoBit a_jumpDelta a_robPc a_robPredicted a_robState a_robRemaining a_robValue a_robFault a_robNext a_robSrc1 a_robVal1 a_robSrc2 a_robVal2 a_robOp a_robC a_robDest a_mapSlot a_unitBusy
    exact br_t (nI_le (Nat.le_refl _) (by omega)) G
  · show wY_dispatchStage_2 post f_pc f_epc f_cause f_handling f_vector f_phase (nI len) f_fetchPc f_parked (n + 1) (nI w) (nI qc) (nI c) a_regs a_memory a_progOp a_progA a_progB a_progC a_counters a_settings a_queuePc a_queueNext a_twoBit a_jumpDelta a_ePc a_ePredicted a_eState a_eRemaining a_eValue a_eFault a_eNext a_eWait1 a_eVal1 a_eWait2 a_eVal2
    exact br_c (fun _ => G) (fun _ => br_t (by rw [hs10]; exact nI_le (Nat.le_refl _) (by omega)) G)
theorem j_dispatchStage {e : Nat} (z : rc_Z) (H : rc_RU e z) : ∃ z', rc_RU e z' ∧ (∀ post : SX → Prop, post (rc_zX z') → wpX_dispatchStage post (rc_zX z)) ∧ (∀ post : SY → Prop, post (rc_zY z') → wpY_dispatchStage post (rc_zY z)) := by
  obtain ⟨z', h1, h2, h3⟩ := rc_loop (WX := rc_dX) (WY := rc_dY) (I := rc_RU e) (F := rc_RU e) (e := e) (fun z1 h1 => by
    have g := j_dx z1 h1.1
    rw [h1.2.2] at g
    exact ⟨h1, g⟩) (fun k z1 hk h1 => by
    have h2 := h1.2.2
    have g := j_ds (k := k) z1 (by omega) (by rw [h2]; exact h1)
    rw [h2] at g
    exact g) e 0 z (by omega) H
  exact ⟨z', h1, fun post G => ⟨_, h2 post (e + 2) (by omega) G⟩, fun post G => ⟨_, h3 post (e + 2) (by omega) G⟩⟩
end
end
section
/-! the fetch stage, in lockstep -/
def rc_pr (op cc p : Int32) (tb jd : Nat → Int32) : Int32 := if op = 12 ∨ op = 13 then (if tb (p &&& 15).toNatClampNeg < 2 then p + 1 else p + cc) else if op = 14 then (p + 1) + jd (p &&& 7).toNatClampNeg else p + 1
def rc_pk (op cc : Int32) : Int32 := if op = -1 then 1 else if op = 0 then 1 else if op = 15 then (if cc = 3 then 0 else if cc = 4 then 0 else 1) else 0
theorem pk_01 (op cc : Int32) : rc_pk op cc = 0 ∨ rc_pk op cc = 1 := by
  unfold rc_pk
  repeat' split
  all_goals first | exact Or.inl rfl | exact Or.inr rfl
theorem bo_n {r : Int32} (h : r = 0 ∨ r = 1) : narrow .boolean (.int r) = .int r := by
  rcases h with e | e <;> rw [e] <;> rfl
theorem bo_f {r : Int32} (h : r = 0 ∨ r = 1) : fits .boolean (.int r) = true := by
  rcases h with e | e <;> rw [e] <;> rfl
section
variable {w rs len qh qc h c : Nat} {f_stations f_queueSize f_phase f_pc f_epc f_cause f_handling f_vector f_fetchPc f_parked f_waitingCount f_memCount : Int32} {a_regs a_memory a_progOp a_progA a_progB a_progC a_latency a_counters a_fqPc a_fqNext a_twoBit a_jumpDelta a_robPc a_robPredicted a_robState a_robRemaining a_robValue a_robFault a_robNext a_robSrc1 a_robVal1 a_robSrc2 a_robVal2 a_robOp a_robC a_robDest a_mapSlot a_unitBusy a_settings a_queuePc a_queueNext a_ePc a_ePredicted a_eState a_eRemaining a_eValue a_eFault a_eNext a_eWait1 a_eVal1 a_eWait2 a_eVal2 : Nat → Int32}
theorem and15_in (p : Int32) : vp_in (p &&& 15) 16 := pk_andIn p 4 (by decide) (by decide)
theorem x_predict {p : Int32} {post : Int32 → Prop} (P : rc_Pg len a_progOp a_progA a_progB a_progC) (H : post (rc_pr (rc_op len a_progOp p) (rc_fa len a_progC p) p a_twoBit a_jumpDelta)) : wpX_predict post ((nI rs), f_stations, f_queueSize, (nI w), f_phase, f_pc, f_epc, f_cause, f_handling, f_vector, (nI len), f_fetchPc, f_parked, (nI qh), (nI qc), (nI h), (nI c), f_waitingCount, f_memCount, a_regs, a_memory, a_progOp, a_progA, a_progB, a_progC, a_latency, a_counters, a_fqPc, a_fqNext, a_twoBit, a_jumpDelta, a_robPc, a_robPredicted, a_robState, a_robRemaining, a_robValue, a_robFault, a_robNext, a_robSrc1, a_robVal1, a_robSrc2, a_robVal2, a_robOp, a_robC, a_robDest, a_mapSlot, a_unitBusy) p := by
  have hl := P.1
  rcases pg_c P p with ⟨eo, _, _, ec, hx⟩ | ⟨j, hj64, hj, ej, h0, h1, eo, _, _, ec, ok⟩
  · rw [eo, rc_pr, if_neg (by decide), if_neg (by decide)] at H
    rcases hx with hx | hx
    · exact br_t hx H
    · exact br_c (fun _ => H) (fun _ => br_f (Int32.not_lt.mpr hx) H)
  · have hj' : p.toNatClampNeg = j := by rw [ej]; exact nI_clamp (by omega)
    have hi := pg_in hl h0 h1
    refine br_f h0 (br_t (Int32.not_le.mp h1) (And.intro hi (nm_r (e' := a_progOp j) (by rw [hj']) ?_)))
    rw [eo, ec] at H
    by_cases q : a_progOp j = 12 ∨ a_progOp j = 13
    · rw [rc_pr, if_pos q] at H
      have n14 : ¬ a_progOp j = 14 := by rcases q with z | z <;> rw [z] <;> decide
      have g : wX_predict_35 post p (a_progOp j) (nI rs) f_stations f_queueSize (nI w) f_phase f_pc f_epc f_cause f_handling f_vector (nI len) f_fetchPc f_parked (nI qh) (nI qc) (nI h) (nI c) f_waitingCount f_memCount a_regs a_memory a_progOp a_progA a_progB a_progC a_latency a_counters a_fqPc a_fqNext a_twoBit a_jumpDelta a_robPc a_robPredicted a_robState a_robRemaining a_robValue a_robFault a_robNext a_robSrc1 a_robVal1 a_robSrc2 a_robVal2 a_robOp a_robC a_robDest a_mapSlot a_unitBusy := by
        refine And.intro (and15_in p) (br_c (fun z => br_f n14 (by rw [if_pos z] at H; exact H)) (fun z => And.intro hi ?_))
        rw [if_neg z] at H
        rw [hj']
        exact H
      rcases q with z | z
      · exact br_t z g
      · exact br_c (fun _ => g) (fun _ => br_t z g)
    · rw [rc_pr, if_neg q] at H
      refine br_f (fun z => q (Or.inl z)) (br_f (fun z => q (Or.inr z)) ?_)
      exact br_c (fun z => And.intro (and7_in p) (by rw [if_pos z] at H; exact H)) (fun z => by rw [if_neg z] at H; exact H)
theorem x_parksAt {p : Int32} {post : Int32 → Prop} (P : rc_Pg len a_progOp a_progA a_progB a_progC) (H : post (rc_pk (rc_op len a_progOp p) (rc_fa len a_progC p))) : wpX_parksAt post ((nI rs), f_stations, f_queueSize, (nI w), f_phase, f_pc, f_epc, f_cause, f_handling, f_vector, (nI len), f_fetchPc, f_parked, (nI qh), (nI qc), (nI h), (nI c), f_waitingCount, f_memCount, a_regs, a_memory, a_progOp, a_progA, a_progB, a_progC, a_latency, a_counters, a_fqPc, a_fqNext, a_twoBit, a_jumpDelta, a_robPc, a_robPredicted, a_robState, a_robRemaining, a_robValue, a_robFault, a_robNext, a_robSrc1, a_robVal1, a_robSrc2, a_robVal2, a_robOp, a_robC, a_robDest, a_mapSlot, a_unitBusy) p := by
  have hl := P.1
  rcases pg_c P p with ⟨eo, _, _, ec, hx⟩ | ⟨j, hj64, hj, ej, h0, h1, eo, _, _, ec, ok⟩
  · rw [eo, rc_pk, if_pos rfl] at H
    rcases hx with hx | hx
    · exact br_t hx H
    · exact br_c (fun _ => H) (fun _ => br_f (Int32.not_lt.mpr hx) H)
  · have hj' : p.toNatClampNeg = j := by rw [ej]; exact nI_clamp (by omega)
    have hi := pg_in hl h0 h1
    refine br_f h0 (br_t (Int32.not_le.mp h1) (And.intro hi (nm_r (e' := a_progOp j) (by rw [hj']) ?_)))
    rw [hj']
    obtain ⟨⟨o, ho, qo⟩, _⟩ := ok
    rw [eo, ec, rc_pk, if_neg (by rw [qo]; exact rc_nm1 (by omega))] at H
    exact if_br (post := post) H id fun H => if_br (post := post) H (fun H => And.intro hi (if_br (post := post) H id fun H => And.intro hi (if_br (post := post) H id id))) id
theorem y_112 {k : Nat} {p op cc q pk : Int32} {post : SY → Prop} {J2} (hq : qc < 4) (hpk : f_parked = 0) (epk : rc_pk op cc = pk) (H : J2 (nI (k + 1)) q pk (nI (qc + 1)) a_regs a_memory a_progOp a_progA a_progB a_progC a_counters a_settings (upd a_queuePc qc p) (upd a_queueNext qc q) a_twoBit a_jumpDelta a_ePc a_ePredicted a_eState a_eRemaining a_eValue a_eFault a_eNext a_eWait1 a_eVal1 a_eWait2 a_eVal2) : wY_fetchStage_112 post J2 (nI k) p op cc q f_pc f_epc f_cause f_handling f_vector f_phase (nI len) f_fetchPc f_parked (nI qc) (nI c) a_regs a_memory a_progOp a_progA a_progB a_progC a_counters a_settings a_queuePc a_queueNext a_twoBit a_jumpDelta a_ePc a_ePredicted a_eState a_eRemaining a_eValue a_eFault a_eNext a_eWait1 a_eVal1 a_eWait2 a_eVal2 := by
  have hin : vp_in (nI qc) 4 := vp_in_nI hq (by omega)
  refine And.intro hin ?_
  rw [nI_clamp (n := qc) (by omega)]
  refine nm_e (And.intro hin (nm_e (nm_r (nI_1 qc) ?_)))
  subst hpk
  unfold rc_pk at epk
  by_cases a : op = -1
  · rw [if_pos a] at epk
    subst epk
    exact br_t a (nm_r (nI_1 k) H)
  · rw [if_neg a] at epk
    by_cases b : op = 0
    · rw [if_pos b] at epk
      subst epk
      exact br_f a (br_t b (nm_r (nI_1 k) H))
    · rw [if_neg b] at epk
      by_cases d : op = 15
      · rw [if_pos d] at epk
        by_cases c3 : cc = 3
        · rw [if_pos c3] at epk
          subst epk
          exact br_f a (br_f b (br_t d (br_t c3 (nm_r (nI_1 k) H))))
        · rw [if_neg c3] at epk
          by_cases c4 : cc = 4
          · rw [if_pos c4] at epk
            subst epk
            exact br_f a (br_f b (br_t d (br_f c3 (br_t c4 (nm_r (nI_1 k) H)))))
          · rw [if_neg c4] at epk
            subst epk
            exact br_f a (br_f b (br_t d (br_f c3 (br_f c4 (nm_r (nI_1 k) H)))))
      · rw [if_neg d] at epk
        subst epk
        exact br_f a (br_f b (br_f d (nm_r (nI_1 k) H)))
theorem j_f1 (H : rc_F0 w rs len qh qc h c f_stations f_queueSize f_waitingCount f_memCount a_latency a_settings a_progOp a_progA a_progB a_progC a_fqPc a_fqNext a_queuePc a_queueNext a_robPc a_robPredicted a_robState a_robRemaining a_robValue a_robFault a_robNext a_robSrc1 a_robVal1 a_robSrc2 a_robVal2 a_robOp a_robC a_robDest a_ePc a_ePredicted a_eState a_eRemaining a_eValue a_eFault a_eNext a_eWait1 a_eVal1 a_eWait2 a_eVal2 a_mapSlot a_unitBusy) (hq : qc < 4) (hpk : f_parked = 0) : ∃ q pk, (rc_F0 w rs len qh (qc + 1) h c f_stations f_queueSize f_waitingCount f_memCount a_latency a_settings a_progOp a_progA a_progB a_progC (upd a_fqPc ((qh + qc) % 4) f_fetchPc) (upd a_fqNext ((qh + qc) % 4) q) (upd a_queuePc qc f_fetchPc) (upd a_queueNext qc q) a_robPc a_robPredicted a_robState a_robRemaining a_robValue a_robFault a_robNext a_robSrc1 a_robVal1 a_robSrc2 a_robVal2 a_robOp a_robC a_robDest a_ePc a_ePredicted a_eState a_eRemaining a_eValue a_eFault a_eNext a_eWait1 a_eVal1 a_eWait2 a_eVal2 a_mapSlot a_unitBusy) ∧ (pk = 0 ∨ pk = 1) ∧ (∀ post : SX → Prop, post ((nI rs), f_stations, f_queueSize, (nI w), f_phase, f_pc, f_epc, f_cause, f_handling, f_vector, (nI len), q, pk, (nI qh), (nI (qc + 1)), (nI h), (nI c), f_waitingCount, f_memCount, a_regs, a_memory, a_progOp, a_progA, a_progB, a_progC, a_latency, a_counters, (upd a_fqPc ((qh + qc) % 4) f_fetchPc), (upd a_fqNext ((qh + qc) % 4) q), a_twoBit, a_jumpDelta, a_robPc, a_robPredicted, a_robState, a_robRemaining, a_robValue, a_robFault, a_robNext, a_robSrc1, a_robVal1, a_robSrc2, a_robVal2, a_robOp, a_robC, a_robDest, a_mapSlot, a_unitBusy) → wpX_fetchOne post ((nI rs), f_stations, f_queueSize, (nI w), f_phase, f_pc, f_epc, f_cause, f_handling, f_vector, (nI len), f_fetchPc, f_parked, (nI qh), (nI qc), (nI h), (nI c), f_waitingCount, f_memCount, a_regs, a_memory, a_progOp, a_progA, a_progB, a_progC, a_latency, a_counters, a_fqPc, a_fqNext, a_twoBit, a_jumpDelta, a_robPc, a_robPredicted, a_robState, a_robRemaining, a_robValue, a_robFault, a_robNext, a_robSrc1, a_robVal1, a_robSrc2, a_robVal2, a_robOp, a_robC, a_robDest, a_mapSlot, a_unitBusy)) ∧ (∀ (post : SY → Prop) J2 (k : Nat), J2 (nI (k + 1)) q pk (nI (qc + 1)) a_regs a_memory a_progOp a_progA a_progB a_progC a_counters a_settings (upd a_queuePc qc f_fetchPc) (upd a_queueNext qc q) a_twoBit a_jumpDelta a_ePc a_ePredicted a_eState a_eRemaining a_eValue a_eFault a_eNext a_eWait1 a_eVal1 a_eWait2 a_eVal2 → wpY_opAt (fun r_5 => wpY_cAt (fun r_40 => ∀ x5_75 : Int32, x5_75 = f_fetchPc + 1 → ((r_5 = 12 → wY_fetchStage_69 post J2 (nI k) f_fetchPc r_5 r_40 x5_75 f_pc f_epc f_cause f_handling f_vector f_phase (nI len) f_fetchPc f_parked (nI qc) (nI c) a_regs a_memory a_progOp a_progA a_progB a_progC a_counters a_settings a_queuePc a_queueNext a_twoBit a_jumpDelta a_ePc a_ePredicted a_eState a_eRemaining a_eValue a_eFault a_eNext a_eWait1 a_eVal1 a_eWait2 a_eVal2) ∧ (¬ r_5 = 12 → ((r_5 = 13 → wY_fetchStage_69 post J2 (nI k) f_fetchPc r_5 r_40 x5_75 f_pc f_epc f_cause f_handling f_vector f_phase (nI len) f_fetchPc f_parked (nI qc) (nI c) a_regs a_memory a_progOp a_progA a_progB a_progC a_counters a_settings a_queuePc a_queueNext a_twoBit a_jumpDelta a_ePc a_ePredicted a_eState a_eRemaining a_eValue a_eFault a_eNext a_eWait1 a_eVal1 a_eWait2 a_eVal2) ∧ (¬ r_5 = 13 → ((r_5 = 14 → (vp_in (f_fetchPc &&& 7) 8 ∧ (∀ x5_99 : Int32, x5_99 = (f_fetchPc + 1) + (a_jumpDelta (f_fetchPc &&& 7).toNatClampNeg) → wY_fetchStage_112 post J2 (nI k) f_fetchPc r_5 r_40 x5_99 f_pc f_epc f_cause f_handling f_vector f_phase (nI len) f_fetchPc f_parked (nI qc) (nI c) a_regs a_memory a_progOp a_progA a_progB a_progC a_counters a_settings a_queuePc a_queueNext a_twoBit a_jumpDelta a_ePc a_ePredicted a_eState a_eRemaining a_eValue a_eFault a_eNext a_eWait1 a_eVal1 a_eWait2 a_eVal2))) ∧ (¬ r_5 = 14 → wY_fetchStage_112 post J2 (nI k) f_fetchPc r_5 r_40 x5_75 f_pc f_epc f_cause f_handling f_vector f_phase (nI len) f_fetchPc f_parked (nI qc) (nI c) a_regs a_memory a_progOp a_progA a_progB a_progC a_counters a_settings a_queuePc a_queueNext a_twoBit a_jumpDelta a_ePc a_ePredicted a_eState a_eRemaining a_eValue a_eFault a_eNext a_eWait1 a_eVal1 a_eWait2 a_eVal2))))))) (f_pc, f_epc, f_cause, f_handling, f_vector, f_phase, (nI len), f_fetchPc, f_parked, (nI qc), (nI c), a_regs, a_memory, a_progOp, a_progA, a_progB, a_progC, a_counters, a_settings, a_queuePc, a_queueNext, a_twoBit, a_jumpDelta, a_ePc, a_ePredicted, a_eState, a_eRemaining, a_eValue, a_eFault, a_eNext, a_eWait1, a_eVal1, a_eWait2, a_eVal2) f_fetchPc) (f_pc, f_epc, f_cause, f_handling, f_vector, f_phase, (nI len), f_fetchPc, f_parked, (nI qc), (nI c), a_regs, a_memory, a_progOp, a_progA, a_progB, a_progC, a_counters, a_settings, a_queuePc, a_queueNext, a_twoBit, a_jumpDelta, a_ePc, a_ePredicted, a_eState, a_eRemaining, a_eValue, a_eFault, a_eNext, a_eWait1, a_eVal1, a_eWait2, a_eVal2) f_fetchPc) := by
  have H' := H
  obtain ⟨_, hP, ⟨hq4, hqc, q1, q2⟩, _⟩ := H
  have hl := hP.1
  refine ⟨rc_pr (rc_op len a_progOp f_fetchPc) (rc_fa len a_progC f_fetchPc) f_fetchPc a_twoBit a_jumpDelta, rc_pk (rc_op len a_progOp f_fetchPc) (rc_fa len a_progC f_fetchPc), f0_fq H' ⟨hq4, by omega, ra_p rc_4 hq q1, ra_p rc_4 hq q2⟩, pk_01 _ _, fun post G => ?_, fun post J2 k G => ?_⟩
  · unfold wpX_fetchOne
    refine x_predict hP ?_
    have hin : vp_in (nI ((qh + qc) % 4)) 4 := vp_in_nI (by omega) (by omega)
    refine nm_r (rc_qslot hq4 (by omega)) (And.intro hin ?_)
    rw [nI_clamp (by omega)]
    refine nm_e (And.intro hin (nm_e (nm_r (nI_1 qc) (x_parksAt hP ?_))))
    exact And.intro (bo_n (pk_01 _ _)) (And.intro (bo_f (pk_01 _ _)) G)
  · refine y_opAt hl (y_cAt hl (nm_e ?_))
    generalize rc_op len a_progOp f_fetchPc = op at G
    generalize rc_fa len a_progC f_fetchPc = cc at G
    by_cases q : op = 12 ∨ op = 13
    · rw [rc_pr, if_pos q] at G
      have g : wY_fetchStage_69 post J2 (nI k) f_fetchPc op cc (f_fetchPc + 1) f_pc f_epc f_cause f_handling f_vector f_phase (nI len) f_fetchPc f_parked (nI qc) (nI c) a_regs a_memory a_progOp a_progA a_progB a_progC a_counters a_settings a_queuePc a_queueNext a_twoBit a_jumpDelta a_ePc a_ePredicted a_eState a_eRemaining a_eValue a_eFault a_eNext a_eWait1 a_eVal1 a_eWait2 a_eVal2 := by
        refine And.intro (and15_in _) (br_c (fun z => ?_) (fun z => nm_e ?_))
        · rw [if_pos z] at G
          exact y_112 hq hpk rfl G
        · rw [if_neg z] at G
          exact y_112 hq hpk rfl G
      rcases q with z | z
      · exact br_t z g
      · exact br_c (fun _ => g) (fun _ => br_t z g)
    · rw [rc_pr, if_neg q] at G
      refine br_f (fun z => q (Or.inl z)) (br_f (fun z => q (Or.inr z)) (br_c (fun z => And.intro (and7_in _) (nm_e ?_)) (fun z => ?_)))
      · rw [if_pos z] at G
        exact y_112 hq hpk rfl G
      · rw [if_neg z] at G
        exact y_112 hq hpk rfl G
theorem j_ts {k : Nat} : ∀ z, k < rc_zw z → rc_RU (rc_zw z) z → rc_ST rc_tX rc_tY (rc_RU (rc_zw z)) (rc_RU (rc_zw z)) k z := by
  refine rc_el ?_
  intro w rs len qh qc h c f_stations f_queueSize f_phase f_pc f_epc f_cause f_handling f_vector f_fetchPc f_parked f_waitingCount f_memCount a_regs a_memory a_progOp a_progA a_progB a_progC a_latency a_counters a_fqPc a_fqNext a_twoBit a_jumpDelta a_robPc a_robPredicted a_robState a_robRemaining a_robValue a_robFault a_robNext a_robSrc1 a_robVal1 a_robSrc2 a_robVal2 a_robOp a_robC a_robDest a_mapSlot a_unitBusy a_settings a_queuePc a_queueNext a_ePc a_ePredicted a_eState a_eRemaining a_eValue a_eFault a_eNext a_eWait1 a_eVal1 a_eWait2 a_eVal2 hk HR
  obtain ⟨⟨H, hb, hpk, _⟩, hph, _⟩ := HR
  show rc_ST rc_tX rc_tY (rc_RU w) (rc_RU w) k (w, rs, len, qh, qc, h, c, f_stations, f_queueSize, f_phase, f_pc, f_epc, f_cause, f_handling, f_vector, f_fetchPc, f_parked, f_waitingCount, f_memCount, a_regs, a_memory, a_progOp, a_progA, a_progB, a_progC, a_latency, a_counters, a_fqPc, a_fqNext, a_twoBit, a_jumpDelta, a_robPc, a_robPredicted, a_robState, a_robRemaining, a_robValue, a_robFault, a_robNext, a_robSrc1, a_robVal1, a_robSrc2, a_robVal2, a_robOp, a_robC, a_robDest, a_mapSlot, a_unitBusy, a_settings, a_queuePc, a_queueNext, a_ePc, a_ePredicted, a_eState, a_eRemaining, a_eValue, a_eFault, a_eNext, a_eWait1, a_eVal1, a_eWait2, a_eVal2)
  have hk : k < w := hk
  have hph : f_phase = 1 := hph
  have H' : rc_F0 w rs len qh qc h c f_stations f_queueSize f_waitingCount f_memCount a_latency a_settings a_progOp a_progA a_progB a_progC a_fqPc a_fqNext a_queuePc a_queueNext a_robPc a_robPredicted a_robState a_robRemaining a_robValue a_robFault a_robNext a_robSrc1 a_robVal1 a_robSrc2 a_robVal2 a_robOp a_robC a_robDest a_ePc a_ePredicted a_eState a_eRemaining a_eValue a_eFault a_eNext a_eWait1 a_eVal1 a_eWait2 a_eVal2 a_mapSlot a_unitBusy := H
  obtain ⟨⟨hw1, hw3, hrs, hs7, hs8, hs9, hs10, _⟩, hP, ⟨hq4, hqc, q1, q2⟩, _⟩ := H
  have hwk : ¬ nI w ≤ nI k := nI_ge hk (by omega)
  have hwk' : ¬ a_settings 10 ≤ nI k := by rw [hs10]; exact hwk
  have hk3 : ¬ (3 : Int32) ≤ nI k := nI_ge (b := 3) (by omega) (by omega)
  have hRU : rc_RU w (w, rs, len, qh, qc, h, c, f_stations, f_queueSize, f_phase, f_pc, f_epc, f_cause, f_handling, f_vector, f_fetchPc, f_parked, f_waitingCount, f_memCount, a_regs, a_memory, a_progOp, a_progA, a_progB, a_progC, a_latency, a_counters, a_fqPc, a_fqNext, a_twoBit, a_jumpDelta, a_robPc, a_robPredicted, a_robState, a_robRemaining, a_robValue, a_robFault, a_robNext, a_robSrc1, a_robVal1, a_robSrc2, a_robVal2, a_robOp, a_robC, a_robDest, a_mapSlot, a_unitBusy, a_settings, a_queuePc, a_queueNext, a_ePc, a_ePredicted, a_eState, a_eRemaining, a_eValue, a_eFault, a_eNext, a_eWait1, a_eVal1, a_eWait2, a_eVal2) := ⟨⟨H', hb, hpk, Or.inl hph⟩, hph, rfl⟩
  by_cases p0 : f_parked = 0
  · by_cases q4 : qc < 4
    · have kq : nI qc < 4 := nI_lt (b := 4) q4 (by omega)
      obtain ⟨q, pk, hF, h01, fX, fY⟩ := j_f1 (w := w) (rs := rs) (len := len) (qh := qh) (qc := qc) (h := h) (c := c) (f_stations := f_stations) (f_queueSize := f_queueSize) (f_phase := f_phase) (f_pc := f_pc) (f_epc := f_epc) (f_cause := f_cause) (f_handling := f_handling) (f_vector := f_vector) (f_fetchPc := f_fetchPc) (f_parked := f_parked) (f_waitingCount := f_waitingCount) (f_memCount := f_memCount) (a_regs := a_regs) (a_memory := a_memory) (a_progOp := a_progOp) (a_progA := a_progA) (a_progB := a_progB) (a_progC := a_progC) (a_latency := a_latency) (a_counters := a_counters) (a_fqPc := a_fqPc) (a_fqNext := a_fqNext) (a_twoBit := a_twoBit) (a_jumpDelta := a_jumpDelta) (a_robPc := a_robPc) (a_robPredicted := a_robPredicted) (a_robState := a_robState) (a_robRemaining := a_robRemaining) (a_robValue := a_robValue) (a_robFault := a_robFault) (a_robNext := a_robNext) (a_robSrc1 := a_robSrc1) (a_robVal1 := a_robVal1) (a_robSrc2 := a_robSrc2) (a_robVal2 := a_robVal2) (a_robOp := a_robOp) (a_robC := a_robC) (a_robDest := a_robDest) (a_mapSlot := a_mapSlot) (a_unitBusy := a_unitBusy) (a_settings := a_settings) (a_queuePc := a_queuePc) (a_queueNext := a_queueNext) (a_ePc := a_ePc) (a_ePredicted := a_ePredicted) (a_eState := a_eState) (a_eRemaining := a_eRemaining) (a_eValue := a_eValue) (a_eFault := a_eFault) (a_eNext := a_eNext) (a_eWait1 := a_eWait1) (a_eVal1 := a_eVal1) (a_eWait2 := a_eWait2) (a_eVal2 := a_eVal2) H' q4 p0
      refine Or.inr ⟨(w, rs, len, qh, (qc + 1), h, c, f_stations, f_queueSize, f_phase, f_pc, f_epc, f_cause, f_handling, f_vector, q, pk, f_waitingCount, f_memCount, a_regs, a_memory, a_progOp, a_progA, a_progB, a_progC, a_latency, a_counters, (upd a_fqPc ((qh + qc) % 4) f_fetchPc), (upd a_fqNext ((qh + qc) % 4) q), a_twoBit, a_jumpDelta, a_robPc, a_robPredicted, a_robState, a_robRemaining, a_robValue, a_robFault, a_robNext, a_robSrc1, a_robVal1, a_robSrc2, a_robVal2, a_robOp, a_robC, a_robDest, a_mapSlot, a_unitBusy, a_settings, (upd a_queuePc qc f_fetchPc), (upd a_queueNext qc q), a_ePc, a_ePredicted, a_eState, a_eRemaining, a_eValue, a_eFault, a_eNext, a_eWait1, a_eVal1, a_eWait2, a_eVal2), ⟨⟨hF, hb, h01, Or.inl hph⟩, hph, rfl⟩, fun post n G => ?_, fun post n G => ?_⟩
      · show wX_fetchStage_2 post (n + 1) (nI k) (nI rs) f_stations f_queueSize (nI w) f_phase f_pc f_epc f_cause f_handling f_vector (nI len) f_fetchPc f_parked (nI qh) (nI qc) (nI h) (nI c) f_waitingCount f_memCount a_regs a_memory a_progOp a_progA a_progB a_progC a_latency a_counters a_fqPc a_fqNext a_twoBit a_jumpDelta a_robPc a_robPredicted a_robState a_robRemaining a_robValue a_robFault a_robNext a_robSrc1 a_robVal1 a_robSrc2 a_robVal2 a_robOp a_robC a_robDest a_mapSlot a_unitBusy
        exact br_f hwk (br_t p0 (br_t kq (fX _ (nm_r (nI_1 k) G))))
      · show wY_fetchStage_2 post f_pc f_epc f_cause f_handling f_vector f_phase (nI len) (nI c) (n + 1) (nI k) f_fetchPc f_parked (nI qc) a_regs a_memory a_progOp a_progA a_progB a_progC a_counters a_settings a_queuePc a_queueNext a_twoBit a_jumpDelta a_ePc a_ePredicted a_eState a_eRemaining a_eValue a_eFault a_eNext a_eWait1 a_eVal1 a_eWait2 a_eVal2
        exact br_f hk3 (br_f hwk' (br_t p0 (br_t kq (fY post _ k G))))
    · have kq : ¬ nI qc < 4 := nI_nlt (b := 4) (by omega) (by omega)
      refine Or.inl ⟨(w, rs, len, qh, qc, h, c, f_stations, f_queueSize, f_phase, f_pc, f_epc, f_cause, f_handling, f_vector, f_fetchPc, f_parked, f_waitingCount, f_memCount, a_regs, a_memory, a_progOp, a_progA, a_progB, a_progC, a_latency, a_counters, a_fqPc, a_fqNext, a_twoBit, a_jumpDelta, a_robPc, a_robPredicted, a_robState, a_robRemaining, a_robValue, a_robFault, a_robNext, a_robSrc1, a_robVal1, a_robSrc2, a_robVal2, a_robOp, a_robC, a_robDest, a_mapSlot, a_unitBusy, a_settings, a_queuePc, a_queueNext, a_ePc, a_ePredicted, a_eState, a_eRemaining, a_eValue, a_eFault, a_eNext, a_eWait1, a_eVal1, a_eWait2, a_eVal2), hRU, fun post n G => ?_, fun post n G => ?_⟩
      · show wX_fetchStage_2 post (n + 2) (nI k) (nI rs) f_stations f_queueSize (nI w) f_phase f_pc f_epc f_cause f_handling f_vector (nI len) f_fetchPc f_parked (nI qh) (nI qc) (nI h) (nI c) f_waitingCount f_memCount a_regs a_memory a_progOp a_progA a_progB a_progC a_latency a_counters a_fqPc a_fqNext a_twoBit a_jumpDelta a_robPc a_robPredicted a_robState a_robRemaining a_robValue a_robFault a_robNext a_robSrc1 a_robVal1 a_robSrc2 a_robVal2 a_robOp a_robC a_robDest a_mapSlot a_unitBusy
        exact br_f hwk (br_t p0 (br_f kq G))
      · show wY_fetchStage_2 post f_pc f_epc f_cause f_handling f_vector f_phase (nI len) (nI c) (n + 1) (nI k) f_fetchPc f_parked (nI qc) a_regs a_memory a_progOp a_progA a_progB a_progC a_counters a_settings a_queuePc a_queueNext a_twoBit a_jumpDelta a_ePc a_ePredicted a_eState a_eRemaining a_eValue a_eFault a_eNext a_eWait1 a_eVal1 a_eWait2 a_eVal2
        exact br_f hk3 (br_f hwk' (br_t p0 (br_f kq G)))
  · refine Or.inl ⟨(w, rs, len, qh, qc, h, c, f_stations, f_queueSize, f_phase, f_pc, f_epc, f_cause, f_handling, f_vector, f_fetchPc, f_parked, f_waitingCount, f_memCount, a_regs, a_memory, a_progOp, a_progA, a_progB, a_progC, a_latency, a_counters, a_fqPc, a_fqNext, a_twoBit, a_jumpDelta, a_robPc, a_robPredicted, a_robState, a_robRemaining, a_robValue, a_robFault, a_robNext, a_robSrc1, a_robVal1, a_robSrc2, a_robVal2, a_robOp, a_robC, a_robDest, a_mapSlot, a_unitBusy, a_settings, a_queuePc, a_queueNext, a_ePc, a_ePredicted, a_eState, a_eRemaining, a_eValue, a_eFault, a_eNext, a_eWait1, a_eVal1, a_eWait2, a_eVal2), hRU, fun post n G => ?_, fun post n G => ?_⟩
    · show wX_fetchStage_2 post (n + 2) (nI k) (nI rs) f_stations f_queueSize (nI w) f_phase f_pc f_epc f_cause f_handling f_vector (nI len) f_fetchPc f_parked (nI qh) (nI qc) (nI h) (nI c) f_waitingCount f_memCount a_regs a_memory a_progOp a_progA a_progB a_progC a_latency a_counters a_fqPc a_fqNext a_twoBit a_jumpDelta a_robPc a_robPredicted a_robState a_robRemaining a_robValue a_robFault a_robNext a_robSrc1 a_robVal1 a_robSrc2 a_robVal2 a_robOp a_robC a_robDest a_mapSlot a_unitBusy
      exact br_f hwk (br_f p0 G)
    · show wY_fetchStage_2 post f_pc f_epc f_cause f_handling f_vector f_phase (nI len) (nI c) (n + 1) (nI k) f_fetchPc f_parked (nI qc) a_regs a_memory a_progOp a_progA a_progB a_progC a_counters a_settings a_queuePc a_queueNext a_twoBit a_jumpDelta a_ePc a_ePredicted a_eState a_eRemaining a_eValue a_eFault a_eNext a_eWait1 a_eVal1 a_eWait2 a_eVal2
      exact br_f hk3 (br_f hwk' (br_f p0 G))
theorem j_tx : ∀ z, rc_FZ z → (∀ post n, post (rc_zX z) → rc_tX post (n + 1) (rc_zw z) (rc_zX z)) ∧ (∀ post n, post (rc_zY z) → rc_tY post (n + 1) (rc_zw z) (rc_zY z)) := by
  refine rc_el ?_
  intro w rs len qh qc h c f_stations f_queueSize f_phase f_pc f_epc f_cause f_handling f_vector f_fetchPc f_parked f_waitingCount f_memCount a_regs a_memory a_progOp a_progA a_progB a_progC a_latency a_counters a_fqPc a_fqNext a_twoBit a_jumpDelta a_robPc a_robPredicted a_robState a_robRemaining a_robValue a_robFault a_robNext a_robSrc1 a_robVal1 a_robSrc2 a_robVal2 a_robOp a_robC a_robDest a_mapSlot a_unitBusy a_settings a_queuePc a_queueNext a_ePc a_ePredicted a_eState a_eRemaining a_eValue a_eFault a_eNext a_eWait1 a_eVal1 a_eWait2 a_eVal2 HF
  obtain ⟨⟨⟨hw1, hw3, hrs, _, _, _, hs10, _⟩, _⟩, _⟩ := HF
  refine ⟨fun post n G => ?_, fun post n G => ?_⟩
  · show wX_fetchStage_2 post (n + 1) (nI w) (nI rs) f_stations f_queueSize (nI w) f_phase f_pc f_epc f_cause f_handling f_vector (nI len) f_fetchPc f_parked (nI qh) (nI qc) (nI h) (nI c) f_waitingCount f_memCount a_regs a_memory a_progOp a_progA a_progB a_progC a_latency a_counters a_fqPc a_fqNext a_twoBit a_jumpDelta a_robPc a_robPredicted a_robState a_robRemaining a_robValue a_robFault a_robNext a_robSrc1 a_robVal1 a_robSrc2 a_robVal2 a_robOp a_robC a_robDest a_mapSlot a_unitBusy
    exact br_t (nI_le (Nat.le_refl _) (by omega)) G
  · show wY_fetchStage_2 post f_pc f_epc f_cause f_handling f_vector f_phase (nI len) (nI c) (n + 1) (nI w) f_fetchPc f_parked (nI qc) a_regs a_memory a_progOp a_progA a_progB a_progC a_counters a_settings a_queuePc a_queueNext a_twoBit a_jumpDelta a_ePc a_ePredicted a_eState a_eRemaining a_eValue a_eFault a_eNext a_eWait1 a_eVal1 a_eWait2 a_eVal2
    exact br_c (fun _ => G) (fun _ => br_t (by rw [hs10]; exact nI_le (Nat.le_refl _) (by omega)) G)
theorem j_fetchStage {e : Nat} (z : rc_Z) (H : rc_RU e z) : ∃ z', rc_RU e z' ∧ (∀ post : SX → Prop, post (rc_zX z') → wpX_fetchStage post (rc_zX z)) ∧ (∀ post : SY → Prop, post (rc_zY z') → wpY_fetchStage post (rc_zY z)) := by
  obtain ⟨z', h1, h2, h3⟩ := rc_loop (WX := rc_tX) (WY := rc_tY) (I := rc_RU e) (F := rc_RU e) (e := e) (fun z1 h1 => by
    have g := j_tx z1 h1.1
    rw [h1.2.2] at g
    exact ⟨h1, g⟩) (fun k z1 hk h1 => by
    have h2 := h1.2.2
    have g := j_ts (k := k) z1 (by omega) (by rw [h2]; exact h1)
    rw [h2] at g
    exact g) e 0 z (by omega) H
  exact ⟨z', h1, fun post G => ⟨_, h2 post (e + 2) (by omega) G⟩, fun post G => ⟨_, h3 post (e + 2) (by omega) G⟩⟩
end
end
section
/-! one clock; the clock loop; the interpreting loop -/
def rc_zn (z : rc_Z) : Int32 := match z with
  | (w, rs, len, qh, qc, h, c, f_stations, f_queueSize, f_phase, f_pc, f_epc, f_cause, f_handling, f_vector, f_fetchPc, f_parked, f_waitingCount, f_memCount, a_regs, a_memory, a_progOp, a_progA, a_progB, a_progC, a_latency, a_counters, a_fqPc, a_fqNext, a_twoBit, a_jumpDelta, a_robPc, a_robPredicted, a_robState, a_robRemaining, a_robValue, a_robFault, a_robNext, a_robSrc1, a_robVal1, a_robSrc2, a_robVal2, a_robOp, a_robC, a_robDest, a_mapSlot, a_unitBusy, a_settings, a_queuePc, a_queueNext, a_ePc, a_ePredicted, a_eState, a_eRemaining, a_eValue, a_eFault, a_eNext, a_eWait1, a_eVal1, a_eWait2, a_eVal2) => a_counters 1
def rc_kX (post : Int32 → SX → Prop) (x1 x2 : Int32) (n i : Nat) (u : SX) : Prop := match u with
  | (f_reorderSize, f_stations, f_queueSize, f_width, f_phase, f_pc, f_epc, f_cause, f_handling, f_vector, f_length, f_fetchPc, f_parked, f_fqHead, f_fqCount, f_head, f_count, f_waitingCount, f_memCount, a_regs, a_memory, a_progOp, a_progA, a_progB, a_progC, a_latency, a_counters, a_fqPc, a_fqNext, a_twoBit, a_jumpDelta, a_robPc, a_robPredicted, a_robState, a_robRemaining, a_robValue, a_robFault, a_robNext, a_robSrc1, a_robVal1, a_robSrc2, a_robVal2, a_robOp, a_robC, a_robDest, a_mapSlot, a_unitBusy) => wX_clock_33 post x1 x2 n (nI i) f_reorderSize f_stations f_queueSize f_width f_phase f_pc f_epc f_cause f_handling f_vector f_length f_fetchPc f_parked f_fqHead f_fqCount f_head f_count f_waitingCount f_memCount a_regs a_memory a_progOp a_progA a_progB a_progC a_latency a_counters a_fqPc a_fqNext a_twoBit a_jumpDelta a_robPc a_robPredicted a_robState a_robRemaining a_robValue a_robFault a_robNext a_robSrc1 a_robVal1 a_robSrc2 a_robVal2 a_robOp a_robC a_robDest a_mapSlot a_unitBusy
def rc_kY (post : Int32 → SY → Prop) (x1 x2 : Int32) (n i : Nat) (v : SY) : Prop := match v with
  | (f_pcNow, f_epcNow, f_causeNow, f_inHandler, f_vectorNow, f_phaseNow, f_length, f_fetchPc, f_parkedNow, f_queueCount, f_count, a_regs, a_cells, a_progOp, a_progA, a_progB, a_progC, a_counters, a_settings, a_queuePc, a_queueNext, a_twoBit, a_delta, a_ePc, a_ePredicted, a_eState, a_eRemaining, a_eValue, a_eFault, a_eNext, a_eWait1, a_eVal1, a_eWait2, a_eVal2) => wY_clock_33 post x1 x2 n (nI i) f_pcNow f_epcNow f_causeNow f_inHandler f_vectorNow f_phaseNow f_length f_fetchPc f_parkedNow f_queueCount f_count a_regs a_cells a_progOp a_progA a_progB a_progC a_counters a_settings a_queuePc a_queueNext a_twoBit a_delta a_ePc a_ePredicted a_eState a_eRemaining a_eValue a_eFault a_eNext a_eWait1 a_eVal1 a_eWait2 a_eVal2
def rc_pX (post : Int32 → SX → Prop) (x1 : Int32) (n i : Nat) (u : SX) : Prop := match u with
  | (f_reorderSize, f_stations, f_queueSize, f_width, f_phase, f_pc, f_epc, f_cause, f_handling, f_vector, f_length, f_fetchPc, f_parked, f_fqHead, f_fqCount, f_head, f_count, f_waitingCount, f_memCount, a_regs, a_memory, a_progOp, a_progA, a_progB, a_progC, a_latency, a_counters, a_fqPc, a_fqNext, a_twoBit, a_jumpDelta, a_robPc, a_robPredicted, a_robState, a_robRemaining, a_robValue, a_robFault, a_robNext, a_robSrc1, a_robVal1, a_robSrc2, a_robVal2, a_robOp, a_robC, a_robDest, a_mapSlot, a_unitBusy) => wX_interpret_31 post x1 n (nI i) (nI i) f_reorderSize f_stations f_queueSize f_width f_phase f_pc f_epc f_cause f_handling f_vector f_length f_fetchPc f_parked f_fqHead f_fqCount f_head f_count f_waitingCount f_memCount a_regs a_memory a_progOp a_progA a_progB a_progC a_latency a_counters a_fqPc a_fqNext a_twoBit a_jumpDelta a_robPc a_robPredicted a_robState a_robRemaining a_robValue a_robFault a_robNext a_robSrc1 a_robVal1 a_robSrc2 a_robVal2 a_robOp a_robC a_robDest a_mapSlot a_unitBusy
def rc_pY (post : Int32 → SY → Prop) (x1 : Int32) (n i : Nat) (v : SY) : Prop := match v with
  | (f_pcNow, f_epcNow, f_causeNow, f_inHandler, f_vectorNow, f_phaseNow, f_length, f_fetchPc, f_parkedNow, f_queueCount, f_count, a_regs, a_cells, a_progOp, a_progA, a_progB, a_progC, a_counters, a_settings, a_queuePc, a_queueNext, a_twoBit, a_delta, a_ePc, a_ePredicted, a_eState, a_eRemaining, a_eValue, a_eFault, a_eNext, a_eWait1, a_eVal1, a_eWait2, a_eVal2) => wY_interpret_31 post x1 n (nI i) (nI i) f_pcNow f_epcNow f_causeNow f_inHandler f_vectorNow f_phaseNow f_length f_fetchPc f_parkedNow f_queueCount f_count a_regs a_cells a_progOp a_progA a_progB a_progC a_counters a_settings a_queuePc a_queueNext a_twoBit a_delta a_ePc a_ePredicted a_eState a_eRemaining a_eValue a_eFault a_eNext a_eWait1 a_eVal1 a_eWait2 a_eVal2
section
variable {w rs len qh qc h c : Nat} {f_stations f_queueSize f_phase f_pc f_epc f_cause f_handling f_vector f_fetchPc f_parked f_waitingCount f_memCount : Int32} {a_regs a_memory a_progOp a_progA a_progB a_progC a_latency a_counters a_fqPc a_fqNext a_twoBit a_jumpDelta a_robPc a_robPredicted a_robState a_robRemaining a_robValue a_robFault a_robNext a_robSrc1 a_robVal1 a_robSrc2 a_robVal2 a_robOp a_robC a_robDest a_mapSlot a_unitBusy a_settings a_queuePc a_queueNext a_ePc a_ePredicted a_eState a_eRemaining a_eValue a_eFault a_eNext a_eWait1 a_eVal1 a_eWait2 a_eVal2 : Nat → Int32}
theorem j_oneClock : ∀ z : rc_Z, rc_FZ z → rc_zp z = 1 → ∃ z', rc_FZ z' ∧ (∀ post : SX → Prop, post (rc_zX z') → wpX_oneClock post (rc_zX z)) ∧ (∀ post : SY → Prop, post (rc_zY z') → wpY_oneClock post (rc_zY z)) := by
  refine rc_el ?_
  intro w rs len qh qc h c f_stations f_queueSize f_phase f_pc f_epc f_cause f_handling f_vector f_fetchPc f_parked f_waitingCount f_memCount a_regs a_memory a_progOp a_progA a_progB a_progC a_latency a_counters a_fqPc a_fqNext a_twoBit a_jumpDelta a_robPc a_robPredicted a_robState a_robRemaining a_robValue a_robFault a_robNext a_robSrc1 a_robVal1 a_robSrc2 a_robVal2 a_robOp a_robC a_robDest a_mapSlot a_unitBusy a_settings a_queuePc a_queueNext a_ePc a_ePredicted a_eState a_eRemaining a_eValue a_eFault a_eNext a_eWait1 a_eVal1 a_eWait2 a_eVal2 HF hp
  obtain ⟨H, hb, hpk, hpc⟩ := HF
  have hp : f_phase = 1 := hp
  refine Exists.elim (j_commitStage (w, rs, len, qh, qc, h, c, f_stations, f_queueSize, f_phase, f_pc, f_epc, f_cause, f_handling, f_vector, f_fetchPc, f_parked, f_waitingCount, f_memCount, a_regs, a_memory, a_progOp, a_progA, a_progB, a_progC, a_latency, (upd a_counters 0 (a_counters 0 + 1)), a_fqPc, a_fqNext, a_twoBit, a_jumpDelta, a_robPc, a_robPredicted, a_robState, a_robRemaining, a_robValue, a_robFault, a_robNext, a_robSrc1, a_robVal1, a_robSrc2, a_robVal2, a_robOp, a_robC, a_robDest, a_mapSlot, a_unitBusy, a_settings, a_queuePc, a_queueNext, a_ePc, a_ePredicted, a_eState, a_eRemaining, a_eValue, a_eFault, a_eNext, a_eWait1, a_eVal1, a_eWait2, a_eVal2) ⟨H, hb, hpk, hpc⟩ hp) ?_
  refine rc_el ?_
  intro w rs len qh qc h c f_stations f_queueSize f_phase f_pc f_epc f_cause f_handling f_vector f_fetchPc f_parked f_waitingCount f_memCount a_regs a_memory a_progOp a_progA a_progB a_progC a_latency a_counters a_fqPc a_fqNext a_twoBit a_jumpDelta a_robPc a_robPredicted a_robState a_robRemaining a_robValue a_robFault a_robNext a_robSrc1 a_robVal1 a_robSrc2 a_robVal2 a_robOp a_robC a_robDest a_mapSlot a_unitBusy a_settings a_queuePc a_queueNext a_ePc a_ePredicted a_eState a_eRemaining a_eValue a_eFault a_eNext a_eWait1 a_eVal1 a_eWait2 a_eVal2 h2
  obtain ⟨hF2, cX, cY⟩ := h2
  by_cases hp2 : f_phase = 1
  · refine Exists.elim (j_busStage (e := w) (w, rs, len, qh, qc, h, c, f_stations, f_queueSize, f_phase, f_pc, f_epc, f_cause, f_handling, f_vector, f_fetchPc, f_parked, f_waitingCount, f_memCount, a_regs, a_memory, a_progOp, a_progA, a_progB, a_progC, a_latency, a_counters, a_fqPc, a_fqNext, a_twoBit, a_jumpDelta, a_robPc, a_robPredicted, a_robState, a_robRemaining, a_robValue, a_robFault, a_robNext, a_robSrc1, a_robVal1, a_robSrc2, a_robVal2, a_robOp, a_robC, a_robDest, a_mapSlot, a_unitBusy, a_settings, a_queuePc, a_queueNext, a_ePc, a_ePredicted, a_eState, a_eRemaining, a_eValue, a_eFault, a_eNext, a_eWait1, a_eVal1, a_eWait2, a_eVal2) ⟨hF2, hp2, rfl⟩) ?_
    refine rc_el ?_
    intro w rs len qh qc h c f_stations f_queueSize f_phase f_pc f_epc f_cause f_handling f_vector f_fetchPc f_parked f_waitingCount f_memCount a_regs a_memory a_progOp a_progA a_progB a_progC a_latency a_counters a_fqPc a_fqNext a_twoBit a_jumpDelta a_robPc a_robPredicted a_robState a_robRemaining a_robValue a_robFault a_robNext a_robSrc1 a_robVal1 a_robSrc2 a_robVal2 a_robOp a_robC a_robDest a_mapSlot a_unitBusy a_settings a_queuePc a_queueNext a_ePc a_ePredicted a_eState a_eRemaining a_eValue a_eFault a_eNext a_eWait1 a_eVal1 a_eWait2 a_eVal2 h3
    obtain ⟨hR3, bX, bY⟩ := h3
    refine Exists.elim (j_issueStage (w, rs, len, qh, qc, h, c, f_stations, f_queueSize, f_phase, f_pc, f_epc, f_cause, f_handling, f_vector, f_fetchPc, f_parked, f_waitingCount, f_memCount, a_regs, a_memory, a_progOp, a_progA, a_progB, a_progC, a_latency, a_counters, a_fqPc, a_fqNext, a_twoBit, a_jumpDelta, a_robPc, a_robPredicted, a_robState, a_robRemaining, a_robValue, a_robFault, a_robNext, a_robSrc1, a_robVal1, a_robSrc2, a_robVal2, a_robOp, a_robC, a_robDest, a_mapSlot, a_unitBusy, a_settings, a_queuePc, a_queueNext, a_ePc, a_ePredicted, a_eState, a_eRemaining, a_eValue, a_eFault, a_eNext, a_eWait1, a_eVal1, a_eWait2, a_eVal2) hR3) ?_
    refine rc_el ?_
    intro w rs len qh qc h c f_stations f_queueSize f_phase f_pc f_epc f_cause f_handling f_vector f_fetchPc f_parked f_waitingCount f_memCount a_regs a_memory a_progOp a_progA a_progB a_progC a_latency a_counters a_fqPc a_fqNext a_twoBit a_jumpDelta a_robPc a_robPredicted a_robState a_robRemaining a_robValue a_robFault a_robNext a_robSrc1 a_robVal1 a_robSrc2 a_robVal2 a_robOp a_robC a_robDest a_mapSlot a_unitBusy a_settings a_queuePc a_queueNext a_ePc a_ePredicted a_eState a_eRemaining a_eValue a_eFault a_eNext a_eWait1 a_eVal1 a_eWait2 a_eVal2 h4
    obtain ⟨hR4, iX, iY⟩ := h4
    refine Exists.elim (j_dispatchStage (w, rs, len, qh, qc, h, c, f_stations, f_queueSize, f_phase, f_pc, f_epc, f_cause, f_handling, f_vector, f_fetchPc, f_parked, f_waitingCount, f_memCount, a_regs, a_memory, a_progOp, a_progA, a_progB, a_progC, a_latency, a_counters, a_fqPc, a_fqNext, a_twoBit, a_jumpDelta, a_robPc, a_robPredicted, a_robState, a_robRemaining, a_robValue, a_robFault, a_robNext, a_robSrc1, a_robVal1, a_robSrc2, a_robVal2, a_robOp, a_robC, a_robDest, a_mapSlot, a_unitBusy, a_settings, a_queuePc, a_queueNext, a_ePc, a_ePredicted, a_eState, a_eRemaining, a_eValue, a_eFault, a_eNext, a_eWait1, a_eVal1, a_eWait2, a_eVal2) hR4) ?_
    refine rc_el ?_
    intro w rs len qh qc h c f_stations f_queueSize f_phase f_pc f_epc f_cause f_handling f_vector f_fetchPc f_parked f_waitingCount f_memCount a_regs a_memory a_progOp a_progA a_progB a_progC a_latency a_counters a_fqPc a_fqNext a_twoBit a_jumpDelta a_robPc a_robPredicted a_robState a_robRemaining a_robValue a_robFault a_robNext a_robSrc1 a_robVal1 a_robSrc2 a_robVal2 a_robOp a_robC a_robDest a_mapSlot a_unitBusy a_settings a_queuePc a_queueNext a_ePc a_ePredicted a_eState a_eRemaining a_eValue a_eFault a_eNext a_eWait1 a_eVal1 a_eWait2 a_eVal2 h5
    obtain ⟨hR5, dX, dY⟩ := h5
    refine Exists.elim (j_fetchStage (w, rs, len, qh, qc, h, c, f_stations, f_queueSize, f_phase, f_pc, f_epc, f_cause, f_handling, f_vector, f_fetchPc, f_parked, f_waitingCount, f_memCount, a_regs, a_memory, a_progOp, a_progA, a_progB, a_progC, a_latency, a_counters, a_fqPc, a_fqNext, a_twoBit, a_jumpDelta, a_robPc, a_robPredicted, a_robState, a_robRemaining, a_robValue, a_robFault, a_robNext, a_robSrc1, a_robVal1, a_robSrc2, a_robVal2, a_robOp, a_robC, a_robDest, a_mapSlot, a_unitBusy, a_settings, a_queuePc, a_queueNext, a_ePc, a_ePredicted, a_eState, a_eRemaining, a_eValue, a_eFault, a_eNext, a_eWait1, a_eVal1, a_eWait2, a_eVal2) hR5) ?_
    refine rc_el ?_
    intro w rs len qh qc h c f_stations f_queueSize f_phase f_pc f_epc f_cause f_handling f_vector f_fetchPc f_parked f_waitingCount f_memCount a_regs a_memory a_progOp a_progA a_progB a_progC a_latency a_counters a_fqPc a_fqNext a_twoBit a_jumpDelta a_robPc a_robPredicted a_robState a_robRemaining a_robValue a_robFault a_robNext a_robSrc1 a_robVal1 a_robSrc2 a_robVal2 a_robOp a_robC a_robDest a_mapSlot a_unitBusy a_settings a_queuePc a_queueNext a_ePc a_ePredicted a_eState a_eRemaining a_eValue a_eFault a_eNext a_eWait1 a_eVal1 a_eWait2 a_eVal2 h6
    obtain ⟨hR6, fX, fY⟩ := h6
    refine ⟨(w, rs, len, qh, qc, h, c, f_stations, f_queueSize, f_phase, f_pc, f_epc, f_cause, f_handling, f_vector, f_fetchPc, f_parked, f_waitingCount, f_memCount, a_regs, a_memory, a_progOp, a_progA, a_progB, a_progC, a_latency, a_counters, a_fqPc, a_fqNext, a_twoBit, a_jumpDelta, a_robPc, a_robPredicted, a_robState, a_robRemaining, a_robValue, a_robFault, a_robNext, a_robSrc1, a_robVal1, a_robSrc2, a_robVal2, a_robOp, a_robC, a_robDest, a_mapSlot, a_unitBusy, a_settings, a_queuePc, a_queueNext, a_ePc, a_ePredicted, a_eState, a_eRemaining, a_eValue, a_eFault, a_eNext, a_eWait1, a_eVal1, a_eWait2, a_eVal2), hR6.1, fun post G => ?_, fun post G => ?_⟩
    · exact nm_e (cX _ (br_t hp2 (bX _ (iX _ (dX _ (fX _ G))))))
    · exact nm_e (cY _ (br_t hp2 (bY _ (iY _ (dY _ (fY _ G))))))
  · refine ⟨(w, rs, len, qh, qc, h, c, f_stations, f_queueSize, f_phase, f_pc, f_epc, f_cause, f_handling, f_vector, f_fetchPc, f_parked, f_waitingCount, f_memCount, a_regs, a_memory, a_progOp, a_progA, a_progB, a_progC, a_latency, a_counters, a_fqPc, a_fqNext, a_twoBit, a_jumpDelta, a_robPc, a_robPredicted, a_robState, a_robRemaining, a_robValue, a_robFault, a_robNext, a_robSrc1, a_robVal1, a_robSrc2, a_robVal2, a_robOp, a_robC, a_robDest, a_mapSlot, a_unitBusy, a_settings, a_queuePc, a_queueNext, a_ePc, a_ePredicted, a_eState, a_eRemaining, a_eValue, a_eFault, a_eNext, a_eWait1, a_eVal1, a_eWait2, a_eVal2), hF2, fun post G => ?_, fun post G => ?_⟩
    · exact nm_e (cX _ (br_f hp2 G))
    · exact nm_e (cY _ (br_f hp2 G))
theorem y_ckskip {m : Nat} {x2 : Int32} (hm : m ≤ 32) (hp : ¬ f_phase = 1) : ∀ (d i : Nat), i + d = m → ∀ (post : Int32 → SY → Prop) (n : Nat), d < n → post (a_counters 1 - x2) (f_pc, f_epc, f_cause, f_handling, f_vector, f_phase, (nI len), f_fetchPc, f_parked, (nI qc), (nI c), a_regs, a_memory, a_progOp, a_progA, a_progB, a_progC, a_counters, a_settings, a_queuePc, a_queueNext, a_twoBit, a_jumpDelta, a_ePc, a_ePredicted, a_eState, a_eRemaining, a_eValue, a_eFault, a_eNext, a_eWait1, a_eVal1, a_eWait2, a_eVal2) → wY_clock_33 post (nI m) x2 n (nI i) f_pc f_epc f_cause f_handling f_vector f_phase (nI len) f_fetchPc f_parked (nI qc) (nI c) a_regs a_memory a_progOp a_progA a_progB a_progC a_counters a_settings a_queuePc a_queueNext a_twoBit a_jumpDelta a_ePc a_ePredicted a_eState a_eRemaining a_eValue a_eFault a_eNext a_eWait1 a_eVal1 a_eWait2 a_eVal2 := by
  intro d
  induction d with
  | zero =>
    intro i hi post n hn G
    have hi : i = m := by omega
    subst hi
    obtain ⟨n, rfl⟩ : ∃ m, n = m + 1 := ⟨n - 1, by omega⟩
    exact br_c (fun _ => G) (fun _ => br_t (nI_le (Nat.le_refl _) (by omega)) G)
  | succ d ih =>
    intro i hi post n hn G
    obtain ⟨n, rfl⟩ : ∃ m, n = m + 1 := ⟨n - 1, by omega⟩
    exact br_f (nI_ge (b := 32) (by omega) (by omega)) (br_f (nI_ge (by omega) (by omega)) (br_f hp (nm_r (nI_1 i) (ih (i + 1) (by omega) post n (by omega) G))))
theorem j_ckLoop {m : Nat} {x2 : Int32} (hm : m ≤ 32) : ∀ (d i : Nat) (z : rc_Z), i + d = m → rc_FZ z → ∃ z', rc_FZ z' ∧ (∀ (post : Int32 → SX → Prop) (n : Nat), d < n → post (rc_zn z' - x2) (rc_zX z') → rc_kX post (nI m) x2 n i (rc_zX z)) ∧ (∀ (post : Int32 → SY → Prop) (n : Nat), d < n → post (rc_zn z' - x2) (rc_zY z') → rc_kY post (nI m) x2 n i (rc_zY z)) := by
  intro d
  induction d with
  | zero =>
    intro i
    refine rc_el ?_
    intro w rs len qh qc h c f_stations f_queueSize f_phase f_pc f_epc f_cause f_handling f_vector f_fetchPc f_parked f_waitingCount f_memCount a_regs a_memory a_progOp a_progA a_progB a_progC a_latency a_counters a_fqPc a_fqNext a_twoBit a_jumpDelta a_robPc a_robPredicted a_robState a_robRemaining a_robValue a_robFault a_robNext a_robSrc1 a_robVal1 a_robSrc2 a_robVal2 a_robOp a_robC a_robDest a_mapSlot a_unitBusy a_settings a_queuePc a_queueNext a_ePc a_ePredicted a_eState a_eRemaining a_eValue a_eFault a_eNext a_eWait1 a_eVal1 a_eWait2 a_eVal2 hi HF
    have hi : i = m := by omega
    subst hi
    refine ⟨(w, rs, len, qh, qc, h, c, f_stations, f_queueSize, f_phase, f_pc, f_epc, f_cause, f_handling, f_vector, f_fetchPc, f_parked, f_waitingCount, f_memCount, a_regs, a_memory, a_progOp, a_progA, a_progB, a_progC, a_latency, a_counters, a_fqPc, a_fqNext, a_twoBit, a_jumpDelta, a_robPc, a_robPredicted, a_robState, a_robRemaining, a_robValue, a_robFault, a_robNext, a_robSrc1, a_robVal1, a_robSrc2, a_robVal2, a_robOp, a_robC, a_robDest, a_mapSlot, a_unitBusy, a_settings, a_queuePc, a_queueNext, a_ePc, a_ePredicted, a_eState, a_eRemaining, a_eValue, a_eFault, a_eNext, a_eWait1, a_eVal1, a_eWait2, a_eVal2), HF, fun post n hn G => ?_, fun post n hn G => ?_⟩
    · obtain ⟨n, rfl⟩ : ∃ m, n = m + 1 := ⟨n - 1, by omega⟩
      show wX_clock_33 post (nI i) x2 (n + 1) (nI i) (nI rs) f_stations f_queueSize (nI w) f_phase f_pc f_epc f_cause f_handling f_vector (nI len) f_fetchPc f_parked (nI qh) (nI qc) (nI h) (nI c) f_waitingCount f_memCount a_regs a_memory a_progOp a_progA a_progB a_progC a_latency a_counters a_fqPc a_fqNext a_twoBit a_jumpDelta a_robPc a_robPredicted a_robState a_robRemaining a_robValue a_robFault a_robNext a_robSrc1 a_robVal1 a_robSrc2 a_robVal2 a_robOp a_robC a_robDest a_mapSlot a_unitBusy
      exact br_t (nI_le (Nat.le_refl _) (by omega)) G
    · obtain ⟨n, rfl⟩ : ∃ m, n = m + 1 := ⟨n - 1, by omega⟩
      show wY_clock_33 post (nI i) x2 (n + 1) (nI i) f_pc f_epc f_cause f_handling f_vector f_phase (nI len) f_fetchPc f_parked (nI qc) (nI c) a_regs a_memory a_progOp a_progA a_progB a_progC a_counters a_settings a_queuePc a_queueNext a_twoBit a_jumpDelta a_ePc a_ePredicted a_eState a_eRemaining a_eValue a_eFault a_eNext a_eWait1 a_eVal1 a_eWait2 a_eVal2
      exact br_c (fun _ => G) (fun _ => br_t (nI_le (Nat.le_refl _) (by omega)) G)
  | succ d ih =>
    intro i
    refine rc_el ?_
    intro w rs len qh qc h c f_stations f_queueSize f_phase f_pc f_epc f_cause f_handling f_vector f_fetchPc f_parked f_waitingCount f_memCount a_regs a_memory a_progOp a_progA a_progB a_progC a_latency a_counters a_fqPc a_fqNext a_twoBit a_jumpDelta a_robPc a_robPredicted a_robState a_robRemaining a_robValue a_robFault a_robNext a_robSrc1 a_robVal1 a_robSrc2 a_robVal2 a_robOp a_robC a_robDest a_mapSlot a_unitBusy a_settings a_queuePc a_queueNext a_ePc a_ePredicted a_eState a_eRemaining a_eValue a_eFault a_eNext a_eWait1 a_eVal1 a_eWait2 a_eVal2 hi HF
    have k1 : ¬ nI m ≤ nI i := nI_ge (by omega) (by omega)
    have k32 : ¬ (32 : Int32) ≤ nI i := nI_ge (b := 32) (by omega) (by omega)
    by_cases hp : f_phase = 1
    · refine Exists.elim (j_oneClock (w, rs, len, qh, qc, h, c, f_stations, f_queueSize, f_phase, f_pc, f_epc, f_cause, f_handling, f_vector, f_fetchPc, f_parked, f_waitingCount, f_memCount, a_regs, a_memory, a_progOp, a_progA, a_progB, a_progC, a_latency, a_counters, a_fqPc, a_fqNext, a_twoBit, a_jumpDelta, a_robPc, a_robPredicted, a_robState, a_robRemaining, a_robValue, a_robFault, a_robNext, a_robSrc1, a_robVal1, a_robSrc2, a_robVal2, a_robOp, a_robC, a_robDest, a_mapSlot, a_unitBusy, a_settings, a_queuePc, a_queueNext, a_ePc, a_ePredicted, a_eState, a_eRemaining, a_eValue, a_eFault, a_eNext, a_eWait1, a_eVal1, a_eWait2, a_eVal2) HF hp) ?_
      refine rc_el ?_
      intro w rs len qh qc h c f_stations f_queueSize f_phase f_pc f_epc f_cause f_handling f_vector f_fetchPc f_parked f_waitingCount f_memCount a_regs a_memory a_progOp a_progA a_progB a_progC a_latency a_counters a_fqPc a_fqNext a_twoBit a_jumpDelta a_robPc a_robPredicted a_robState a_robRemaining a_robValue a_robFault a_robNext a_robSrc1 a_robVal1 a_robSrc2 a_robVal2 a_robOp a_robC a_robDest a_mapSlot a_unitBusy a_settings a_queuePc a_queueNext a_ePc a_ePredicted a_eState a_eRemaining a_eValue a_eFault a_eNext a_eWait1 a_eVal1 a_eWait2 a_eVal2 h2
      obtain ⟨hF2, oX, oY⟩ := h2
      obtain ⟨z', h1, hX, hY⟩ := ih (i + 1) (w, rs, len, qh, qc, h, c, f_stations, f_queueSize, f_phase, f_pc, f_epc, f_cause, f_handling, f_vector, f_fetchPc, f_parked, f_waitingCount, f_memCount, a_regs, a_memory, a_progOp, a_progA, a_progB, a_progC, a_latency, a_counters, a_fqPc, a_fqNext, a_twoBit, a_jumpDelta, a_robPc, a_robPredicted, a_robState, a_robRemaining, a_robValue, a_robFault, a_robNext, a_robSrc1, a_robVal1, a_robSrc2, a_robVal2, a_robOp, a_robC, a_robDest, a_mapSlot, a_unitBusy, a_settings, a_queuePc, a_queueNext, a_ePc, a_ePredicted, a_eState, a_eRemaining, a_eValue, a_eFault, a_eNext, a_eWait1, a_eVal1, a_eWait2, a_eVal2) (by omega) hF2
      refine ⟨z', h1, fun post n hn G => ?_, fun post n hn G => ?_⟩
      · obtain ⟨n, rfl⟩ : ∃ m, n = m + 1 := ⟨n - 1, by omega⟩
        have g := hX post n (by omega) G
        exact br_f k1 (br_t hp (oX _ (nm_r (nI_1 i) g)))
      · obtain ⟨n, rfl⟩ : ∃ m, n = m + 1 := ⟨n - 1, by omega⟩
        have g := hY post n (by omega) G
        exact br_f k32 (br_f k1 (br_t hp (oY _ (nm_r (nI_1 i) g))))
    · refine ⟨(w, rs, len, qh, qc, h, c, f_stations, f_queueSize, f_phase, f_pc, f_epc, f_cause, f_handling, f_vector, f_fetchPc, f_parked, f_waitingCount, f_memCount, a_regs, a_memory, a_progOp, a_progA, a_progB, a_progC, a_latency, a_counters, a_fqPc, a_fqNext, a_twoBit, a_jumpDelta, a_robPc, a_robPredicted, a_robState, a_robRemaining, a_robValue, a_robFault, a_robNext, a_robSrc1, a_robVal1, a_robSrc2, a_robVal2, a_robOp, a_robC, a_robDest, a_mapSlot, a_unitBusy, a_settings, a_queuePc, a_queueNext, a_ePc, a_ePredicted, a_eState, a_eRemaining, a_eValue, a_eFault, a_eNext, a_eWait1, a_eVal1, a_eWait2, a_eVal2), HF, fun post n hn G => ?_, fun post n hn G => ?_⟩
      · obtain ⟨n, rfl⟩ : ∃ m, n = m + 1 := ⟨n - 1, by omega⟩
        show wX_clock_33 post (nI m) x2 (n + 1) (nI i) (nI rs) f_stations f_queueSize (nI w) f_phase f_pc f_epc f_cause f_handling f_vector (nI len) f_fetchPc f_parked (nI qh) (nI qc) (nI h) (nI c) f_waitingCount f_memCount a_regs a_memory a_progOp a_progA a_progB a_progC a_latency a_counters a_fqPc a_fqNext a_twoBit a_jumpDelta a_robPc a_robPredicted a_robState a_robRemaining a_robValue a_robFault a_robNext a_robSrc1 a_robVal1 a_robSrc2 a_robVal2 a_robOp a_robC a_robDest a_mapSlot a_unitBusy
        exact br_f k1 (br_f hp G)
      · exact y_ckskip hm hp (d + 1) i (by omega) post n hn G
theorem y_ipskip {m : Nat} {x2 : Int32} (hm : m ≤ 96) (hp : ¬ f_phase = 1) : ∀ (d i : Nat), i + d = m → ∀ (post : Int32 → SY → Prop) (n : Nat), d < n → post x2 (f_pc, f_epc, f_cause, f_handling, f_vector, f_phase, (nI len), f_pc, f_parked, (nI qc), (nI c), a_regs, a_memory, a_progOp, a_progA, a_progB, a_progC, a_counters, a_settings, a_queuePc, a_queueNext, a_twoBit, a_jumpDelta, a_ePc, a_ePredicted, a_eState, a_eRemaining, a_eValue, a_eFault, a_eNext, a_eWait1, a_eVal1, a_eWait2, a_eVal2) → wY_interpret_31 post (nI m) n x2 (nI i) f_pc f_epc f_cause f_handling f_vector f_phase (nI len) f_fetchPc f_parked (nI qc) (nI c) a_regs a_memory a_progOp a_progA a_progB a_progC a_counters a_settings a_queuePc a_queueNext a_twoBit a_jumpDelta a_ePc a_ePredicted a_eState a_eRemaining a_eValue a_eFault a_eNext a_eWait1 a_eVal1 a_eWait2 a_eVal2 := by
  intro d
  induction d with
  | zero =>
    intro i hi post n hn G
    have hi : i = m := by omega
    subst hi
    obtain ⟨n, rfl⟩ : ∃ m, n = m + 1 := ⟨n - 1, by omega⟩
    exact br_c (fun _ => G) (fun _ => br_t (nI_le (Nat.le_refl _) (by omega)) G)
  | succ d ih =>
    intro i hi post n hn G
    obtain ⟨n, rfl⟩ : ∃ m, n = m + 1 := ⟨n - 1, by omega⟩
    exact br_f (nI_ge (b := 96) (by omega) (by omega)) (br_f (nI_ge (by omega) (by omega)) (br_f hp (nm_r (nI_1 i) (ih (i + 1) (by omega) post n (by omega) G))))
theorem j_ipLoop {m : Nat} (hm : m ≤ 96) : ∀ (d i : Nat) (z : rc_Z), i + d = m → rc_FZ z → rc_zc z = 0 → ∃ z' r, rc_FZ z' ∧ (∀ (post : Int32 → SX → Prop) (n : Nat), d < n → post r (rc_zX z') → rc_pX post (nI m) n i (rc_zX z)) ∧ (∀ (post : Int32 → SY → Prop) (n : Nat), d < n → post r (rc_zY z') → rc_pY post (nI m) n i (rc_zY z)) := by
  intro d
  induction d with
  | zero =>
    intro i
    refine rc_el ?_
    intro w rs len qh qc h c f_stations f_queueSize f_phase f_pc f_epc f_cause f_handling f_vector f_fetchPc f_parked f_waitingCount f_memCount a_regs a_memory a_progOp a_progA a_progB a_progC a_latency a_counters a_fqPc a_fqNext a_twoBit a_jumpDelta a_robPc a_robPredicted a_robState a_robRemaining a_robValue a_robFault a_robNext a_robSrc1 a_robVal1 a_robSrc2 a_robVal2 a_robOp a_robC a_robDest a_mapSlot a_unitBusy a_settings a_queuePc a_queueNext a_ePc a_ePredicted a_eState a_eRemaining a_eValue a_eFault a_eNext a_eWait1 a_eVal1 a_eWait2 a_eVal2 hi HF hc
    have hi : i = m := by omega
    subst hi
    obtain ⟨H, hb, hpk, hpc⟩ := HF
    refine ⟨(w, rs, len, qh, qc, h, c, f_stations, f_queueSize, f_phase, f_pc, f_epc, f_cause, f_handling, f_vector, f_pc, f_parked, f_waitingCount, f_memCount, a_regs, a_memory, a_progOp, a_progA, a_progB, a_progC, a_latency, a_counters, a_fqPc, a_fqNext, a_twoBit, a_jumpDelta, a_robPc, a_robPredicted, a_robState, a_robRemaining, a_robValue, a_robFault, a_robNext, a_robSrc1, a_robVal1, a_robSrc2, a_robVal2, a_robOp, a_robC, a_robDest, a_mapSlot, a_unitBusy, a_settings, a_queuePc, a_queueNext, a_ePc, a_ePredicted, a_eState, a_eRemaining, a_eValue, a_eFault, a_eNext, a_eWait1, a_eVal1, a_eWait2, a_eVal2), nI i, ⟨H, hb, hpk, hpc⟩, fun post n hn G => ?_, fun post n hn G => ?_⟩
    · obtain ⟨n, rfl⟩ : ∃ m, n = m + 1 := ⟨n - 1, by omega⟩
      show wX_interpret_31 post (nI i) (n + 1) (nI i) (nI i) (nI rs) f_stations f_queueSize (nI w) f_phase f_pc f_epc f_cause f_handling f_vector (nI len) f_fetchPc f_parked (nI qh) (nI qc) (nI h) (nI c) f_waitingCount f_memCount a_regs a_memory a_progOp a_progA a_progB a_progC a_latency a_counters a_fqPc a_fqNext a_twoBit a_jumpDelta a_robPc a_robPredicted a_robState a_robRemaining a_robValue a_robFault a_robNext a_robSrc1 a_robVal1 a_robSrc2 a_robVal2 a_robOp a_robC a_robDest a_mapSlot a_unitBusy
      exact br_t (nI_le (Nat.le_refl _) (by omega)) G
    · obtain ⟨n, rfl⟩ : ∃ m, n = m + 1 := ⟨n - 1, by omega⟩
      show wY_interpret_31 post (nI i) (n + 1) (nI i) (nI i) f_pc f_epc f_cause f_handling f_vector f_phase (nI len) f_fetchPc f_parked (nI qc) (nI c) a_regs a_memory a_progOp a_progA a_progB a_progC a_counters a_settings a_queuePc a_queueNext a_twoBit a_jumpDelta a_ePc a_ePredicted a_eState a_eRemaining a_eValue a_eFault a_eNext a_eWait1 a_eVal1 a_eWait2 a_eVal2
      exact br_c (fun _ => G) (fun _ => br_t (nI_le (Nat.le_refl _) (by omega)) G)
  | succ d ih =>
    intro i
    refine rc_el ?_
    intro w rs len qh qc h c f_stations f_queueSize f_phase f_pc f_epc f_cause f_handling f_vector f_fetchPc f_parked f_waitingCount f_memCount a_regs a_memory a_progOp a_progA a_progB a_progC a_latency a_counters a_fqPc a_fqNext a_twoBit a_jumpDelta a_robPc a_robPredicted a_robState a_robRemaining a_robValue a_robFault a_robNext a_robSrc1 a_robVal1 a_robSrc2 a_robVal2 a_robOp a_robC a_robDest a_mapSlot a_unitBusy a_settings a_queuePc a_queueNext a_ePc a_ePredicted a_eState a_eRemaining a_eValue a_eFault a_eNext a_eWait1 a_eVal1 a_eWait2 a_eVal2 hi HF hc
    have hc : c = 0 := hc
    obtain ⟨H, hb, hpk, hpc⟩ := HF
    have H' : rc_F0 w rs len qh qc h c f_stations f_queueSize f_waitingCount f_memCount a_latency a_settings a_progOp a_progA a_progB a_progC a_fqPc a_fqNext a_queuePc a_queueNext a_robPc a_robPredicted a_robState a_robRemaining a_robValue a_robFault a_robNext a_robSrc1 a_robVal1 a_robSrc2 a_robVal2 a_robOp a_robC a_robDest a_ePc a_ePredicted a_eState a_eRemaining a_eValue a_eFault a_eNext a_eWait1 a_eVal1 a_eWait2 a_eVal2 a_mapSlot a_unitBusy := H
    have k1 : ¬ nI m ≤ nI i := nI_ge (by omega) (by omega)
    have k96 : ¬ (96 : Int32) ≤ nI i := nI_ge (b := 96) (by omega) (by omega)
    by_cases hp : f_phase = 1
    · obtain ⟨ph, pc, ep, ca, hd, ct, rg, mm, g1, sX, sY⟩ := j_step (w := w) (rs := rs) (len := len) (qh := qh) (qc := qc) (h := h) (c := c) (f_stations := f_stations) (f_queueSize := f_queueSize) (f_phase := f_phase) (f_pc := f_pc) (f_epc := f_epc) (f_cause := f_cause) (f_handling := f_handling) (f_vector := f_vector) (f_fetchPc := f_fetchPc) (f_parked := f_parked) (f_waitingCount := f_waitingCount) (f_memCount := f_memCount) (a_regs := a_regs) (a_memory := a_memory) (a_progOp := a_progOp) (a_progA := a_progA) (a_progB := a_progB) (a_progC := a_progC) (a_latency := a_latency) (a_counters := a_counters) (a_fqPc := a_fqPc) (a_fqNext := a_fqNext) (a_twoBit := a_twoBit) (a_jumpDelta := a_jumpDelta) (a_robPc := a_robPc) (a_robPredicted := a_robPredicted) (a_robState := a_robState) (a_robRemaining := a_robRemaining) (a_robValue := a_robValue) (a_robFault := a_robFault) (a_robNext := a_robNext) (a_robSrc1 := a_robSrc1) (a_robVal1 := a_robVal1) (a_robSrc2 := a_robSrc2) (a_robVal2 := a_robVal2) (a_robOp := a_robOp) (a_robC := a_robC) (a_robDest := a_robDest) (a_mapSlot := a_mapSlot) (a_unitBusy := a_unitBusy) (a_settings := a_settings) (a_queuePc := a_queuePc) (a_queueNext := a_queueNext) (a_ePc := a_ePc) (a_ePredicted := a_ePredicted) (a_eState := a_eState) (a_eRemaining := a_eRemaining) (a_eValue := a_eValue) (a_eFault := a_eFault) (a_eNext := a_eNext) (a_eWait1 := a_eWait1) (a_eVal1 := a_eVal1) (a_eWait2 := a_eWait2) (a_eVal2 := a_eVal2) H'.2.1 hb
      obtain ⟨z', r, h1, hX, hY⟩ := ih (i + 1) (w, rs, len, qh, qc, h, c, f_stations, f_queueSize, ph, pc, ep, ca, hd, f_vector, f_fetchPc, f_parked, f_waitingCount, f_memCount, rg, mm, a_progOp, a_progA, a_progB, a_progC, a_latency, ct, a_fqPc, a_fqNext, a_twoBit, a_jumpDelta, a_robPc, a_robPredicted, a_robState, a_robRemaining, a_robValue, a_robFault, a_robNext, a_robSrc1, a_robVal1, a_robSrc2, a_robVal2, a_robOp, a_robC, a_robDest, a_mapSlot, a_unitBusy, a_settings, a_queuePc, a_queueNext, a_ePc, a_ePredicted, a_eState, a_eRemaining, a_eValue, a_eFault, a_eNext, a_eWait1, a_eVal1, a_eWait2, a_eVal2) (by omega) ⟨H', g1, hpk, Or.inr hc⟩ hc
      refine ⟨z', r, h1, fun post n hn G => ?_, fun post n hn G => ?_⟩
      · obtain ⟨n, rfl⟩ : ∃ m, n = m + 1 := ⟨n - 1, by omega⟩
        have g := hX post n (by omega) G
        show wX_interpret_31 post (nI m) (n + 1) (nI i) (nI i) (nI rs) f_stations f_queueSize (nI w) f_phase f_pc f_epc f_cause f_handling f_vector (nI len) f_fetchPc f_parked (nI qh) (nI qc) (nI h) (nI c) f_waitingCount f_memCount a_regs a_memory a_progOp a_progA a_progB a_progC a_latency a_counters a_fqPc a_fqNext a_twoBit a_jumpDelta a_robPc a_robPredicted a_robState a_robRemaining a_robValue a_robFault a_robNext a_robSrc1 a_robVal1 a_robSrc2 a_robVal2 a_robOp a_robC a_robDest a_mapSlot a_unitBusy
        exact br_f k1 (br_t hp (sX _ (nm_r (nI_1 i) (nm_r (nI_1 i) g))))
      · obtain ⟨n, rfl⟩ : ∃ m, n = m + 1 := ⟨n - 1, by omega⟩
        have g := hY post n (by omega) G
        show wY_interpret_31 post (nI m) (n + 1) (nI i) (nI i) f_pc f_epc f_cause f_handling f_vector f_phase (nI len) f_fetchPc f_parked (nI qc) (nI c) a_regs a_memory a_progOp a_progA a_progB a_progC a_counters a_settings a_queuePc a_queueNext a_twoBit a_jumpDelta a_ePc a_ePredicted a_eState a_eRemaining a_eValue a_eFault a_eNext a_eWait1 a_eVal1 a_eWait2 a_eVal2
        exact br_f k96 (br_f k1 (br_t hp (sY _ (nm_r (nI_1 i) (nm_r (nI_1 i) g)))))
    · refine ⟨(w, rs, len, qh, qc, h, c, f_stations, f_queueSize, f_phase, f_pc, f_epc, f_cause, f_handling, f_vector, f_pc, f_parked, f_waitingCount, f_memCount, a_regs, a_memory, a_progOp, a_progA, a_progB, a_progC, a_latency, a_counters, a_fqPc, a_fqNext, a_twoBit, a_jumpDelta, a_robPc, a_robPredicted, a_robState, a_robRemaining, a_robValue, a_robFault, a_robNext, a_robSrc1, a_robVal1, a_robSrc2, a_robVal2, a_robOp, a_robC, a_robDest, a_mapSlot, a_unitBusy, a_settings, a_queuePc, a_queueNext, a_ePc, a_ePredicted, a_eState, a_eRemaining, a_eValue, a_eFault, a_eNext, a_eWait1, a_eVal1, a_eWait2, a_eVal2), nI i, ⟨H', hb, hpk, hpc⟩, fun post n hn G => ?_, fun post n hn G => ?_⟩
      · obtain ⟨n, rfl⟩ : ∃ m, n = m + 1 := ⟨n - 1, by omega⟩
        show wX_interpret_31 post (nI m) (n + 1) (nI i) (nI i) (nI rs) f_stations f_queueSize (nI w) f_phase f_pc f_epc f_cause f_handling f_vector (nI len) f_fetchPc f_parked (nI qh) (nI qc) (nI h) (nI c) f_waitingCount f_memCount a_regs a_memory a_progOp a_progA a_progB a_progC a_latency a_counters a_fqPc a_fqNext a_twoBit a_jumpDelta a_robPc a_robPredicted a_robState a_robRemaining a_robValue a_robFault a_robNext a_robSrc1 a_robVal1 a_robSrc2 a_robVal2 a_robOp a_robC a_robDest a_mapSlot a_unitBusy
        exact br_f k1 (br_f hp G)
      · exact y_ipskip hm hp (d + 1) i (by omega) post n hn G
end
end
section
/-! stop, interrupt, clock, interpret: one outcome for both sides -/
def rc_ME (WX : (Int32 → SX → Prop) → SX → Prop) (WY : (Int32 → SY → Prop) → SY → Prop) (z : rc_Z) : Prop :=
  ∃ z' r, rc_FZ z' ∧ (∀ post : Int32 → SX → Prop, post r (rc_zX z') → WX post (rc_zX z)) ∧ (∀ post : Int32 → SY → Prop, post r (rc_zY z') → WY post (rc_zY z))
def rc_MR (WX : (Int32 → Prop) → SX → Prop) (WY : (Int32 → Prop) → SY → Prop) (z : rc_Z) : Prop :=
  ∃ r, (∀ post : Int32 → Prop, post r → WX post (rc_zX z)) ∧ (∀ post : Int32 → Prop, post r → WY post (rc_zY z))
theorem j_m_stop : ∀ z, rc_FZ z → rc_ME wpX_stop wpY_stop z := by
  refine rc_el ?_
  intro w rs len qh qc h c f_stations f_queueSize f_phase f_pc f_epc f_cause f_handling f_vector f_fetchPc f_parked f_waitingCount f_memCount a_regs a_memory a_progOp a_progA a_progB a_progC a_latency a_counters a_fqPc a_fqNext a_twoBit a_jumpDelta a_robPc a_robPredicted a_robState a_robRemaining a_robValue a_robFault a_robNext a_robSrc1 a_robVal1 a_robSrc2 a_robVal2 a_robOp a_robC a_robDest a_mapSlot a_unitBusy a_settings a_queuePc a_queueNext a_ePc a_ePredicted a_eState a_eRemaining a_eValue a_eFault a_eNext a_eWait1 a_eVal1 a_eWait2 a_eVal2 HF
  obtain ⟨H, hb, hpk, hpc⟩ := HF
  have H' : rc_F0 w rs len qh qc h c f_stations f_queueSize f_waitingCount f_memCount a_latency a_settings a_progOp a_progA a_progB a_progC a_fqPc a_fqNext a_queuePc a_queueNext a_robPc a_robPredicted a_robState a_robRemaining a_robValue a_robFault a_robNext a_robSrc1 a_robVal1 a_robSrc2 a_robVal2 a_robOp a_robC a_robDest a_ePc a_ePredicted a_eState a_eRemaining a_eValue a_eFault a_eNext a_eWait1 a_eVal1 a_eWait2 a_eVal2 a_mapSlot a_unitBusy := H
  by_cases hp : f_phase = 1
  · obtain ⟨wc2, mc2, ms2, ub2, ct2, hF2, fX, fY⟩ := j_flush (w := w) (rs := rs) (len := len) (qh := qh) (qc := qc) (h := h) (c := c) (f_stations := f_stations) (f_queueSize := f_queueSize) (f_phase := 0) (f_pc := f_pc) (f_epc := f_epc) (f_cause := f_cause) (f_handling := f_handling) (f_vector := f_vector) (f_fetchPc := f_fetchPc) (f_parked := f_parked) (f_waitingCount := f_waitingCount) (f_memCount := f_memCount) (a_regs := a_regs) (a_memory := a_memory) (a_progOp := a_progOp) (a_progA := a_progA) (a_progB := a_progB) (a_progC := a_progC) (a_latency := a_latency) (a_counters := a_counters) (a_fqPc := a_fqPc) (a_fqNext := a_fqNext) (a_twoBit := a_twoBit) (a_jumpDelta := a_jumpDelta) (a_robPc := a_robPc) (a_robPredicted := a_robPredicted) (a_robState := a_robState) (a_robRemaining := a_robRemaining) (a_robValue := a_robValue) (a_robFault := a_robFault) (a_robNext := a_robNext) (a_robSrc1 := a_robSrc1) (a_robVal1 := a_robVal1) (a_robSrc2 := a_robSrc2) (a_robVal2 := a_robVal2) (a_robOp := a_robOp) (a_robC := a_robC) (a_robDest := a_robDest) (a_mapSlot := a_mapSlot) (a_unitBusy := a_unitBusy) (a_settings := a_settings) (a_queuePc := a_queuePc) (a_queueNext := a_queueNext) (a_ePc := a_ePc) (a_ePredicted := a_ePredicted) (a_eState := a_eState) (a_eRemaining := a_eRemaining) (a_eValue := a_eValue) (a_eFault := a_eFault) (a_eNext := a_eNext) (a_eWait1 := a_eWait1) (a_eVal1 := a_eVal1) (a_eWait2 := a_eWait2) (a_eVal2 := a_eVal2) H'
    refine ⟨(w, rs, len, 0, 0, h, 0, f_stations, f_queueSize, 0, f_pc, f_epc, f_cause, f_handling, f_vector, f_pc, 0, wc2, mc2, a_regs, a_memory, a_progOp, a_progA, a_progB, a_progC, a_latency, ct2, a_fqPc, a_fqNext, a_twoBit, a_jumpDelta, a_robPc, a_robPredicted, a_robState, a_robRemaining, a_robValue, a_robFault, a_robNext, a_robSrc1, a_robVal1, a_robSrc2, a_robVal2, a_robOp, a_robC, a_robDest, ms2, ub2, a_settings, a_queuePc, a_queueNext, a_ePc, a_ePredicted, a_eState, a_eRemaining, a_eValue, a_eFault, a_eNext, a_eWait1, a_eVal1, a_eWait2, a_eVal2), 0, ⟨hF2, hb, Or.inl rfl, Or.inr rfl⟩, fun post G => ?_, fun post G => ?_⟩
    · show wpX_stop post ((nI rs), f_stations, f_queueSize, (nI w), f_phase, f_pc, f_epc, f_cause, f_handling, f_vector, (nI len), f_fetchPc, f_parked, (nI qh), (nI qc), (nI h), (nI c), f_waitingCount, f_memCount, a_regs, a_memory, a_progOp, a_progA, a_progB, a_progC, a_latency, a_counters, a_fqPc, a_fqNext, a_twoBit, a_jumpDelta, a_robPc, a_robPredicted, a_robState, a_robRemaining, a_robValue, a_robFault, a_robNext, a_robSrc1, a_robVal1, a_robSrc2, a_robVal2, a_robOp, a_robC, a_robDest, a_mapSlot, a_unitBusy)
      exact br_t hp (fX _ G)
    · show wpY_stop post (f_pc, f_epc, f_cause, f_handling, f_vector, f_phase, (nI len), f_fetchPc, f_parked, (nI qc), (nI c), a_regs, a_memory, a_progOp, a_progA, a_progB, a_progC, a_counters, a_settings, a_queuePc, a_queueNext, a_twoBit, a_jumpDelta, a_ePc, a_ePredicted, a_eState, a_eRemaining, a_eValue, a_eFault, a_eNext, a_eWait1, a_eVal1, a_eWait2, a_eVal2)
      exact br_t hp (fY _ G)
  · refine ⟨(w, rs, len, qh, qc, h, c, f_stations, f_queueSize, f_phase, f_pc, f_epc, f_cause, f_handling, f_vector, f_fetchPc, f_parked, f_waitingCount, f_memCount, a_regs, a_memory, a_progOp, a_progA, a_progB, a_progC, a_latency, a_counters, a_fqPc, a_fqNext, a_twoBit, a_jumpDelta, a_robPc, a_robPredicted, a_robState, a_robRemaining, a_robValue, a_robFault, a_robNext, a_robSrc1, a_robVal1, a_robSrc2, a_robVal2, a_robOp, a_robC, a_robDest, a_mapSlot, a_unitBusy, a_settings, a_queuePc, a_queueNext, a_ePc, a_ePredicted, a_eState, a_eRemaining, a_eValue, a_eFault, a_eNext, a_eWait1, a_eVal1, a_eWait2, a_eVal2), -1, ⟨H, hb, hpk, hpc⟩, fun post G => ?_, fun post G => ?_⟩
    · show wpX_stop post ((nI rs), f_stations, f_queueSize, (nI w), f_phase, f_pc, f_epc, f_cause, f_handling, f_vector, (nI len), f_fetchPc, f_parked, (nI qh), (nI qc), (nI h), (nI c), f_waitingCount, f_memCount, a_regs, a_memory, a_progOp, a_progA, a_progB, a_progC, a_latency, a_counters, a_fqPc, a_fqNext, a_twoBit, a_jumpDelta, a_robPc, a_robPredicted, a_robState, a_robRemaining, a_robValue, a_robFault, a_robNext, a_robSrc1, a_robVal1, a_robSrc2, a_robVal2, a_robOp, a_robC, a_robDest, a_mapSlot, a_unitBusy)
      exact br_f hp G
    · show wpY_stop post (f_pc, f_epc, f_cause, f_handling, f_vector, f_phase, (nI len), f_fetchPc, f_parked, (nI qc), (nI c), a_regs, a_memory, a_progOp, a_progA, a_progB, a_progC, a_counters, a_settings, a_queuePc, a_queueNext, a_twoBit, a_jumpDelta, a_ePc, a_ePredicted, a_eState, a_eRemaining, a_eValue, a_eFault, a_eNext, a_eWait1, a_eVal1, a_eWait2, a_eVal2)
      exact br_f hp G
theorem j_m_interrupt : ∀ z, rc_FZ z → rc_ME wpX_interrupt wpY_interrupt z := by
  refine rc_el ?_
  intro w rs len qh qc h c f_stations f_queueSize f_phase f_pc f_epc f_cause f_handling f_vector f_fetchPc f_parked f_waitingCount f_memCount a_regs a_memory a_progOp a_progA a_progB a_progC a_latency a_counters a_fqPc a_fqNext a_twoBit a_jumpDelta a_robPc a_robPredicted a_robState a_robRemaining a_robValue a_robFault a_robNext a_robSrc1 a_robVal1 a_robSrc2 a_robVal2 a_robOp a_robC a_robDest a_mapSlot a_unitBusy a_settings a_queuePc a_queueNext a_ePc a_ePredicted a_eState a_eRemaining a_eValue a_eFault a_eNext a_eWait1 a_eVal1 a_eWait2 a_eVal2 HF
  obtain ⟨H, hb, hpk, hpc⟩ := HF
  have H' : rc_F0 w rs len qh qc h c f_stations f_queueSize f_waitingCount f_memCount a_latency a_settings a_progOp a_progA a_progB a_progC a_fqPc a_fqNext a_queuePc a_queueNext a_robPc a_robPredicted a_robState a_robRemaining a_robValue a_robFault a_robNext a_robSrc1 a_robVal1 a_robSrc2 a_robVal2 a_robOp a_robC a_robDest a_ePc a_ePredicted a_eState a_eRemaining a_eValue a_eFault a_eNext a_eWait1 a_eVal1 a_eWait2 a_eVal2 a_mapSlot a_unitBusy := H
  by_cases hp : f_phase = 1
  · by_cases hz : f_handling = 0
    · by_cases hv : f_vector = -1
      · refine ⟨(w, rs, len, qh, qc, h, c, f_stations, f_queueSize, f_phase, f_pc, f_epc, f_cause, f_handling, f_vector, f_fetchPc, f_parked, f_waitingCount, f_memCount, a_regs, a_memory, a_progOp, a_progA, a_progB, a_progC, a_latency, a_counters, a_fqPc, a_fqNext, a_twoBit, a_jumpDelta, a_robPc, a_robPredicted, a_robState, a_robRemaining, a_robValue, a_robFault, a_robNext, a_robSrc1, a_robVal1, a_robSrc2, a_robVal2, a_robOp, a_robC, a_robDest, a_mapSlot, a_unitBusy, a_settings, a_queuePc, a_queueNext, a_ePc, a_ePredicted, a_eState, a_eRemaining, a_eValue, a_eFault, a_eNext, a_eWait1, a_eVal1, a_eWait2, a_eVal2), -4, ⟨H, hb, hpk, hpc⟩, fun post G => ?_, fun post G => ?_⟩
        · show wpX_interrupt post ((nI rs), f_stations, f_queueSize, (nI w), f_phase, f_pc, f_epc, f_cause, f_handling, f_vector, (nI len), f_fetchPc, f_parked, (nI qh), (nI qc), (nI h), (nI c), f_waitingCount, f_memCount, a_regs, a_memory, a_progOp, a_progA, a_progB, a_progC, a_latency, a_counters, a_fqPc, a_fqNext, a_twoBit, a_jumpDelta, a_robPc, a_robPredicted, a_robState, a_robRemaining, a_robValue, a_robFault, a_robNext, a_robSrc1, a_robVal1, a_robSrc2, a_robVal2, a_robOp, a_robC, a_robDest, a_mapSlot, a_unitBusy)
          exact br_t hp (br_t hz (br_t hv G))
        · show wpY_interrupt post (f_pc, f_epc, f_cause, f_handling, f_vector, f_phase, (nI len), f_fetchPc, f_parked, (nI qc), (nI c), a_regs, a_memory, a_progOp, a_progA, a_progB, a_progC, a_counters, a_settings, a_queuePc, a_queueNext, a_twoBit, a_jumpDelta, a_ePc, a_ePredicted, a_eState, a_eRemaining, a_eValue, a_eFault, a_eNext, a_eWait1, a_eVal1, a_eWait2, a_eVal2)
          exact br_t hp (br_t hz (br_t hv G))
      · obtain ⟨wc2, mc2, ms2, ub2, ct2, hF2, fX, fY⟩ := j_flush (w := w) (rs := rs) (len := len) (qh := qh) (qc := qc) (h := h) (c := c) (f_stations := f_stations) (f_queueSize := f_queueSize) (f_phase := f_phase) (f_pc := f_vector) (f_epc := f_pc) (f_cause := 6) (f_handling := 1) (f_vector := f_vector) (f_fetchPc := f_fetchPc) (f_parked := f_parked) (f_waitingCount := f_waitingCount) (f_memCount := f_memCount) (a_regs := a_regs) (a_memory := a_memory) (a_progOp := a_progOp) (a_progA := a_progA) (a_progB := a_progB) (a_progC := a_progC) (a_latency := a_latency) (a_counters := upd a_counters 2 (a_counters 2 + 1)) (a_fqPc := a_fqPc) (a_fqNext := a_fqNext) (a_twoBit := a_twoBit) (a_jumpDelta := a_jumpDelta) (a_robPc := a_robPc) (a_robPredicted := a_robPredicted) (a_robState := a_robState) (a_robRemaining := a_robRemaining) (a_robValue := a_robValue) (a_robFault := a_robFault) (a_robNext := a_robNext) (a_robSrc1 := a_robSrc1) (a_robVal1 := a_robVal1) (a_robSrc2 := a_robSrc2) (a_robVal2 := a_robVal2) (a_robOp := a_robOp) (a_robC := a_robC) (a_robDest := a_robDest) (a_mapSlot := a_mapSlot) (a_unitBusy := a_unitBusy) (a_settings := a_settings) (a_queuePc := a_queuePc) (a_queueNext := a_queueNext) (a_ePc := a_ePc) (a_ePredicted := a_ePredicted) (a_eState := a_eState) (a_eRemaining := a_eRemaining) (a_eValue := a_eValue) (a_eFault := a_eFault) (a_eNext := a_eNext) (a_eWait1 := a_eWait1) (a_eVal1 := a_eVal1) (a_eWait2 := a_eWait2) (a_eVal2 := a_eVal2) H'
        refine ⟨(w, rs, len, 0, 0, h, 0, f_stations, f_queueSize, f_phase, f_vector, f_pc, 6, 1, f_vector, f_vector, 0, wc2, mc2, a_regs, a_memory, a_progOp, a_progA, a_progB, a_progC, a_latency, ct2, a_fqPc, a_fqNext, a_twoBit, a_jumpDelta, a_robPc, a_robPredicted, a_robState, a_robRemaining, a_robValue, a_robFault, a_robNext, a_robSrc1, a_robVal1, a_robSrc2, a_robVal2, a_robOp, a_robC, a_robDest, ms2, ub2, a_settings, a_queuePc, a_queueNext, a_ePc, a_ePredicted, a_eState, a_eRemaining, a_eValue, a_eFault, a_eNext, a_eWait1, a_eVal1, a_eWait2, a_eVal2), 0, ⟨hF2, Or.inr rfl, Or.inl rfl, Or.inr rfl⟩, fun post G => ?_, fun post G => ?_⟩
        · show wpX_interrupt post ((nI rs), f_stations, f_queueSize, (nI w), f_phase, f_pc, f_epc, f_cause, f_handling, f_vector, (nI len), f_fetchPc, f_parked, (nI qh), (nI qc), (nI h), (nI c), f_waitingCount, f_memCount, a_regs, a_memory, a_progOp, a_progA, a_progB, a_progC, a_latency, a_counters, a_fqPc, a_fqNext, a_twoBit, a_jumpDelta, a_robPc, a_robPredicted, a_robState, a_robRemaining, a_robValue, a_robFault, a_robNext, a_robSrc1, a_robVal1, a_robSrc2, a_robVal2, a_robOp, a_robC, a_robDest, a_mapSlot, a_unitBusy)
          exact br_t hp (br_t hz (br_f hv (nm_e (br_f hv (br_t hz (fX _ G))))))
        · show wpY_interrupt post (f_pc, f_epc, f_cause, f_handling, f_vector, f_phase, (nI len), f_fetchPc, f_parked, (nI qc), (nI c), a_regs, a_memory, a_progOp, a_progA, a_progB, a_progC, a_counters, a_settings, a_queuePc, a_queueNext, a_twoBit, a_jumpDelta, a_ePc, a_ePredicted, a_eState, a_eRemaining, a_eValue, a_eFault, a_eNext, a_eWait1, a_eVal1, a_eWait2, a_eVal2)
          exact br_t hp (br_t hz (br_f hv (nm_e (fY _ G))))
    · refine ⟨(w, rs, len, qh, qc, h, c, f_stations, f_queueSize, f_phase, f_pc, f_epc, f_cause, f_handling, f_vector, f_fetchPc, f_parked, f_waitingCount, f_memCount, a_regs, a_memory, a_progOp, a_progA, a_progB, a_progC, a_latency, a_counters, a_fqPc, a_fqNext, a_twoBit, a_jumpDelta, a_robPc, a_robPredicted, a_robState, a_robRemaining, a_robValue, a_robFault, a_robNext, a_robSrc1, a_robVal1, a_robSrc2, a_robVal2, a_robOp, a_robC, a_robDest, a_mapSlot, a_unitBusy, a_settings, a_queuePc, a_queueNext, a_ePc, a_ePredicted, a_eState, a_eRemaining, a_eValue, a_eFault, a_eNext, a_eWait1, a_eVal1, a_eWait2, a_eVal2), -4, ⟨H, hb, hpk, hpc⟩, fun post G => ?_, fun post G => ?_⟩
      · show wpX_interrupt post ((nI rs), f_stations, f_queueSize, (nI w), f_phase, f_pc, f_epc, f_cause, f_handling, f_vector, (nI len), f_fetchPc, f_parked, (nI qh), (nI qc), (nI h), (nI c), f_waitingCount, f_memCount, a_regs, a_memory, a_progOp, a_progA, a_progB, a_progC, a_latency, a_counters, a_fqPc, a_fqNext, a_twoBit, a_jumpDelta, a_robPc, a_robPredicted, a_robState, a_robRemaining, a_robValue, a_robFault, a_robNext, a_robSrc1, a_robVal1, a_robSrc2, a_robVal2, a_robOp, a_robC, a_robDest, a_mapSlot, a_unitBusy)
        exact br_t hp (br_f hz G)
      · show wpY_interrupt post (f_pc, f_epc, f_cause, f_handling, f_vector, f_phase, (nI len), f_fetchPc, f_parked, (nI qc), (nI c), a_regs, a_memory, a_progOp, a_progA, a_progB, a_progC, a_counters, a_settings, a_queuePc, a_queueNext, a_twoBit, a_jumpDelta, a_ePc, a_ePredicted, a_eState, a_eRemaining, a_eValue, a_eFault, a_eNext, a_eWait1, a_eVal1, a_eWait2, a_eVal2)
        exact br_t hp (br_f hz G)
  · refine ⟨(w, rs, len, qh, qc, h, c, f_stations, f_queueSize, f_phase, f_pc, f_epc, f_cause, f_handling, f_vector, f_fetchPc, f_parked, f_waitingCount, f_memCount, a_regs, a_memory, a_progOp, a_progA, a_progB, a_progC, a_latency, a_counters, a_fqPc, a_fqNext, a_twoBit, a_jumpDelta, a_robPc, a_robPredicted, a_robState, a_robRemaining, a_robValue, a_robFault, a_robNext, a_robSrc1, a_robVal1, a_robSrc2, a_robVal2, a_robOp, a_robC, a_robDest, a_mapSlot, a_unitBusy, a_settings, a_queuePc, a_queueNext, a_ePc, a_ePredicted, a_eState, a_eRemaining, a_eValue, a_eFault, a_eNext, a_eWait1, a_eVal1, a_eWait2, a_eVal2), -1, ⟨H, hb, hpk, hpc⟩, fun post G => ?_, fun post G => ?_⟩
    · show wpX_interrupt post ((nI rs), f_stations, f_queueSize, (nI w), f_phase, f_pc, f_epc, f_cause, f_handling, f_vector, (nI len), f_fetchPc, f_parked, (nI qh), (nI qc), (nI h), (nI c), f_waitingCount, f_memCount, a_regs, a_memory, a_progOp, a_progA, a_progB, a_progC, a_latency, a_counters, a_fqPc, a_fqNext, a_twoBit, a_jumpDelta, a_robPc, a_robPredicted, a_robState, a_robRemaining, a_robValue, a_robFault, a_robNext, a_robSrc1, a_robVal1, a_robSrc2, a_robVal2, a_robOp, a_robC, a_robDest, a_mapSlot, a_unitBusy)
      exact br_f hp G
    · show wpY_interrupt post (f_pc, f_epc, f_cause, f_handling, f_vector, f_phase, (nI len), f_fetchPc, f_parked, (nI qc), (nI c), a_regs, a_memory, a_progOp, a_progA, a_progB, a_progC, a_counters, a_settings, a_queuePc, a_queueNext, a_twoBit, a_jumpDelta, a_ePc, a_ePredicted, a_eState, a_eRemaining, a_eValue, a_eFault, a_eNext, a_eWait1, a_eVal1, a_eWait2, a_eVal2)
      exact br_f hp G
theorem nI_of1 {x M : Int32} {n : Nat} (hM : M.toInt = n) (h1 : ¬ x < 1) (h : x ≤ M) : ∃ j : Nat, j ≤ n ∧ x = nI j := by
  refine nI_of2 hM ?_ h
  intro q
  exact h1 (Int32.lt_trans q (by decide))
theorem j_m_clock (v1 : Int32) : ∀ z, rc_FZ z → rc_ME (fun post u => wpX_clock post u v1) (fun post v => wpY_clock post v v1) z := by
  refine rc_el ?_
  intro w rs len qh qc h c f_stations f_queueSize f_phase f_pc f_epc f_cause f_handling f_vector f_fetchPc f_parked f_waitingCount f_memCount a_regs a_memory a_progOp a_progA a_progB a_progC a_latency a_counters a_fqPc a_fqNext a_twoBit a_jumpDelta a_robPc a_robPredicted a_robState a_robRemaining a_robValue a_robFault a_robNext a_robSrc1 a_robVal1 a_robSrc2 a_robVal2 a_robOp a_robC a_robDest a_mapSlot a_unitBusy a_settings a_queuePc a_queueNext a_ePc a_ePredicted a_eState a_eRemaining a_eValue a_eFault a_eNext a_eWait1 a_eVal1 a_eWait2 a_eVal2 HF
  by_cases hp : f_phase = 1
  · by_cases h1 : v1 < 1
    · refine ⟨(w, rs, len, qh, qc, h, c, f_stations, f_queueSize, f_phase, f_pc, f_epc, f_cause, f_handling, f_vector, f_fetchPc, f_parked, f_waitingCount, f_memCount, a_regs, a_memory, a_progOp, a_progA, a_progB, a_progC, a_latency, a_counters, a_fqPc, a_fqNext, a_twoBit, a_jumpDelta, a_robPc, a_robPredicted, a_robState, a_robRemaining, a_robValue, a_robFault, a_robNext, a_robSrc1, a_robVal1, a_robSrc2, a_robVal2, a_robOp, a_robC, a_robDest, a_mapSlot, a_unitBusy, a_settings, a_queuePc, a_queueNext, a_ePc, a_ePredicted, a_eState, a_eRemaining, a_eValue, a_eFault, a_eNext, a_eWait1, a_eVal1, a_eWait2, a_eVal2), -2, HF, fun post G => ?_, fun post G => ?_⟩
      · show wpX_clock post ((nI rs), f_stations, f_queueSize, (nI w), f_phase, f_pc, f_epc, f_cause, f_handling, f_vector, (nI len), f_fetchPc, f_parked, (nI qh), (nI qc), (nI h), (nI c), f_waitingCount, f_memCount, a_regs, a_memory, a_progOp, a_progA, a_progB, a_progC, a_latency, a_counters, a_fqPc, a_fqNext, a_twoBit, a_jumpDelta, a_robPc, a_robPredicted, a_robState, a_robRemaining, a_robValue, a_robFault, a_robNext, a_robSrc1, a_robVal1, a_robSrc2, a_robVal2, a_robOp, a_robC, a_robDest, a_mapSlot, a_unitBusy) v1
        exact br_t hp (br_t h1 G)
      · show wpY_clock post (f_pc, f_epc, f_cause, f_handling, f_vector, f_phase, (nI len), f_fetchPc, f_parked, (nI qc), (nI c), a_regs, a_memory, a_progOp, a_progA, a_progB, a_progC, a_counters, a_settings, a_queuePc, a_queueNext, a_twoBit, a_jumpDelta, a_ePc, a_ePredicted, a_eState, a_eRemaining, a_eValue, a_eFault, a_eNext, a_eWait1, a_eVal1, a_eWait2, a_eVal2) v1
        exact br_t hp (br_t h1 G)
    · by_cases h32 : v1 ≤ 32
      · obtain ⟨m, hm, e⟩ := nI_of1 (n := 32) (by decide) h1 h32
        obtain ⟨z', hF, hX, hY⟩ := j_ckLoop (x2 := a_counters 1) hm m 0 (w, rs, len, qh, qc, h, c, f_stations, f_queueSize, f_phase, f_pc, f_epc, f_cause, f_handling, f_vector, f_fetchPc, f_parked, f_waitingCount, f_memCount, a_regs, a_memory, a_progOp, a_progA, a_progB, a_progC, a_latency, a_counters, a_fqPc, a_fqNext, a_twoBit, a_jumpDelta, a_robPc, a_robPredicted, a_robState, a_robRemaining, a_robValue, a_robFault, a_robNext, a_robSrc1, a_robVal1, a_robSrc2, a_robVal2, a_robOp, a_robC, a_robDest, a_mapSlot, a_unitBusy, a_settings, a_queuePc, a_queueNext, a_ePc, a_ePredicted, a_eState, a_eRemaining, a_eValue, a_eFault, a_eNext, a_eWait1, a_eVal1, a_eWait2, a_eVal2) (by omega) HF
        refine ⟨z', rc_zn z' - a_counters 1, hF, fun post G => ?_, fun post G => ?_⟩
        · show wpX_clock post ((nI rs), f_stations, f_queueSize, (nI w), f_phase, f_pc, f_epc, f_cause, f_handling, f_vector, (nI len), f_fetchPc, f_parked, (nI qh), (nI qc), (nI h), (nI c), f_waitingCount, f_memCount, a_regs, a_memory, a_progOp, a_progA, a_progB, a_progC, a_latency, a_counters, a_fqPc, a_fqNext, a_twoBit, a_jumpDelta, a_robPc, a_robPredicted, a_robState, a_robRemaining, a_robValue, a_robFault, a_robNext, a_robSrc1, a_robVal1, a_robSrc2, a_robVal2, a_robOp, a_robC, a_robDest, a_mapSlot, a_unitBusy) v1
          rw [e] at h1 h32
          rw [e]
          exact br_t hp (br_f h1 (br_t h32 (nm_e ⟨m + 1, hX post (m + 1) (by omega) G⟩)))
        · show wpY_clock post (f_pc, f_epc, f_cause, f_handling, f_vector, f_phase, (nI len), f_fetchPc, f_parked, (nI qc), (nI c), a_regs, a_memory, a_progOp, a_progA, a_progB, a_progC, a_counters, a_settings, a_queuePc, a_queueNext, a_twoBit, a_jumpDelta, a_ePc, a_ePredicted, a_eState, a_eRemaining, a_eValue, a_eFault, a_eNext, a_eWait1, a_eVal1, a_eWait2, a_eVal2) v1
          rw [e] at h1 h32
          rw [e]
          exact br_t hp (br_f h1 (br_t h32 (nm_e ⟨m + 1, hY post (m + 1) (by omega) G⟩)))
      · refine ⟨(w, rs, len, qh, qc, h, c, f_stations, f_queueSize, f_phase, f_pc, f_epc, f_cause, f_handling, f_vector, f_fetchPc, f_parked, f_waitingCount, f_memCount, a_regs, a_memory, a_progOp, a_progA, a_progB, a_progC, a_latency, a_counters, a_fqPc, a_fqNext, a_twoBit, a_jumpDelta, a_robPc, a_robPredicted, a_robState, a_robRemaining, a_robValue, a_robFault, a_robNext, a_robSrc1, a_robVal1, a_robSrc2, a_robVal2, a_robOp, a_robC, a_robDest, a_mapSlot, a_unitBusy, a_settings, a_queuePc, a_queueNext, a_ePc, a_ePredicted, a_eState, a_eRemaining, a_eValue, a_eFault, a_eNext, a_eWait1, a_eVal1, a_eWait2, a_eVal2), -2, HF, fun post G => ?_, fun post G => ?_⟩
        · show wpX_clock post ((nI rs), f_stations, f_queueSize, (nI w), f_phase, f_pc, f_epc, f_cause, f_handling, f_vector, (nI len), f_fetchPc, f_parked, (nI qh), (nI qc), (nI h), (nI c), f_waitingCount, f_memCount, a_regs, a_memory, a_progOp, a_progA, a_progB, a_progC, a_latency, a_counters, a_fqPc, a_fqNext, a_twoBit, a_jumpDelta, a_robPc, a_robPredicted, a_robState, a_robRemaining, a_robValue, a_robFault, a_robNext, a_robSrc1, a_robVal1, a_robSrc2, a_robVal2, a_robOp, a_robC, a_robDest, a_mapSlot, a_unitBusy) v1
          exact br_t hp (br_f h1 (br_f h32 G))
        · show wpY_clock post (f_pc, f_epc, f_cause, f_handling, f_vector, f_phase, (nI len), f_fetchPc, f_parked, (nI qc), (nI c), a_regs, a_memory, a_progOp, a_progA, a_progB, a_progC, a_counters, a_settings, a_queuePc, a_queueNext, a_twoBit, a_jumpDelta, a_ePc, a_ePredicted, a_eState, a_eRemaining, a_eValue, a_eFault, a_eNext, a_eWait1, a_eVal1, a_eWait2, a_eVal2) v1
          exact br_t hp (br_f h1 (br_f h32 G))
  · refine ⟨(w, rs, len, qh, qc, h, c, f_stations, f_queueSize, f_phase, f_pc, f_epc, f_cause, f_handling, f_vector, f_fetchPc, f_parked, f_waitingCount, f_memCount, a_regs, a_memory, a_progOp, a_progA, a_progB, a_progC, a_latency, a_counters, a_fqPc, a_fqNext, a_twoBit, a_jumpDelta, a_robPc, a_robPredicted, a_robState, a_robRemaining, a_robValue, a_robFault, a_robNext, a_robSrc1, a_robVal1, a_robSrc2, a_robVal2, a_robOp, a_robC, a_robDest, a_mapSlot, a_unitBusy, a_settings, a_queuePc, a_queueNext, a_ePc, a_ePredicted, a_eState, a_eRemaining, a_eValue, a_eFault, a_eNext, a_eWait1, a_eVal1, a_eWait2, a_eVal2), -1, HF, fun post G => ?_, fun post G => ?_⟩
    · show wpX_clock post ((nI rs), f_stations, f_queueSize, (nI w), f_phase, f_pc, f_epc, f_cause, f_handling, f_vector, (nI len), f_fetchPc, f_parked, (nI qh), (nI qc), (nI h), (nI c), f_waitingCount, f_memCount, a_regs, a_memory, a_progOp, a_progA, a_progB, a_progC, a_latency, a_counters, a_fqPc, a_fqNext, a_twoBit, a_jumpDelta, a_robPc, a_robPredicted, a_robState, a_robRemaining, a_robValue, a_robFault, a_robNext, a_robSrc1, a_robVal1, a_robSrc2, a_robVal2, a_robOp, a_robC, a_robDest, a_mapSlot, a_unitBusy) v1
      exact br_f hp G
    · show wpY_clock post (f_pc, f_epc, f_cause, f_handling, f_vector, f_phase, (nI len), f_fetchPc, f_parked, (nI qc), (nI c), a_regs, a_memory, a_progOp, a_progA, a_progB, a_progC, a_counters, a_settings, a_queuePc, a_queueNext, a_twoBit, a_jumpDelta, a_ePc, a_ePredicted, a_eState, a_eRemaining, a_eValue, a_eFault, a_eNext, a_eWait1, a_eVal1, a_eWait2, a_eVal2) v1
      exact br_f hp G
theorem j_m_interpret (v1 : Int32) : ∀ z, rc_FZ z → rc_ME (fun post u => wpX_interpret post u v1) (fun post v => wpY_interpret post v v1) z := by
  refine rc_el ?_
  intro w rs len qh qc h c f_stations f_queueSize f_phase f_pc f_epc f_cause f_handling f_vector f_fetchPc f_parked f_waitingCount f_memCount a_regs a_memory a_progOp a_progA a_progB a_progC a_latency a_counters a_fqPc a_fqNext a_twoBit a_jumpDelta a_robPc a_robPredicted a_robState a_robRemaining a_robValue a_robFault a_robNext a_robSrc1 a_robVal1 a_robSrc2 a_robVal2 a_robOp a_robC a_robDest a_mapSlot a_unitBusy a_settings a_queuePc a_queueNext a_ePc a_ePredicted a_eState a_eRemaining a_eValue a_eFault a_eNext a_eWait1 a_eVal1 a_eWait2 a_eVal2 HF
  by_cases hp : f_phase = 1
  · by_cases h0 : v1 < 0
    · refine ⟨(w, rs, len, qh, qc, h, c, f_stations, f_queueSize, f_phase, f_pc, f_epc, f_cause, f_handling, f_vector, f_fetchPc, f_parked, f_waitingCount, f_memCount, a_regs, a_memory, a_progOp, a_progA, a_progB, a_progC, a_latency, a_counters, a_fqPc, a_fqNext, a_twoBit, a_jumpDelta, a_robPc, a_robPredicted, a_robState, a_robRemaining, a_robValue, a_robFault, a_robNext, a_robSrc1, a_robVal1, a_robSrc2, a_robVal2, a_robOp, a_robC, a_robDest, a_mapSlot, a_unitBusy, a_settings, a_queuePc, a_queueNext, a_ePc, a_ePredicted, a_eState, a_eRemaining, a_eValue, a_eFault, a_eNext, a_eWait1, a_eVal1, a_eWait2, a_eVal2), -2, HF, fun post G => ?_, fun post G => ?_⟩
      · show wpX_interpret post ((nI rs), f_stations, f_queueSize, (nI w), f_phase, f_pc, f_epc, f_cause, f_handling, f_vector, (nI len), f_fetchPc, f_parked, (nI qh), (nI qc), (nI h), (nI c), f_waitingCount, f_memCount, a_regs, a_memory, a_progOp, a_progA, a_progB, a_progC, a_latency, a_counters, a_fqPc, a_fqNext, a_twoBit, a_jumpDelta, a_robPc, a_robPredicted, a_robState, a_robRemaining, a_robValue, a_robFault, a_robNext, a_robSrc1, a_robVal1, a_robSrc2, a_robVal2, a_robOp, a_robC, a_robDest, a_mapSlot, a_unitBusy) v1
        exact br_t hp (br_t h0 G)
      · show wpY_interpret post (f_pc, f_epc, f_cause, f_handling, f_vector, f_phase, (nI len), f_fetchPc, f_parked, (nI qc), (nI c), a_regs, a_memory, a_progOp, a_progA, a_progB, a_progC, a_counters, a_settings, a_queuePc, a_queueNext, a_twoBit, a_jumpDelta, a_ePc, a_ePredicted, a_eState, a_eRemaining, a_eValue, a_eFault, a_eNext, a_eWait1, a_eVal1, a_eWait2, a_eVal2) v1
        exact br_t hp (br_t h0 G)
    · by_cases h96 : v1 ≤ 96
      · obtain ⟨m, hm, e⟩ := nI_of2 (n := 96) (by decide) h0 h96
        obtain ⟨H, hb, hpk, hpc⟩ := HF
        have H' : rc_F0 w rs len qh qc h c f_stations f_queueSize f_waitingCount f_memCount a_latency a_settings a_progOp a_progA a_progB a_progC a_fqPc a_fqNext a_queuePc a_queueNext a_robPc a_robPredicted a_robState a_robRemaining a_robValue a_robFault a_robNext a_robSrc1 a_robVal1 a_robSrc2 a_robVal2 a_robOp a_robC a_robDest a_ePc a_ePredicted a_eState a_eRemaining a_eValue a_eFault a_eNext a_eWait1 a_eVal1 a_eWait2 a_eVal2 a_mapSlot a_unitBusy := H
        obtain ⟨wc2, mc2, ms2, ub2, ct2, hF2, fX, fY⟩ := j_flush (w := w) (rs := rs) (len := len) (qh := qh) (qc := qc) (h := h) (c := c) (f_stations := f_stations) (f_queueSize := f_queueSize) (f_phase := f_phase) (f_pc := f_pc) (f_epc := f_epc) (f_cause := f_cause) (f_handling := f_handling) (f_vector := f_vector) (f_fetchPc := f_fetchPc) (f_parked := f_parked) (f_waitingCount := f_waitingCount) (f_memCount := f_memCount) (a_regs := a_regs) (a_memory := a_memory) (a_progOp := a_progOp) (a_progA := a_progA) (a_progB := a_progB) (a_progC := a_progC) (a_latency := a_latency) (a_counters := a_counters) (a_fqPc := a_fqPc) (a_fqNext := a_fqNext) (a_twoBit := a_twoBit) (a_jumpDelta := a_jumpDelta) (a_robPc := a_robPc) (a_robPredicted := a_robPredicted) (a_robState := a_robState) (a_robRemaining := a_robRemaining) (a_robValue := a_robValue) (a_robFault := a_robFault) (a_robNext := a_robNext) (a_robSrc1 := a_robSrc1) (a_robVal1 := a_robVal1) (a_robSrc2 := a_robSrc2) (a_robVal2 := a_robVal2) (a_robOp := a_robOp) (a_robC := a_robC) (a_robDest := a_robDest) (a_mapSlot := a_mapSlot) (a_unitBusy := a_unitBusy) (a_settings := a_settings) (a_queuePc := a_queuePc) (a_queueNext := a_queueNext) (a_ePc := a_ePc) (a_ePredicted := a_ePredicted) (a_eState := a_eState) (a_eRemaining := a_eRemaining) (a_eValue := a_eValue) (a_eFault := a_eFault) (a_eNext := a_eNext) (a_eWait1 := a_eWait1) (a_eVal1 := a_eVal1) (a_eWait2 := a_eWait2) (a_eVal2 := a_eVal2) H'
        obtain ⟨z', r, hF, hX, hY⟩ := j_ipLoop hm m 0 (w, rs, len, 0, 0, h, 0, f_stations, f_queueSize, f_phase, f_pc, f_epc, f_cause, f_handling, f_vector, f_pc, 0, wc2, mc2, a_regs, a_memory, a_progOp, a_progA, a_progB, a_progC, a_latency, ct2, a_fqPc, a_fqNext, a_twoBit, a_jumpDelta, a_robPc, a_robPredicted, a_robState, a_robRemaining, a_robValue, a_robFault, a_robNext, a_robSrc1, a_robVal1, a_robSrc2, a_robVal2, a_robOp, a_robC, a_robDest, ms2, ub2, a_settings, a_queuePc, a_queueNext, a_ePc, a_ePredicted, a_eState, a_eRemaining, a_eValue, a_eFault, a_eNext, a_eWait1, a_eVal1, a_eWait2, a_eVal2) (by omega) ⟨hF2, hb, Or.inl rfl, Or.inr rfl⟩ rfl
        refine ⟨z', r, hF, fun post G => ?_, fun post G => ?_⟩
        · show wpX_interpret post ((nI rs), f_stations, f_queueSize, (nI w), f_phase, f_pc, f_epc, f_cause, f_handling, f_vector, (nI len), f_fetchPc, f_parked, (nI qh), (nI qc), (nI h), (nI c), f_waitingCount, f_memCount, a_regs, a_memory, a_progOp, a_progA, a_progB, a_progC, a_latency, a_counters, a_fqPc, a_fqNext, a_twoBit, a_jumpDelta, a_robPc, a_robPredicted, a_robState, a_robRemaining, a_robValue, a_robFault, a_robNext, a_robSrc1, a_robVal1, a_robSrc2, a_robVal2, a_robOp, a_robC, a_robDest, a_mapSlot, a_unitBusy) v1
          have g := hX post (m + 1) (by omega) G
          rw [e] at h0 h96
          rw [e]
          exact br_t hp (br_f h0 (br_t h96 (fX _ ⟨m + 1, g⟩)))
        · show wpY_interpret post (f_pc, f_epc, f_cause, f_handling, f_vector, f_phase, (nI len), f_fetchPc, f_parked, (nI qc), (nI c), a_regs, a_memory, a_progOp, a_progA, a_progB, a_progC, a_counters, a_settings, a_queuePc, a_queueNext, a_twoBit, a_jumpDelta, a_ePc, a_ePredicted, a_eState, a_eRemaining, a_eValue, a_eFault, a_eNext, a_eWait1, a_eVal1, a_eWait2, a_eVal2) v1
          have g := hY post (m + 1) (by omega) G
          rw [e] at h0 h96
          rw [e]
          exact br_t hp (br_f h0 (br_t h96 (fY _ ⟨m + 1, g⟩)))
      · refine ⟨(w, rs, len, qh, qc, h, c, f_stations, f_queueSize, f_phase, f_pc, f_epc, f_cause, f_handling, f_vector, f_fetchPc, f_parked, f_waitingCount, f_memCount, a_regs, a_memory, a_progOp, a_progA, a_progB, a_progC, a_latency, a_counters, a_fqPc, a_fqNext, a_twoBit, a_jumpDelta, a_robPc, a_robPredicted, a_robState, a_robRemaining, a_robValue, a_robFault, a_robNext, a_robSrc1, a_robVal1, a_robSrc2, a_robVal2, a_robOp, a_robC, a_robDest, a_mapSlot, a_unitBusy, a_settings, a_queuePc, a_queueNext, a_ePc, a_ePredicted, a_eState, a_eRemaining, a_eValue, a_eFault, a_eNext, a_eWait1, a_eVal1, a_eWait2, a_eVal2), -2, HF, fun post G => ?_, fun post G => ?_⟩
        · show wpX_interpret post ((nI rs), f_stations, f_queueSize, (nI w), f_phase, f_pc, f_epc, f_cause, f_handling, f_vector, (nI len), f_fetchPc, f_parked, (nI qh), (nI qc), (nI h), (nI c), f_waitingCount, f_memCount, a_regs, a_memory, a_progOp, a_progA, a_progB, a_progC, a_latency, a_counters, a_fqPc, a_fqNext, a_twoBit, a_jumpDelta, a_robPc, a_robPredicted, a_robState, a_robRemaining, a_robValue, a_robFault, a_robNext, a_robSrc1, a_robVal1, a_robSrc2, a_robVal2, a_robOp, a_robC, a_robDest, a_mapSlot, a_unitBusy) v1
          exact br_t hp (br_f h0 (br_f h96 G))
        · show wpY_interpret post (f_pc, f_epc, f_cause, f_handling, f_vector, f_phase, (nI len), f_fetchPc, f_parked, (nI qc), (nI c), a_regs, a_memory, a_progOp, a_progA, a_progB, a_progC, a_counters, a_settings, a_queuePc, a_queueNext, a_twoBit, a_jumpDelta, a_ePc, a_ePredicted, a_eState, a_eRemaining, a_eValue, a_eFault, a_eNext, a_eWait1, a_eVal1, a_eWait2, a_eVal2) v1
          exact br_t hp (br_f h0 (br_f h96 G))
  · refine ⟨(w, rs, len, qh, qc, h, c, f_stations, f_queueSize, f_phase, f_pc, f_epc, f_cause, f_handling, f_vector, f_fetchPc, f_parked, f_waitingCount, f_memCount, a_regs, a_memory, a_progOp, a_progA, a_progB, a_progC, a_latency, a_counters, a_fqPc, a_fqNext, a_twoBit, a_jumpDelta, a_robPc, a_robPredicted, a_robState, a_robRemaining, a_robValue, a_robFault, a_robNext, a_robSrc1, a_robVal1, a_robSrc2, a_robVal2, a_robOp, a_robC, a_robDest, a_mapSlot, a_unitBusy, a_settings, a_queuePc, a_queueNext, a_ePc, a_ePredicted, a_eState, a_eRemaining, a_eValue, a_eFault, a_eNext, a_eWait1, a_eVal1, a_eWait2, a_eVal2), -1, HF, fun post G => ?_, fun post G => ?_⟩
    · show wpX_interpret post ((nI rs), f_stations, f_queueSize, (nI w), f_phase, f_pc, f_epc, f_cause, f_handling, f_vector, (nI len), f_fetchPc, f_parked, (nI qh), (nI qc), (nI h), (nI c), f_waitingCount, f_memCount, a_regs, a_memory, a_progOp, a_progA, a_progB, a_progC, a_latency, a_counters, a_fqPc, a_fqNext, a_twoBit, a_jumpDelta, a_robPc, a_robPredicted, a_robState, a_robRemaining, a_robValue, a_robFault, a_robNext, a_robSrc1, a_robVal1, a_robSrc2, a_robVal2, a_robOp, a_robC, a_robDest, a_mapSlot, a_unitBusy) v1
      exact br_f hp G
    · show wpY_interpret post (f_pc, f_epc, f_cause, f_handling, f_vector, f_phase, (nI len), f_fetchPc, f_parked, (nI qc), (nI c), a_regs, a_memory, a_progOp, a_progA, a_progB, a_progC, a_counters, a_settings, a_queuePc, a_queueNext, a_twoBit, a_jumpDelta, a_ePc, a_ePredicted, a_eState, a_eRemaining, a_eValue, a_eFault, a_eNext, a_eWait1, a_eVal1, a_eWait2, a_eVal2) v1
      exact br_f hp G
end
section
/-! setters: one outcome for both sides -/
section
variable {w rs len qh qc h c : Nat} {f_stations f_queueSize f_phase f_pc f_epc f_cause f_handling f_vector f_fetchPc f_parked f_waitingCount f_memCount : Int32} {a_regs a_memory a_progOp a_progA a_progB a_progC a_latency a_counters a_fqPc a_fqNext a_twoBit a_jumpDelta a_robPc a_robPredicted a_robState a_robRemaining a_robValue a_robFault a_robNext a_robSrc1 a_robVal1 a_robSrc2 a_robVal2 a_robOp a_robC a_robDest a_mapSlot a_unitBusy a_settings a_queuePc a_queueNext a_ePc a_ePredicted a_eState a_eRemaining a_eValue a_eFault a_eNext a_eWait1 a_eVal1 a_eWait2 a_eVal2 : Nat → Int32}
theorem f0_prog {len' : Nat} {po pa pb pc : Nat → Int32} (H : rc_F0 w rs len qh qc h 0 f_stations f_queueSize f_waitingCount f_memCount a_latency a_settings a_progOp a_progA a_progB a_progC a_fqPc a_fqNext a_queuePc a_queueNext a_robPc a_robPredicted a_robState a_robRemaining a_robValue a_robFault a_robNext a_robSrc1 a_robVal1 a_robSrc2 a_robVal2 a_robOp a_robC a_robDest a_ePc a_ePredicted a_eState a_eRemaining a_eValue a_eFault a_eNext a_eWait1 a_eVal1 a_eWait2 a_eVal2 a_mapSlot a_unitBusy) (P : rc_Pg len' po pa pb pc) : rc_F0 w rs len' qh qc h 0 f_stations f_queueSize f_waitingCount f_memCount a_latency a_settings po pa pb pc a_fqPc a_fqNext a_queuePc a_queueNext a_robPc a_robPredicted a_robState a_robRemaining a_robValue a_robFault a_robNext a_robSrc1 a_robVal1 a_robSrc2 a_robVal2 a_robOp a_robC a_robDest a_ePc a_ePredicted a_eState a_eRemaining a_eValue a_eFault a_eNext a_eWait1 a_eVal1 a_eWait2 a_eVal2 a_mapSlot a_unitBusy := by
  obtain ⟨hS, hP, hQ, ⟨hh, hc, _⟩, hI, hw, hm, hM, hU⟩ := H
  unfold rc_F0 rc_Rb
  refine ⟨hS, P, hQ, ⟨hh, hc, ra_0, ra_0, ra_0, ra_0, ra_0, ra_0, ra_0, ra_0, ra_0, ra_0, ra_0, ra_0, ra_0, ra_0⟩, fun i hi => absurd hi (by omega), hw, ?_, fun r hr => ?_, fun k hk => ?_⟩
  · rw [rc_cn] at hm
    rw [rc_cn]
    exact hm
  · have e := hM r hr
    rw [rc_yw] at e
    rw [rc_yw]
    exact e
  · have e := hU k hk
    rw [rc_cn] at e
    rw [rc_cn]
    exact e
end
def rc_em (p0 p1 p2 p3 : Int32) (R A : Prop) : Prop := ((p0 < 0 → R) ∧ (¬ p0 < 0 → ((15 < p0 → R) ∧ (¬ 15 < p0 → ((p1 < 0 → R) ∧ (¬ p1 < 0 → ((7 < p1 → R) ∧ (¬ 7 < p1 → ((p2 < 0 → R) ∧ (¬ p2 < 0 → ((p2 ≤ 7 → ((p0 < 1 → A) ∧ (¬ p0 < 1 → ((7 < p0 → A) ∧ (¬ 7 < p0 → ((p3 < 0 → R) ∧ (¬ p3 < 0 → ((p3 ≤ 7 → A) ∧ (¬ p3 ≤ 7 → R))))))))) ∧ (¬ p2 ≤ 7 → R))))))))))))
def rc_eo (p0 p1 p2 p3 : Int32) : Prop := ¬ p0 < 0 ∧ ¬ 15 < p0 ∧ ¬ p1 < 0 ∧ ¬ 7 < p1 ∧ ¬ p2 < 0 ∧ p2 ≤ 7 ∧ (p0 < 1 ∨ 7 < p0 ∨ (¬ p3 < 0 ∧ p3 ≤ 7))
theorem em_ok {p0 p1 p2 p3 : Int32} {R A : Prop} (h : rc_eo p0 p1 p2 p3) (a : A) : rc_em p0 p1 p2 p3 R A := by
  obtain ⟨h1, h2, h3, h4, h5, h6, h7⟩ := h
  refine br_f h1 (br_f h2 (br_f h3 (br_f h4 (br_f h5 (br_t h6 (br_c (fun _ => a) (fun q1 => br_c (fun _ => a) (fun q7 => ?_))))))))
  rcases h7 with h7 | h7 | h7
  · exact absurd h7 q1
  · exact absurd h7 q7
  · exact br_f h7.1 (br_t h7.2 a)
theorem em_no {p0 p1 p2 p3 : Int32} {R A : Prop} (h : ¬ rc_eo p0 p1 p2 p3) (r : R) : rc_em p0 p1 p2 p3 R A := by
  refine br_c (fun _ => r) (fun h1 => br_c (fun _ => r) (fun h2 => br_c (fun _ => r) (fun h3 => br_c (fun _ => r) (fun h4 => br_c (fun _ => r) (fun h5 => br_c (fun h6 => ?_) (fun _ => r))))))
  refine br_c (fun q => absurd ⟨h1, h2, h3, h4, h5, h6, Or.inl q⟩ h) (fun q1 => br_c (fun q => absurd ⟨h1, h2, h3, h4, h5, h6, Or.inr (Or.inl q)⟩ h) (fun q7 => br_c (fun _ => r) (fun q3 => br_c (fun q => absurd ⟨h1, h2, h3, h4, h5, h6, Or.inr (Or.inr ⟨q3, q⟩)⟩ h) (fun _ => r))))
theorem eo_ok {p0 p1 p2 p3 : Int32} (h : rc_eo p0 p1 p2 p3) : rc_ok p0 p1 p2 p3 := by
  obtain ⟨h1, h2, h3, h4, h5, h6, h7⟩ := h
  refine ⟨nI_of2 (M := 15) (by decide) h1 (Int32.not_lt.mp h2), nI_of2 (M := 7) (by decide) h3 (Int32.not_lt.mp h4), nI_of2 (M := 7) (by decide) h5 h6, fun q1 q7 => ?_⟩
  rcases h7 with h7 | h7 | h7
  · exact absurd h7 (Int32.not_lt.mpr q1)
  · exact absurd q7 (Int32.not_le.mpr h7)
  · exact nI_of2 (M := 7) (by decide) h7.1 h7.2
theorem pg_up {len : Nat} {po pa pb pc : Nat → Int32} {p0 p1 p2 p3 : Int32} (P : rc_Pg len po pa pb pc) (hl : len < 64) (h : rc_ok p0 p1 p2 p3) : rc_Pg (len + 1) (upd po len p0) (upd pa len p1) (upd pb len p2) (upd pc len p3) := by
  refine ⟨by omega, fun i hi => ?_⟩
  by_cases q : i = len
  · rw [q, pk_us, pk_us, pk_us, pk_us]
    exact h
  · rw [pk_un q, pk_un q, pk_un q, pk_un q]
    exact P.2 i hi
theorem j_m_emit (v1 v2 v3 v4 : Int32) : ∀ z, rc_FZ z → rc_ME (fun post u => wpX_emit post u v1 v2 v3 v4) (fun post v => wpY_emit post v v1 v2 v3 v4) z := by
  refine rc_el ?_
  intro w rs len qh qc h c f_stations f_queueSize f_phase f_pc f_epc f_cause f_handling f_vector f_fetchPc f_parked f_waitingCount f_memCount a_regs a_memory a_progOp a_progA a_progB a_progC a_latency a_counters a_fqPc a_fqNext a_twoBit a_jumpDelta a_robPc a_robPredicted a_robState a_robRemaining a_robValue a_robFault a_robNext a_robSrc1 a_robVal1 a_robSrc2 a_robVal2 a_robOp a_robC a_robDest a_mapSlot a_unitBusy a_settings a_queuePc a_queueNext a_ePc a_ePredicted a_eState a_eRemaining a_eValue a_eFault a_eNext a_eWait1 a_eVal1 a_eWait2 a_eVal2 HF
  by_cases hp : f_phase = 1
  · refine ⟨(w, rs, len, qh, qc, h, c, f_stations, f_queueSize, f_phase, f_pc, f_epc, f_cause, f_handling, f_vector, f_fetchPc, f_parked, f_waitingCount, f_memCount, a_regs, a_memory, a_progOp, a_progA, a_progB, a_progC, a_latency, a_counters, a_fqPc, a_fqNext, a_twoBit, a_jumpDelta, a_robPc, a_robPredicted, a_robState, a_robRemaining, a_robValue, a_robFault, a_robNext, a_robSrc1, a_robVal1, a_robSrc2, a_robVal2, a_robOp, a_robC, a_robDest, a_mapSlot, a_unitBusy, a_settings, a_queuePc, a_queueNext, a_ePc, a_ePredicted, a_eState, a_eRemaining, a_eValue, a_eFault, a_eNext, a_eWait1, a_eVal1, a_eWait2, a_eVal2), -1, HF, fun post G => ?_, fun post G => ?_⟩
    · show wpX_emit post ((nI rs), f_stations, f_queueSize, (nI w), f_phase, f_pc, f_epc, f_cause, f_handling, f_vector, (nI len), f_fetchPc, f_parked, (nI qh), (nI qc), (nI h), (nI c), f_waitingCount, f_memCount, a_regs, a_memory, a_progOp, a_progA, a_progB, a_progC, a_latency, a_counters, a_fqPc, a_fqNext, a_twoBit, a_jumpDelta, a_robPc, a_robPredicted, a_robState, a_robRemaining, a_robValue, a_robFault, a_robNext, a_robSrc1, a_robVal1, a_robSrc2, a_robVal2, a_robOp, a_robC, a_robDest, a_mapSlot, a_unitBusy) v1 v2 v3 v4
      exact br_t hp G
    · show wpY_emit post (f_pc, f_epc, f_cause, f_handling, f_vector, f_phase, (nI len), f_fetchPc, f_parked, (nI qc), (nI c), a_regs, a_memory, a_progOp, a_progA, a_progB, a_progC, a_counters, a_settings, a_queuePc, a_queueNext, a_twoBit, a_jumpDelta, a_ePc, a_ePredicted, a_eState, a_eRemaining, a_eValue, a_eFault, a_eNext, a_eWait1, a_eVal1, a_eWait2, a_eVal2) v1 v2 v3 v4
      exact br_t hp G
  · by_cases hok : rc_eo v1 v2 v3 v4
    · obtain ⟨H, hb, hpk, hpc⟩ := HF
      have hc : c = 0 := hpc.elim (fun q => absurd q hp) id
      subst hc
      have H' : rc_F0 w rs len qh qc h 0 f_stations f_queueSize f_waitingCount f_memCount a_latency a_settings a_progOp a_progA a_progB a_progC a_fqPc a_fqNext a_queuePc a_queueNext a_robPc a_robPredicted a_robState a_robRemaining a_robValue a_robFault a_robNext a_robSrc1 a_robVal1 a_robSrc2 a_robVal2 a_robOp a_robC a_robDest a_ePc a_ePredicted a_eState a_eRemaining a_eValue a_eFault a_eNext a_eWait1 a_eVal1 a_eWait2 a_eVal2 a_mapSlot a_unitBusy := H
      have P := H'.2.1
      have hle := P.1
      by_cases hl : len < 64
      · have kl : nI len < 64 := nI_lt (b := 64) hl (by omega)
        have hin : vp_in (nI len) 64 := vp_in_nI hl (by omega)
        have hcl : (nI len).toNatClampNeg = len := nI_clamp (by omega)
        refine ⟨(w, rs, (len + 1), qh, qc, h, 0, f_stations, f_queueSize, f_phase, f_pc, f_epc, f_cause, f_handling, f_vector, f_fetchPc, f_parked, f_waitingCount, f_memCount, a_regs, a_memory, (upd a_progOp len v1), (upd a_progA len v2), (upd a_progB len v3), (upd a_progC len v4), a_latency, a_counters, a_fqPc, a_fqNext, a_twoBit, a_jumpDelta, a_robPc, a_robPredicted, a_robState, a_robRemaining, a_robValue, a_robFault, a_robNext, a_robSrc1, a_robVal1, a_robSrc2, a_robVal2, a_robOp, a_robC, a_robDest, a_mapSlot, a_unitBusy, a_settings, a_queuePc, a_queueNext, a_ePc, a_ePredicted, a_eState, a_eRemaining, a_eValue, a_eFault, a_eNext, a_eWait1, a_eVal1, a_eWait2, a_eVal2), nI len, ⟨f0_prog H' (pg_up P hl (eo_ok hok)), hb, hpk, Or.inr rfl⟩, fun post G => ?_, fun post G => ?_⟩
        · show wpX_emit post ((nI rs), f_stations, f_queueSize, (nI w), f_phase, f_pc, f_epc, f_cause, f_handling, f_vector, (nI len), f_fetchPc, f_parked, (nI qh), (nI qc), (nI h), (nI 0), f_waitingCount, f_memCount, a_regs, a_memory, a_progOp, a_progA, a_progB, a_progC, a_latency, a_counters, a_fqPc, a_fqNext, a_twoBit, a_jumpDelta, a_robPc, a_robPredicted, a_robState, a_robRemaining, a_robValue, a_robFault, a_robNext, a_robSrc1, a_robVal1, a_robSrc2, a_robVal2, a_robOp, a_robC, a_robDest, a_mapSlot, a_unitBusy) v1 v2 v3 v4
          have g : wX_emit_69 post v1 v2 v3 v4 (nI rs) f_stations f_queueSize (nI w) f_phase f_pc f_epc f_cause f_handling f_vector (nI len) f_fetchPc f_parked (nI qh) (nI qc) (nI h) (nI 0) f_waitingCount f_memCount a_regs a_memory a_progOp a_progA a_progB a_progC a_latency a_counters a_fqPc a_fqNext a_twoBit a_jumpDelta a_robPc a_robPredicted a_robState a_robRemaining a_robValue a_robFault a_robNext a_robSrc1 a_robVal1 a_robSrc2 a_robVal2 a_robOp a_robC a_robDest a_mapSlot a_unitBusy := by
            refine br_t kl (And.intro hin ?_)
            rw [hcl]
            exact nm_e (And.intro hin (nm_e (And.intro hin (nm_e (And.intro hin (nm_e (nm_r (nI_1 len) G)))))))
          exact br_f hp (em_ok hok g)
        · show wpY_emit post (f_pc, f_epc, f_cause, f_handling, f_vector, f_phase, (nI len), f_fetchPc, f_parked, (nI qc), (nI 0), a_regs, a_memory, a_progOp, a_progA, a_progB, a_progC, a_counters, a_settings, a_queuePc, a_queueNext, a_twoBit, a_jumpDelta, a_ePc, a_ePredicted, a_eState, a_eRemaining, a_eValue, a_eFault, a_eNext, a_eWait1, a_eVal1, a_eWait2, a_eVal2) v1 v2 v3 v4
          have g : wY_emit_69 post v1 v2 v3 v4 f_pc f_epc f_cause f_handling f_vector f_phase (nI len) f_fetchPc f_parked (nI qc) (nI 0) a_regs a_memory a_progOp a_progA a_progB a_progC a_counters a_settings a_queuePc a_queueNext a_twoBit a_jumpDelta a_ePc a_ePredicted a_eState a_eRemaining a_eValue a_eFault a_eNext a_eWait1 a_eVal1 a_eWait2 a_eVal2 := by
            refine br_t kl (And.intro hin ?_)
            rw [hcl]
            exact nm_e (And.intro hin (nm_e (And.intro hin (nm_e (And.intro hin (nm_e (nm_r (nI_1 len) G)))))))
          exact br_f hp (em_ok hok g)
      · have kl : ¬ nI len < 64 := nI_nlt (b := 64) (by omega) (by omega)
        refine ⟨(w, rs, len, qh, qc, h, 0, f_stations, f_queueSize, f_phase, f_pc, f_epc, f_cause, f_handling, f_vector, f_fetchPc, f_parked, f_waitingCount, f_memCount, a_regs, a_memory, a_progOp, a_progA, a_progB, a_progC, a_latency, a_counters, a_fqPc, a_fqNext, a_twoBit, a_jumpDelta, a_robPc, a_robPredicted, a_robState, a_robRemaining, a_robValue, a_robFault, a_robNext, a_robSrc1, a_robVal1, a_robSrc2, a_robVal2, a_robOp, a_robC, a_robDest, a_mapSlot, a_unitBusy, a_settings, a_queuePc, a_queueNext, a_ePc, a_ePredicted, a_eState, a_eRemaining, a_eValue, a_eFault, a_eNext, a_eWait1, a_eVal1, a_eWait2, a_eVal2), -3, ⟨H', hb, hpk, hpc⟩, fun post G => ?_, fun post G => ?_⟩
        · show wpX_emit post ((nI rs), f_stations, f_queueSize, (nI w), f_phase, f_pc, f_epc, f_cause, f_handling, f_vector, (nI len), f_fetchPc, f_parked, (nI qh), (nI qc), (nI h), (nI 0), f_waitingCount, f_memCount, a_regs, a_memory, a_progOp, a_progA, a_progB, a_progC, a_latency, a_counters, a_fqPc, a_fqNext, a_twoBit, a_jumpDelta, a_robPc, a_robPredicted, a_robState, a_robRemaining, a_robValue, a_robFault, a_robNext, a_robSrc1, a_robVal1, a_robSrc2, a_robVal2, a_robOp, a_robC, a_robDest, a_mapSlot, a_unitBusy) v1 v2 v3 v4
          have g : wX_emit_69 post v1 v2 v3 v4 (nI rs) f_stations f_queueSize (nI w) f_phase f_pc f_epc f_cause f_handling f_vector (nI len) f_fetchPc f_parked (nI qh) (nI qc) (nI h) (nI 0) f_waitingCount f_memCount a_regs a_memory a_progOp a_progA a_progB a_progC a_latency a_counters a_fqPc a_fqNext a_twoBit a_jumpDelta a_robPc a_robPredicted a_robState a_robRemaining a_robValue a_robFault a_robNext a_robSrc1 a_robVal1 a_robSrc2 a_robVal2 a_robOp a_robC a_robDest a_mapSlot a_unitBusy := br_f kl G
          exact br_f hp (em_ok hok g)
        · show wpY_emit post (f_pc, f_epc, f_cause, f_handling, f_vector, f_phase, (nI len), f_fetchPc, f_parked, (nI qc), (nI 0), a_regs, a_memory, a_progOp, a_progA, a_progB, a_progC, a_counters, a_settings, a_queuePc, a_queueNext, a_twoBit, a_jumpDelta, a_ePc, a_ePredicted, a_eState, a_eRemaining, a_eValue, a_eFault, a_eNext, a_eWait1, a_eVal1, a_eWait2, a_eVal2) v1 v2 v3 v4
          have g : wY_emit_69 post v1 v2 v3 v4 f_pc f_epc f_cause f_handling f_vector f_phase (nI len) f_fetchPc f_parked (nI qc) (nI 0) a_regs a_memory a_progOp a_progA a_progB a_progC a_counters a_settings a_queuePc a_queueNext a_twoBit a_jumpDelta a_ePc a_ePredicted a_eState a_eRemaining a_eValue a_eFault a_eNext a_eWait1 a_eVal1 a_eWait2 a_eVal2 := br_f kl G
          exact br_f hp (em_ok hok g)
    · refine ⟨(w, rs, len, qh, qc, h, c, f_stations, f_queueSize, f_phase, f_pc, f_epc, f_cause, f_handling, f_vector, f_fetchPc, f_parked, f_waitingCount, f_memCount, a_regs, a_memory, a_progOp, a_progA, a_progB, a_progC, a_latency, a_counters, a_fqPc, a_fqNext, a_twoBit, a_jumpDelta, a_robPc, a_robPredicted, a_robState, a_robRemaining, a_robValue, a_robFault, a_robNext, a_robSrc1, a_robVal1, a_robSrc2, a_robVal2, a_robOp, a_robC, a_robDest, a_mapSlot, a_unitBusy, a_settings, a_queuePc, a_queueNext, a_ePc, a_ePredicted, a_eState, a_eRemaining, a_eValue, a_eFault, a_eNext, a_eWait1, a_eVal1, a_eWait2, a_eVal2), -2, HF, fun post G => ?_, fun post G => ?_⟩
      · show wpX_emit post ((nI rs), f_stations, f_queueSize, (nI w), f_phase, f_pc, f_epc, f_cause, f_handling, f_vector, (nI len), f_fetchPc, f_parked, (nI qh), (nI qc), (nI h), (nI c), f_waitingCount, f_memCount, a_regs, a_memory, a_progOp, a_progA, a_progB, a_progC, a_latency, a_counters, a_fqPc, a_fqNext, a_twoBit, a_jumpDelta, a_robPc, a_robPredicted, a_robState, a_robRemaining, a_robValue, a_robFault, a_robNext, a_robSrc1, a_robVal1, a_robSrc2, a_robVal2, a_robOp, a_robC, a_robDest, a_mapSlot, a_unitBusy) v1 v2 v3 v4
        exact br_f hp (em_no hok G)
      · show wpY_emit post (f_pc, f_epc, f_cause, f_handling, f_vector, f_phase, (nI len), f_fetchPc, f_parked, (nI qc), (nI c), a_regs, a_memory, a_progOp, a_progA, a_progB, a_progC, a_counters, a_settings, a_queuePc, a_queueNext, a_twoBit, a_jumpDelta, a_ePc, a_ePredicted, a_eState, a_eRemaining, a_eValue, a_eFault, a_eNext, a_eWait1, a_eVal1, a_eWait2, a_eVal2) v1 v2 v3 v4
        exact br_f hp (em_no hok G)
theorem pg_0 {len : Nat} {po pa pb pc : Nat → Int32} (P : rc_Pg len po pa pb pc) : rc_Pg 0 po pa pb pc := ⟨by omega, P.2⟩
theorem j_m_clearProgram : ∀ z, rc_FZ z → rc_ME wpX_clearProgram wpY_clearProgram z := by
  refine rc_el ?_
  intro w rs len qh qc h c f_stations f_queueSize f_phase f_pc f_epc f_cause f_handling f_vector f_fetchPc f_parked f_waitingCount f_memCount a_regs a_memory a_progOp a_progA a_progB a_progC a_latency a_counters a_fqPc a_fqNext a_twoBit a_jumpDelta a_robPc a_robPredicted a_robState a_robRemaining a_robValue a_robFault a_robNext a_robSrc1 a_robVal1 a_robSrc2 a_robVal2 a_robOp a_robC a_robDest a_mapSlot a_unitBusy a_settings a_queuePc a_queueNext a_ePc a_ePredicted a_eState a_eRemaining a_eValue a_eFault a_eNext a_eWait1 a_eVal1 a_eWait2 a_eVal2 HF
  by_cases hp : f_phase = 1
  · refine ⟨(w, rs, len, qh, qc, h, c, f_stations, f_queueSize, f_phase, f_pc, f_epc, f_cause, f_handling, f_vector, f_fetchPc, f_parked, f_waitingCount, f_memCount, a_regs, a_memory, a_progOp, a_progA, a_progB, a_progC, a_latency, a_counters, a_fqPc, a_fqNext, a_twoBit, a_jumpDelta, a_robPc, a_robPredicted, a_robState, a_robRemaining, a_robValue, a_robFault, a_robNext, a_robSrc1, a_robVal1, a_robSrc2, a_robVal2, a_robOp, a_robC, a_robDest, a_mapSlot, a_unitBusy, a_settings, a_queuePc, a_queueNext, a_ePc, a_ePredicted, a_eState, a_eRemaining, a_eValue, a_eFault, a_eNext, a_eWait1, a_eVal1, a_eWait2, a_eVal2), -1, HF, fun post G => ?_, fun post G => ?_⟩
    · show wpX_clearProgram post ((nI rs), f_stations, f_queueSize, (nI w), f_phase, f_pc, f_epc, f_cause, f_handling, f_vector, (nI len), f_fetchPc, f_parked, (nI qh), (nI qc), (nI h), (nI c), f_waitingCount, f_memCount, a_regs, a_memory, a_progOp, a_progA, a_progB, a_progC, a_latency, a_counters, a_fqPc, a_fqNext, a_twoBit, a_jumpDelta, a_robPc, a_robPredicted, a_robState, a_robRemaining, a_robValue, a_robFault, a_robNext, a_robSrc1, a_robVal1, a_robSrc2, a_robVal2, a_robOp, a_robC, a_robDest, a_mapSlot, a_unitBusy)
      exact br_t hp G
    · show wpY_clearProgram post (f_pc, f_epc, f_cause, f_handling, f_vector, f_phase, (nI len), f_fetchPc, f_parked, (nI qc), (nI c), a_regs, a_memory, a_progOp, a_progA, a_progB, a_progC, a_counters, a_settings, a_queuePc, a_queueNext, a_twoBit, a_jumpDelta, a_ePc, a_ePredicted, a_eState, a_eRemaining, a_eValue, a_eFault, a_eNext, a_eWait1, a_eVal1, a_eWait2, a_eVal2)
      exact br_t hp G
  · obtain ⟨H, hb, hpk, hpc⟩ := HF
    have hc : c = 0 := hpc.elim (fun q => absurd q hp) id
    subst hc
    have H' : rc_F0 w rs len qh qc h 0 f_stations f_queueSize f_waitingCount f_memCount a_latency a_settings a_progOp a_progA a_progB a_progC a_fqPc a_fqNext a_queuePc a_queueNext a_robPc a_robPredicted a_robState a_robRemaining a_robValue a_robFault a_robNext a_robSrc1 a_robVal1 a_robSrc2 a_robVal2 a_robOp a_robC a_robDest a_ePc a_ePredicted a_eState a_eRemaining a_eValue a_eFault a_eNext a_eWait1 a_eVal1 a_eWait2 a_eVal2 a_mapSlot a_unitBusy := H
    refine ⟨(w, rs, 0, qh, qc, h, 0, f_stations, f_queueSize, f_phase, f_pc, f_epc, f_cause, f_handling, f_vector, f_fetchPc, f_parked, f_waitingCount, f_memCount, a_regs, a_memory, a_progOp, a_progA, a_progB, a_progC, a_latency, a_counters, a_fqPc, a_fqNext, a_twoBit, a_jumpDelta, a_robPc, a_robPredicted, a_robState, a_robRemaining, a_robValue, a_robFault, a_robNext, a_robSrc1, a_robVal1, a_robSrc2, a_robVal2, a_robOp, a_robC, a_robDest, a_mapSlot, a_unitBusy, a_settings, a_queuePc, a_queueNext, a_ePc, a_ePredicted, a_eState, a_eRemaining, a_eValue, a_eFault, a_eNext, a_eWait1, a_eVal1, a_eWait2, a_eVal2), 0, ⟨f0_prog H' (pg_0 H'.2.1), hb, hpk, Or.inr rfl⟩, fun post G => ?_, fun post G => ?_⟩
    · show wpX_clearProgram post ((nI rs), f_stations, f_queueSize, (nI w), f_phase, f_pc, f_epc, f_cause, f_handling, f_vector, (nI len), f_fetchPc, f_parked, (nI qh), (nI qc), (nI h), (nI 0), f_waitingCount, f_memCount, a_regs, a_memory, a_progOp, a_progA, a_progB, a_progC, a_latency, a_counters, a_fqPc, a_fqNext, a_twoBit, a_jumpDelta, a_robPc, a_robPredicted, a_robState, a_robRemaining, a_robValue, a_robFault, a_robNext, a_robSrc1, a_robVal1, a_robSrc2, a_robVal2, a_robOp, a_robC, a_robDest, a_mapSlot, a_unitBusy)
      exact br_f hp G
    · show wpY_clearProgram post (f_pc, f_epc, f_cause, f_handling, f_vector, f_phase, (nI len), f_fetchPc, f_parked, (nI qc), (nI 0), a_regs, a_memory, a_progOp, a_progA, a_progB, a_progC, a_counters, a_settings, a_queuePc, a_queueNext, a_twoBit, a_jumpDelta, a_ePc, a_ePredicted, a_eState, a_eRemaining, a_eValue, a_eFault, a_eNext, a_eWait1, a_eVal1, a_eWait2, a_eVal2)
      exact br_f hp G
theorem j_m_setReg (v1 v2 : Int32) : ∀ z, rc_FZ z → rc_ME (fun post u => wpX_setReg post u v1 v2) (fun post v => wpY_setReg post v v1 v2) z := by
  refine rc_el ?_
  intro w rs len qh qc h c f_stations f_queueSize f_phase f_pc f_epc f_cause f_handling f_vector f_fetchPc f_parked f_waitingCount f_memCount a_regs a_memory a_progOp a_progA a_progB a_progC a_latency a_counters a_fqPc a_fqNext a_twoBit a_jumpDelta a_robPc a_robPredicted a_robState a_robRemaining a_robValue a_robFault a_robNext a_robSrc1 a_robVal1 a_robSrc2 a_robVal2 a_robOp a_robC a_robDest a_mapSlot a_unitBusy a_settings a_queuePc a_queueNext a_ePc a_ePredicted a_eState a_eRemaining a_eValue a_eFault a_eNext a_eWait1 a_eVal1 a_eWait2 a_eVal2 HF
  by_cases hp : f_phase = 1
  · refine ⟨(w, rs, len, qh, qc, h, c, f_stations, f_queueSize, f_phase, f_pc, f_epc, f_cause, f_handling, f_vector, f_fetchPc, f_parked, f_waitingCount, f_memCount, a_regs, a_memory, a_progOp, a_progA, a_progB, a_progC, a_latency, a_counters, a_fqPc, a_fqNext, a_twoBit, a_jumpDelta, a_robPc, a_robPredicted, a_robState, a_robRemaining, a_robValue, a_robFault, a_robNext, a_robSrc1, a_robVal1, a_robSrc2, a_robVal2, a_robOp, a_robC, a_robDest, a_mapSlot, a_unitBusy, a_settings, a_queuePc, a_queueNext, a_ePc, a_ePredicted, a_eState, a_eRemaining, a_eValue, a_eFault, a_eNext, a_eWait1, a_eVal1, a_eWait2, a_eVal2), -1, HF, fun post G => ?_, fun post G => ?_⟩
    · show wpX_setReg post ((nI rs), f_stations, f_queueSize, (nI w), f_phase, f_pc, f_epc, f_cause, f_handling, f_vector, (nI len), f_fetchPc, f_parked, (nI qh), (nI qc), (nI h), (nI c), f_waitingCount, f_memCount, a_regs, a_memory, a_progOp, a_progA, a_progB, a_progC, a_latency, a_counters, a_fqPc, a_fqNext, a_twoBit, a_jumpDelta, a_robPc, a_robPredicted, a_robState, a_robRemaining, a_robValue, a_robFault, a_robNext, a_robSrc1, a_robVal1, a_robSrc2, a_robVal2, a_robOp, a_robC, a_robDest, a_mapSlot, a_unitBusy) v1 v2
      exact br_t hp G
    · show wpY_setReg post (f_pc, f_epc, f_cause, f_handling, f_vector, f_phase, (nI len), f_fetchPc, f_parked, (nI qc), (nI c), a_regs, a_memory, a_progOp, a_progA, a_progB, a_progC, a_counters, a_settings, a_queuePc, a_queueNext, a_twoBit, a_jumpDelta, a_ePc, a_ePredicted, a_eState, a_eRemaining, a_eValue, a_eFault, a_eNext, a_eWait1, a_eVal1, a_eWait2, a_eVal2) v1 v2
      exact br_t hp G
  · by_cases h0 : v1 < 0
    · refine ⟨(w, rs, len, qh, qc, h, c, f_stations, f_queueSize, f_phase, f_pc, f_epc, f_cause, f_handling, f_vector, f_fetchPc, f_parked, f_waitingCount, f_memCount, a_regs, a_memory, a_progOp, a_progA, a_progB, a_progC, a_latency, a_counters, a_fqPc, a_fqNext, a_twoBit, a_jumpDelta, a_robPc, a_robPredicted, a_robState, a_robRemaining, a_robValue, a_robFault, a_robNext, a_robSrc1, a_robVal1, a_robSrc2, a_robVal2, a_robOp, a_robC, a_robDest, a_mapSlot, a_unitBusy, a_settings, a_queuePc, a_queueNext, a_ePc, a_ePredicted, a_eState, a_eRemaining, a_eValue, a_eFault, a_eNext, a_eWait1, a_eVal1, a_eWait2, a_eVal2), -2, HF, fun post G => ?_, fun post G => ?_⟩
      · show wpX_setReg post ((nI rs), f_stations, f_queueSize, (nI w), f_phase, f_pc, f_epc, f_cause, f_handling, f_vector, (nI len), f_fetchPc, f_parked, (nI qh), (nI qc), (nI h), (nI c), f_waitingCount, f_memCount, a_regs, a_memory, a_progOp, a_progA, a_progB, a_progC, a_latency, a_counters, a_fqPc, a_fqNext, a_twoBit, a_jumpDelta, a_robPc, a_robPredicted, a_robState, a_robRemaining, a_robValue, a_robFault, a_robNext, a_robSrc1, a_robVal1, a_robSrc2, a_robVal2, a_robOp, a_robC, a_robDest, a_mapSlot, a_unitBusy) v1 v2
        exact br_f hp (br_t h0 G)
      · show wpY_setReg post (f_pc, f_epc, f_cause, f_handling, f_vector, f_phase, (nI len), f_fetchPc, f_parked, (nI qc), (nI c), a_regs, a_memory, a_progOp, a_progA, a_progB, a_progC, a_counters, a_settings, a_queuePc, a_queueNext, a_twoBit, a_jumpDelta, a_ePc, a_ePredicted, a_eState, a_eRemaining, a_eValue, a_eFault, a_eNext, a_eWait1, a_eVal1, a_eWait2, a_eVal2) v1 v2
        exact br_f hp (br_t h0 G)
    · by_cases h1 : v1 ≤ 7
      · have hin : vp_in v1 8 := in_le (M := 7) (n := 7) (by decide) (by decide) h0 h1
        obtain ⟨H, hb, hpk, hpc⟩ := HF
        refine ⟨(w, rs, len, qh, qc, h, c, f_stations, f_queueSize, f_phase, f_pc, f_epc, f_cause, f_handling, f_vector, f_fetchPc, f_parked, f_waitingCount, f_memCount, (upd a_regs v1.toNatClampNeg v2), a_memory, a_progOp, a_progA, a_progB, a_progC, a_latency, a_counters, a_fqPc, a_fqNext, a_twoBit, a_jumpDelta, a_robPc, a_robPredicted, a_robState, a_robRemaining, a_robValue, a_robFault, a_robNext, a_robSrc1, a_robVal1, a_robSrc2, a_robVal2, a_robOp, a_robC, a_robDest, a_mapSlot, a_unitBusy, a_settings, a_queuePc, a_queueNext, a_ePc, a_ePredicted, a_eState, a_eRemaining, a_eValue, a_eFault, a_eNext, a_eWait1, a_eVal1, a_eWait2, a_eVal2), 0, ⟨H, hb, hpk, hpc⟩, fun post G => ?_, fun post G => ?_⟩
        · show wpX_setReg post ((nI rs), f_stations, f_queueSize, (nI w), f_phase, f_pc, f_epc, f_cause, f_handling, f_vector, (nI len), f_fetchPc, f_parked, (nI qh), (nI qc), (nI h), (nI c), f_waitingCount, f_memCount, a_regs, a_memory, a_progOp, a_progA, a_progB, a_progC, a_latency, a_counters, a_fqPc, a_fqNext, a_twoBit, a_jumpDelta, a_robPc, a_robPredicted, a_robState, a_robRemaining, a_robValue, a_robFault, a_robNext, a_robSrc1, a_robVal1, a_robSrc2, a_robVal2, a_robOp, a_robC, a_robDest, a_mapSlot, a_unitBusy) v1 v2
          exact br_f hp (br_f h0 (br_t h1 (And.intro hin (nm_e G))))
        · show wpY_setReg post (f_pc, f_epc, f_cause, f_handling, f_vector, f_phase, (nI len), f_fetchPc, f_parked, (nI qc), (nI c), a_regs, a_memory, a_progOp, a_progA, a_progB, a_progC, a_counters, a_settings, a_queuePc, a_queueNext, a_twoBit, a_jumpDelta, a_ePc, a_ePredicted, a_eState, a_eRemaining, a_eValue, a_eFault, a_eNext, a_eWait1, a_eVal1, a_eWait2, a_eVal2) v1 v2
          exact br_f hp (br_f h0 (br_t h1 (And.intro hin (nm_e G))))
      · refine ⟨(w, rs, len, qh, qc, h, c, f_stations, f_queueSize, f_phase, f_pc, f_epc, f_cause, f_handling, f_vector, f_fetchPc, f_parked, f_waitingCount, f_memCount, a_regs, a_memory, a_progOp, a_progA, a_progB, a_progC, a_latency, a_counters, a_fqPc, a_fqNext, a_twoBit, a_jumpDelta, a_robPc, a_robPredicted, a_robState, a_robRemaining, a_robValue, a_robFault, a_robNext, a_robSrc1, a_robVal1, a_robSrc2, a_robVal2, a_robOp, a_robC, a_robDest, a_mapSlot, a_unitBusy, a_settings, a_queuePc, a_queueNext, a_ePc, a_ePredicted, a_eState, a_eRemaining, a_eValue, a_eFault, a_eNext, a_eWait1, a_eVal1, a_eWait2, a_eVal2), -2, HF, fun post G => ?_, fun post G => ?_⟩
        · show wpX_setReg post ((nI rs), f_stations, f_queueSize, (nI w), f_phase, f_pc, f_epc, f_cause, f_handling, f_vector, (nI len), f_fetchPc, f_parked, (nI qh), (nI qc), (nI h), (nI c), f_waitingCount, f_memCount, a_regs, a_memory, a_progOp, a_progA, a_progB, a_progC, a_latency, a_counters, a_fqPc, a_fqNext, a_twoBit, a_jumpDelta, a_robPc, a_robPredicted, a_robState, a_robRemaining, a_robValue, a_robFault, a_robNext, a_robSrc1, a_robVal1, a_robSrc2, a_robVal2, a_robOp, a_robC, a_robDest, a_mapSlot, a_unitBusy) v1 v2
          exact br_f hp (br_f h0 (br_f h1 G))
        · show wpY_setReg post (f_pc, f_epc, f_cause, f_handling, f_vector, f_phase, (nI len), f_fetchPc, f_parked, (nI qc), (nI c), a_regs, a_memory, a_progOp, a_progA, a_progB, a_progC, a_counters, a_settings, a_queuePc, a_queueNext, a_twoBit, a_jumpDelta, a_ePc, a_ePredicted, a_eState, a_eRemaining, a_eValue, a_eFault, a_eNext, a_eWait1, a_eVal1, a_eWait2, a_eVal2) v1 v2
          exact br_f hp (br_f h0 (br_f h1 G))
theorem j_m_setMem (v1 v2 : Int32) : ∀ z, rc_FZ z → rc_ME (fun post u => wpX_setMem post u v1 v2) (fun post v => wpY_setMem post v v1 v2) z := by
  refine rc_el ?_
  intro w rs len qh qc h c f_stations f_queueSize f_phase f_pc f_epc f_cause f_handling f_vector f_fetchPc f_parked f_waitingCount f_memCount a_regs a_memory a_progOp a_progA a_progB a_progC a_latency a_counters a_fqPc a_fqNext a_twoBit a_jumpDelta a_robPc a_robPredicted a_robState a_robRemaining a_robValue a_robFault a_robNext a_robSrc1 a_robVal1 a_robSrc2 a_robVal2 a_robOp a_robC a_robDest a_mapSlot a_unitBusy a_settings a_queuePc a_queueNext a_ePc a_ePredicted a_eState a_eRemaining a_eValue a_eFault a_eNext a_eWait1 a_eVal1 a_eWait2 a_eVal2 HF
  by_cases hp : f_phase = 1
  · refine ⟨(w, rs, len, qh, qc, h, c, f_stations, f_queueSize, f_phase, f_pc, f_epc, f_cause, f_handling, f_vector, f_fetchPc, f_parked, f_waitingCount, f_memCount, a_regs, a_memory, a_progOp, a_progA, a_progB, a_progC, a_latency, a_counters, a_fqPc, a_fqNext, a_twoBit, a_jumpDelta, a_robPc, a_robPredicted, a_robState, a_robRemaining, a_robValue, a_robFault, a_robNext, a_robSrc1, a_robVal1, a_robSrc2, a_robVal2, a_robOp, a_robC, a_robDest, a_mapSlot, a_unitBusy, a_settings, a_queuePc, a_queueNext, a_ePc, a_ePredicted, a_eState, a_eRemaining, a_eValue, a_eFault, a_eNext, a_eWait1, a_eVal1, a_eWait2, a_eVal2), -1, HF, fun post G => ?_, fun post G => ?_⟩
    · show wpX_setMem post ((nI rs), f_stations, f_queueSize, (nI w), f_phase, f_pc, f_epc, f_cause, f_handling, f_vector, (nI len), f_fetchPc, f_parked, (nI qh), (nI qc), (nI h), (nI c), f_waitingCount, f_memCount, a_regs, a_memory, a_progOp, a_progA, a_progB, a_progC, a_latency, a_counters, a_fqPc, a_fqNext, a_twoBit, a_jumpDelta, a_robPc, a_robPredicted, a_robState, a_robRemaining, a_robValue, a_robFault, a_robNext, a_robSrc1, a_robVal1, a_robSrc2, a_robVal2, a_robOp, a_robC, a_robDest, a_mapSlot, a_unitBusy) v1 v2
      exact br_t hp G
    · show wpY_setMem post (f_pc, f_epc, f_cause, f_handling, f_vector, f_phase, (nI len), f_fetchPc, f_parked, (nI qc), (nI c), a_regs, a_memory, a_progOp, a_progA, a_progB, a_progC, a_counters, a_settings, a_queuePc, a_queueNext, a_twoBit, a_jumpDelta, a_ePc, a_ePredicted, a_eState, a_eRemaining, a_eValue, a_eFault, a_eNext, a_eWait1, a_eVal1, a_eWait2, a_eVal2) v1 v2
      exact br_t hp G
  · by_cases h0 : v1 < 0
    · refine ⟨(w, rs, len, qh, qc, h, c, f_stations, f_queueSize, f_phase, f_pc, f_epc, f_cause, f_handling, f_vector, f_fetchPc, f_parked, f_waitingCount, f_memCount, a_regs, a_memory, a_progOp, a_progA, a_progB, a_progC, a_latency, a_counters, a_fqPc, a_fqNext, a_twoBit, a_jumpDelta, a_robPc, a_robPredicted, a_robState, a_robRemaining, a_robValue, a_robFault, a_robNext, a_robSrc1, a_robVal1, a_robSrc2, a_robVal2, a_robOp, a_robC, a_robDest, a_mapSlot, a_unitBusy, a_settings, a_queuePc, a_queueNext, a_ePc, a_ePredicted, a_eState, a_eRemaining, a_eValue, a_eFault, a_eNext, a_eWait1, a_eVal1, a_eWait2, a_eVal2), -2, HF, fun post G => ?_, fun post G => ?_⟩
      · show wpX_setMem post ((nI rs), f_stations, f_queueSize, (nI w), f_phase, f_pc, f_epc, f_cause, f_handling, f_vector, (nI len), f_fetchPc, f_parked, (nI qh), (nI qc), (nI h), (nI c), f_waitingCount, f_memCount, a_regs, a_memory, a_progOp, a_progA, a_progB, a_progC, a_latency, a_counters, a_fqPc, a_fqNext, a_twoBit, a_jumpDelta, a_robPc, a_robPredicted, a_robState, a_robRemaining, a_robValue, a_robFault, a_robNext, a_robSrc1, a_robVal1, a_robSrc2, a_robVal2, a_robOp, a_robC, a_robDest, a_mapSlot, a_unitBusy) v1 v2
        exact br_f hp (br_t h0 G)
      · show wpY_setMem post (f_pc, f_epc, f_cause, f_handling, f_vector, f_phase, (nI len), f_fetchPc, f_parked, (nI qc), (nI c), a_regs, a_memory, a_progOp, a_progA, a_progB, a_progC, a_counters, a_settings, a_queuePc, a_queueNext, a_twoBit, a_jumpDelta, a_ePc, a_ePredicted, a_eState, a_eRemaining, a_eValue, a_eFault, a_eNext, a_eWait1, a_eVal1, a_eWait2, a_eVal2) v1 v2
        exact br_f hp (br_t h0 G)
    · by_cases h1 : v1 ≤ 63
      · have hin : vp_in v1 64 := in_le (M := 63) (n := 63) (by decide) (by decide) h0 h1
        obtain ⟨H, hb, hpk, hpc⟩ := HF
        refine ⟨(w, rs, len, qh, qc, h, c, f_stations, f_queueSize, f_phase, f_pc, f_epc, f_cause, f_handling, f_vector, f_fetchPc, f_parked, f_waitingCount, f_memCount, a_regs, (upd a_memory v1.toNatClampNeg v2), a_progOp, a_progA, a_progB, a_progC, a_latency, a_counters, a_fqPc, a_fqNext, a_twoBit, a_jumpDelta, a_robPc, a_robPredicted, a_robState, a_robRemaining, a_robValue, a_robFault, a_robNext, a_robSrc1, a_robVal1, a_robSrc2, a_robVal2, a_robOp, a_robC, a_robDest, a_mapSlot, a_unitBusy, a_settings, a_queuePc, a_queueNext, a_ePc, a_ePredicted, a_eState, a_eRemaining, a_eValue, a_eFault, a_eNext, a_eWait1, a_eVal1, a_eWait2, a_eVal2), 0, ⟨H, hb, hpk, hpc⟩, fun post G => ?_, fun post G => ?_⟩
        · show wpX_setMem post ((nI rs), f_stations, f_queueSize, (nI w), f_phase, f_pc, f_epc, f_cause, f_handling, f_vector, (nI len), f_fetchPc, f_parked, (nI qh), (nI qc), (nI h), (nI c), f_waitingCount, f_memCount, a_regs, a_memory, a_progOp, a_progA, a_progB, a_progC, a_latency, a_counters, a_fqPc, a_fqNext, a_twoBit, a_jumpDelta, a_robPc, a_robPredicted, a_robState, a_robRemaining, a_robValue, a_robFault, a_robNext, a_robSrc1, a_robVal1, a_robSrc2, a_robVal2, a_robOp, a_robC, a_robDest, a_mapSlot, a_unitBusy) v1 v2
          exact br_f hp (br_f h0 (br_t h1 (And.intro hin (nm_e G))))
        · show wpY_setMem post (f_pc, f_epc, f_cause, f_handling, f_vector, f_phase, (nI len), f_fetchPc, f_parked, (nI qc), (nI c), a_regs, a_memory, a_progOp, a_progA, a_progB, a_progC, a_counters, a_settings, a_queuePc, a_queueNext, a_twoBit, a_jumpDelta, a_ePc, a_ePredicted, a_eState, a_eRemaining, a_eValue, a_eFault, a_eNext, a_eWait1, a_eVal1, a_eWait2, a_eVal2) v1 v2
          exact br_f hp (br_f h0 (br_t h1 (And.intro hin (nm_e G))))
      · refine ⟨(w, rs, len, qh, qc, h, c, f_stations, f_queueSize, f_phase, f_pc, f_epc, f_cause, f_handling, f_vector, f_fetchPc, f_parked, f_waitingCount, f_memCount, a_regs, a_memory, a_progOp, a_progA, a_progB, a_progC, a_latency, a_counters, a_fqPc, a_fqNext, a_twoBit, a_jumpDelta, a_robPc, a_robPredicted, a_robState, a_robRemaining, a_robValue, a_robFault, a_robNext, a_robSrc1, a_robVal1, a_robSrc2, a_robVal2, a_robOp, a_robC, a_robDest, a_mapSlot, a_unitBusy, a_settings, a_queuePc, a_queueNext, a_ePc, a_ePredicted, a_eState, a_eRemaining, a_eValue, a_eFault, a_eNext, a_eWait1, a_eVal1, a_eWait2, a_eVal2), -2, HF, fun post G => ?_, fun post G => ?_⟩
        · show wpX_setMem post ((nI rs), f_stations, f_queueSize, (nI w), f_phase, f_pc, f_epc, f_cause, f_handling, f_vector, (nI len), f_fetchPc, f_parked, (nI qh), (nI qc), (nI h), (nI c), f_waitingCount, f_memCount, a_regs, a_memory, a_progOp, a_progA, a_progB, a_progC, a_latency, a_counters, a_fqPc, a_fqNext, a_twoBit, a_jumpDelta, a_robPc, a_robPredicted, a_robState, a_robRemaining, a_robValue, a_robFault, a_robNext, a_robSrc1, a_robVal1, a_robSrc2, a_robVal2, a_robOp, a_robC, a_robDest, a_mapSlot, a_unitBusy) v1 v2
          exact br_f hp (br_f h0 (br_f h1 G))
        · show wpY_setMem post (f_pc, f_epc, f_cause, f_handling, f_vector, f_phase, (nI len), f_fetchPc, f_parked, (nI qc), (nI c), a_regs, a_memory, a_progOp, a_progA, a_progB, a_progC, a_counters, a_settings, a_queuePc, a_queueNext, a_twoBit, a_jumpDelta, a_ePc, a_ePredicted, a_eState, a_eRemaining, a_eValue, a_eFault, a_eNext, a_eWait1, a_eVal1, a_eWait2, a_eVal2) v1 v2
          exact br_f hp (br_f h0 (br_f h1 G))
section
variable {w rs len qh qc h c : Nat} {f_stations f_queueSize f_phase f_pc f_epc f_cause f_handling f_vector f_fetchPc f_parked f_waitingCount f_memCount : Int32} {a_regs a_memory a_progOp a_progA a_progB a_progC a_latency a_counters a_fqPc a_fqNext a_twoBit a_jumpDelta a_robPc a_robPredicted a_robState a_robRemaining a_robValue a_robFault a_robNext a_robSrc1 a_robVal1 a_robSrc2 a_robVal2 a_robOp a_robC a_robDest a_mapSlot a_unitBusy a_settings a_queuePc a_queueNext a_ePc a_ePredicted a_eState a_eRemaining a_eValue a_eFault a_eNext a_eWait1 a_eVal1 a_eWait2 a_eVal2 : Nat → Int32}
theorem f0_lat {j : Nat} {v : Int32} (H : rc_F0 w rs len qh qc h c f_stations f_queueSize f_waitingCount f_memCount a_latency a_settings a_progOp a_progA a_progB a_progC a_fqPc a_fqNext a_queuePc a_queueNext a_robPc a_robPredicted a_robState a_robRemaining a_robValue a_robFault a_robNext a_robSrc1 a_robVal1 a_robSrc2 a_robVal2 a_robOp a_robC a_robDest a_ePc a_ePredicted a_eState a_eRemaining a_eValue a_eFault a_eNext a_eWait1 a_eVal1 a_eWait2 a_eVal2 a_mapSlot a_unitBusy) (hj : j < 7) : rc_F0 w rs len qh qc h c f_stations f_queueSize f_waitingCount f_memCount (upd a_latency j v) (upd a_settings j v) a_progOp a_progA a_progB a_progC a_fqPc a_fqNext a_queuePc a_queueNext a_robPc a_robPredicted a_robState a_robRemaining a_robValue a_robFault a_robNext a_robSrc1 a_robVal1 a_robSrc2 a_robVal2 a_robOp a_robC a_robDest a_ePc a_ePredicted a_eState a_eRemaining a_eValue a_eFault a_eNext a_eWait1 a_eVal1 a_eWait2 a_eVal2 a_mapSlot a_unitBusy := by
  obtain ⟨⟨hw1, hw3, hrs, hs7, hs8, hs9, hs10, hset⟩, hR⟩ := H
  unfold rc_F0 rc_Sz
  refine ⟨⟨hw1, hw3, hrs, ?_, ?_, ?_, ?_, fun i hi => ?_⟩, hR⟩
  · rw [pk_un (by omega)]; exact hs7
  · rw [pk_un (by omega)]; exact hs8
  · rw [pk_un (by omega)]; exact hs9
  · rw [pk_un (by omega)]; exact hs10
  · by_cases q : i = j
    · rw [q, pk_us, pk_us]
    · rw [pk_un q, pk_un q]
      exact hset i hi
end
theorem j_m_setLatency (v1 v2 : Int32) : ∀ z, rc_FZ z → rc_ME (fun post u => wpX_setLatency post u v1 v2) (fun post v => wpY_setLatency post v v1 v2) z := by
  refine rc_el ?_
  intro w rs len qh qc h c f_stations f_queueSize f_phase f_pc f_epc f_cause f_handling f_vector f_fetchPc f_parked f_waitingCount f_memCount a_regs a_memory a_progOp a_progA a_progB a_progC a_latency a_counters a_fqPc a_fqNext a_twoBit a_jumpDelta a_robPc a_robPredicted a_robState a_robRemaining a_robValue a_robFault a_robNext a_robSrc1 a_robVal1 a_robSrc2 a_robVal2 a_robOp a_robC a_robDest a_mapSlot a_unitBusy a_settings a_queuePc a_queueNext a_ePc a_ePredicted a_eState a_eRemaining a_eValue a_eFault a_eNext a_eWait1 a_eVal1 a_eWait2 a_eVal2 HF
  by_cases h0 : v1 < 0
  · refine ⟨(w, rs, len, qh, qc, h, c, f_stations, f_queueSize, f_phase, f_pc, f_epc, f_cause, f_handling, f_vector, f_fetchPc, f_parked, f_waitingCount, f_memCount, a_regs, a_memory, a_progOp, a_progA, a_progB, a_progC, a_latency, a_counters, a_fqPc, a_fqNext, a_twoBit, a_jumpDelta, a_robPc, a_robPredicted, a_robState, a_robRemaining, a_robValue, a_robFault, a_robNext, a_robSrc1, a_robVal1, a_robSrc2, a_robVal2, a_robOp, a_robC, a_robDest, a_mapSlot, a_unitBusy, a_settings, a_queuePc, a_queueNext, a_ePc, a_ePredicted, a_eState, a_eRemaining, a_eValue, a_eFault, a_eNext, a_eWait1, a_eVal1, a_eWait2, a_eVal2), -2, HF, fun post G => ?_, fun post G => ?_⟩
    · show wpX_setLatency post ((nI rs), f_stations, f_queueSize, (nI w), f_phase, f_pc, f_epc, f_cause, f_handling, f_vector, (nI len), f_fetchPc, f_parked, (nI qh), (nI qc), (nI h), (nI c), f_waitingCount, f_memCount, a_regs, a_memory, a_progOp, a_progA, a_progB, a_progC, a_latency, a_counters, a_fqPc, a_fqNext, a_twoBit, a_jumpDelta, a_robPc, a_robPredicted, a_robState, a_robRemaining, a_robValue, a_robFault, a_robNext, a_robSrc1, a_robVal1, a_robSrc2, a_robVal2, a_robOp, a_robC, a_robDest, a_mapSlot, a_unitBusy) v1 v2
      exact br_t h0 G
    · show wpY_setLatency post (f_pc, f_epc, f_cause, f_handling, f_vector, f_phase, (nI len), f_fetchPc, f_parked, (nI qc), (nI c), a_regs, a_memory, a_progOp, a_progA, a_progB, a_progC, a_counters, a_settings, a_queuePc, a_queueNext, a_twoBit, a_jumpDelta, a_ePc, a_ePredicted, a_eState, a_eRemaining, a_eValue, a_eFault, a_eNext, a_eWait1, a_eVal1, a_eWait2, a_eVal2) v1 v2
      exact br_t h0 G
  · by_cases h6 : 6 < v1
    · refine ⟨(w, rs, len, qh, qc, h, c, f_stations, f_queueSize, f_phase, f_pc, f_epc, f_cause, f_handling, f_vector, f_fetchPc, f_parked, f_waitingCount, f_memCount, a_regs, a_memory, a_progOp, a_progA, a_progB, a_progC, a_latency, a_counters, a_fqPc, a_fqNext, a_twoBit, a_jumpDelta, a_robPc, a_robPredicted, a_robState, a_robRemaining, a_robValue, a_robFault, a_robNext, a_robSrc1, a_robVal1, a_robSrc2, a_robVal2, a_robOp, a_robC, a_robDest, a_mapSlot, a_unitBusy, a_settings, a_queuePc, a_queueNext, a_ePc, a_ePredicted, a_eState, a_eRemaining, a_eValue, a_eFault, a_eNext, a_eWait1, a_eVal1, a_eWait2, a_eVal2), -2, HF, fun post G => ?_, fun post G => ?_⟩
      · show wpX_setLatency post ((nI rs), f_stations, f_queueSize, (nI w), f_phase, f_pc, f_epc, f_cause, f_handling, f_vector, (nI len), f_fetchPc, f_parked, (nI qh), (nI qc), (nI h), (nI c), f_waitingCount, f_memCount, a_regs, a_memory, a_progOp, a_progA, a_progB, a_progC, a_latency, a_counters, a_fqPc, a_fqNext, a_twoBit, a_jumpDelta, a_robPc, a_robPredicted, a_robState, a_robRemaining, a_robValue, a_robFault, a_robNext, a_robSrc1, a_robVal1, a_robSrc2, a_robVal2, a_robOp, a_robC, a_robDest, a_mapSlot, a_unitBusy) v1 v2
        exact br_f h0 (br_t h6 G)
      · show wpY_setLatency post (f_pc, f_epc, f_cause, f_handling, f_vector, f_phase, (nI len), f_fetchPc, f_parked, (nI qc), (nI c), a_regs, a_memory, a_progOp, a_progA, a_progB, a_progC, a_counters, a_settings, a_queuePc, a_queueNext, a_twoBit, a_jumpDelta, a_ePc, a_ePredicted, a_eState, a_eRemaining, a_eValue, a_eFault, a_eNext, a_eWait1, a_eVal1, a_eWait2, a_eVal2) v1 v2
        exact br_f h0 (br_t h6 G)
    · by_cases h1 : v2 < 1
      · refine ⟨(w, rs, len, qh, qc, h, c, f_stations, f_queueSize, f_phase, f_pc, f_epc, f_cause, f_handling, f_vector, f_fetchPc, f_parked, f_waitingCount, f_memCount, a_regs, a_memory, a_progOp, a_progA, a_progB, a_progC, a_latency, a_counters, a_fqPc, a_fqNext, a_twoBit, a_jumpDelta, a_robPc, a_robPredicted, a_robState, a_robRemaining, a_robValue, a_robFault, a_robNext, a_robSrc1, a_robVal1, a_robSrc2, a_robVal2, a_robOp, a_robC, a_robDest, a_mapSlot, a_unitBusy, a_settings, a_queuePc, a_queueNext, a_ePc, a_ePredicted, a_eState, a_eRemaining, a_eValue, a_eFault, a_eNext, a_eWait1, a_eVal1, a_eWait2, a_eVal2), -2, HF, fun post G => ?_, fun post G => ?_⟩
        · show wpX_setLatency post ((nI rs), f_stations, f_queueSize, (nI w), f_phase, f_pc, f_epc, f_cause, f_handling, f_vector, (nI len), f_fetchPc, f_parked, (nI qh), (nI qc), (nI h), (nI c), f_waitingCount, f_memCount, a_regs, a_memory, a_progOp, a_progA, a_progB, a_progC, a_latency, a_counters, a_fqPc, a_fqNext, a_twoBit, a_jumpDelta, a_robPc, a_robPredicted, a_robState, a_robRemaining, a_robValue, a_robFault, a_robNext, a_robSrc1, a_robVal1, a_robSrc2, a_robVal2, a_robOp, a_robC, a_robDest, a_mapSlot, a_unitBusy) v1 v2
          exact br_f h0 (br_f h6 (br_t h1 G))
        · show wpY_setLatency post (f_pc, f_epc, f_cause, f_handling, f_vector, f_phase, (nI len), f_fetchPc, f_parked, (nI qc), (nI c), a_regs, a_memory, a_progOp, a_progA, a_progB, a_progC, a_counters, a_settings, a_queuePc, a_queueNext, a_twoBit, a_jumpDelta, a_ePc, a_ePredicted, a_eState, a_eRemaining, a_eValue, a_eFault, a_eNext, a_eWait1, a_eVal1, a_eWait2, a_eVal2) v1 v2
          exact br_f h0 (br_f h6 (br_t h1 G))
      · by_cases h20 : v2 ≤ 20
        · obtain ⟨j, hj, e⟩ := nI_of2 (n := 6) (M := 6) (by decide) h0 (Int32.not_lt.mp h6)
          obtain ⟨H, hb, hpk, hpc⟩ := HF
          have H' : rc_F0 w rs len qh qc h c f_stations f_queueSize f_waitingCount f_memCount a_latency a_settings a_progOp a_progA a_progB a_progC a_fqPc a_fqNext a_queuePc a_queueNext a_robPc a_robPredicted a_robState a_robRemaining a_robValue a_robFault a_robNext a_robSrc1 a_robVal1 a_robSrc2 a_robVal2 a_robOp a_robC a_robDest a_ePc a_ePredicted a_eState a_eRemaining a_eValue a_eFault a_eNext a_eWait1 a_eVal1 a_eWait2 a_eVal2 a_mapSlot a_unitBusy := H
          have hcl : v1.toNatClampNeg = j := by rw [e]; exact nI_clamp (by omega)
          have hx : vp_in v1 7 := by rw [e]; exact vp_in_nI (by omega) (by omega)
          have hy : vp_in v1 11 := by rw [e]; exact vp_in_nI (by omega) (by omega)
          refine ⟨(w, rs, len, qh, qc, h, c, f_stations, f_queueSize, f_phase, f_pc, f_epc, f_cause, f_handling, f_vector, f_fetchPc, f_parked, f_waitingCount, f_memCount, a_regs, a_memory, a_progOp, a_progA, a_progB, a_progC, (upd a_latency j v2), a_counters, a_fqPc, a_fqNext, a_twoBit, a_jumpDelta, a_robPc, a_robPredicted, a_robState, a_robRemaining, a_robValue, a_robFault, a_robNext, a_robSrc1, a_robVal1, a_robSrc2, a_robVal2, a_robOp, a_robC, a_robDest, a_mapSlot, a_unitBusy, (upd a_settings j v2), a_queuePc, a_queueNext, a_ePc, a_ePredicted, a_eState, a_eRemaining, a_eValue, a_eFault, a_eNext, a_eWait1, a_eVal1, a_eWait2, a_eVal2), 0, ⟨f0_lat H' (by omega), hb, hpk, hpc⟩, fun post G => ?_, fun post G => ?_⟩
          · show wpX_setLatency post ((nI rs), f_stations, f_queueSize, (nI w), f_phase, f_pc, f_epc, f_cause, f_handling, f_vector, (nI len), f_fetchPc, f_parked, (nI qh), (nI qc), (nI h), (nI c), f_waitingCount, f_memCount, a_regs, a_memory, a_progOp, a_progA, a_progB, a_progC, a_latency, a_counters, a_fqPc, a_fqNext, a_twoBit, a_jumpDelta, a_robPc, a_robPredicted, a_robState, a_robRemaining, a_robValue, a_robFault, a_robNext, a_robSrc1, a_robVal1, a_robSrc2, a_robVal2, a_robOp, a_robC, a_robDest, a_mapSlot, a_unitBusy) v1 v2
            exact br_f h0 (br_f h6 (br_f h1 (br_t h20 (And.intro hx (nm_r (e' := upd a_latency j v2) (by rw [hcl]) G)))))
          · show wpY_setLatency post (f_pc, f_epc, f_cause, f_handling, f_vector, f_phase, (nI len), f_fetchPc, f_parked, (nI qc), (nI c), a_regs, a_memory, a_progOp, a_progA, a_progB, a_progC, a_counters, a_settings, a_queuePc, a_queueNext, a_twoBit, a_jumpDelta, a_ePc, a_ePredicted, a_eState, a_eRemaining, a_eValue, a_eFault, a_eNext, a_eWait1, a_eVal1, a_eWait2, a_eVal2) v1 v2
            exact br_f h0 (br_f h6 (br_f h1 (br_t h20 (And.intro hy (nm_r (e' := upd a_settings j v2) (by rw [hcl]) G)))))
        · refine ⟨(w, rs, len, qh, qc, h, c, f_stations, f_queueSize, f_phase, f_pc, f_epc, f_cause, f_handling, f_vector, f_fetchPc, f_parked, f_waitingCount, f_memCount, a_regs, a_memory, a_progOp, a_progA, a_progB, a_progC, a_latency, a_counters, a_fqPc, a_fqNext, a_twoBit, a_jumpDelta, a_robPc, a_robPredicted, a_robState, a_robRemaining, a_robValue, a_robFault, a_robNext, a_robSrc1, a_robVal1, a_robSrc2, a_robVal2, a_robOp, a_robC, a_robDest, a_mapSlot, a_unitBusy, a_settings, a_queuePc, a_queueNext, a_ePc, a_ePredicted, a_eState, a_eRemaining, a_eValue, a_eFault, a_eNext, a_eWait1, a_eVal1, a_eWait2, a_eVal2), -2, HF, fun post G => ?_, fun post G => ?_⟩
          · show wpX_setLatency post ((nI rs), f_stations, f_queueSize, (nI w), f_phase, f_pc, f_epc, f_cause, f_handling, f_vector, (nI len), f_fetchPc, f_parked, (nI qh), (nI qc), (nI h), (nI c), f_waitingCount, f_memCount, a_regs, a_memory, a_progOp, a_progA, a_progB, a_progC, a_latency, a_counters, a_fqPc, a_fqNext, a_twoBit, a_jumpDelta, a_robPc, a_robPredicted, a_robState, a_robRemaining, a_robValue, a_robFault, a_robNext, a_robSrc1, a_robVal1, a_robSrc2, a_robVal2, a_robOp, a_robC, a_robDest, a_mapSlot, a_unitBusy) v1 v2
            exact br_f h0 (br_f h6 (br_f h1 (br_f h20 G)))
          · show wpY_setLatency post (f_pc, f_epc, f_cause, f_handling, f_vector, f_phase, (nI len), f_fetchPc, f_parked, (nI qc), (nI c), a_regs, a_memory, a_progOp, a_progA, a_progB, a_progC, a_counters, a_settings, a_queuePc, a_queueNext, a_twoBit, a_jumpDelta, a_ePc, a_ePredicted, a_eState, a_eRemaining, a_eValue, a_eFault, a_eNext, a_eWait1, a_eVal1, a_eWait2, a_eVal2) v1 v2
            exact br_f h0 (br_f h6 (br_f h1 (br_f h20 G)))
theorem j_m_setVector (v1 : Int32) : ∀ z, rc_FZ z → rc_ME (fun post u => wpX_setVector post u v1) (fun post v => wpY_setVector post v v1) z := by
  refine rc_el ?_
  intro w rs len qh qc h c f_stations f_queueSize f_phase f_pc f_epc f_cause f_handling f_vector f_fetchPc f_parked f_waitingCount f_memCount a_regs a_memory a_progOp a_progA a_progB a_progC a_latency a_counters a_fqPc a_fqNext a_twoBit a_jumpDelta a_robPc a_robPredicted a_robState a_robRemaining a_robValue a_robFault a_robNext a_robSrc1 a_robVal1 a_robSrc2 a_robVal2 a_robOp a_robC a_robDest a_mapSlot a_unitBusy a_settings a_queuePc a_queueNext a_ePc a_ePredicted a_eState a_eRemaining a_eValue a_eFault a_eNext a_eWait1 a_eVal1 a_eWait2 a_eVal2 HF
  by_cases h0 : v1 < -1
  · refine ⟨(w, rs, len, qh, qc, h, c, f_stations, f_queueSize, f_phase, f_pc, f_epc, f_cause, f_handling, f_vector, f_fetchPc, f_parked, f_waitingCount, f_memCount, a_regs, a_memory, a_progOp, a_progA, a_progB, a_progC, a_latency, a_counters, a_fqPc, a_fqNext, a_twoBit, a_jumpDelta, a_robPc, a_robPredicted, a_robState, a_robRemaining, a_robValue, a_robFault, a_robNext, a_robSrc1, a_robVal1, a_robSrc2, a_robVal2, a_robOp, a_robC, a_robDest, a_mapSlot, a_unitBusy, a_settings, a_queuePc, a_queueNext, a_ePc, a_ePredicted, a_eState, a_eRemaining, a_eValue, a_eFault, a_eNext, a_eWait1, a_eVal1, a_eWait2, a_eVal2), -2, HF, fun post G => ?_, fun post G => ?_⟩
    · show wpX_setVector post ((nI rs), f_stations, f_queueSize, (nI w), f_phase, f_pc, f_epc, f_cause, f_handling, f_vector, (nI len), f_fetchPc, f_parked, (nI qh), (nI qc), (nI h), (nI c), f_waitingCount, f_memCount, a_regs, a_memory, a_progOp, a_progA, a_progB, a_progC, a_latency, a_counters, a_fqPc, a_fqNext, a_twoBit, a_jumpDelta, a_robPc, a_robPredicted, a_robState, a_robRemaining, a_robValue, a_robFault, a_robNext, a_robSrc1, a_robVal1, a_robSrc2, a_robVal2, a_robOp, a_robC, a_robDest, a_mapSlot, a_unitBusy) v1
      exact br_t h0 G
    · show wpY_setVector post (f_pc, f_epc, f_cause, f_handling, f_vector, f_phase, (nI len), f_fetchPc, f_parked, (nI qc), (nI c), a_regs, a_memory, a_progOp, a_progA, a_progB, a_progC, a_counters, a_settings, a_queuePc, a_queueNext, a_twoBit, a_jumpDelta, a_ePc, a_ePredicted, a_eState, a_eRemaining, a_eValue, a_eFault, a_eNext, a_eWait1, a_eVal1, a_eWait2, a_eVal2) v1
      exact br_t h0 G
  · by_cases h1 : v1 ≤ 63
    · obtain ⟨H, hb, hpk, hpc⟩ := HF
      refine ⟨(w, rs, len, qh, qc, h, c, f_stations, f_queueSize, f_phase, f_pc, f_epc, f_cause, f_handling, v1, f_fetchPc, f_parked, f_waitingCount, f_memCount, a_regs, a_memory, a_progOp, a_progA, a_progB, a_progC, a_latency, a_counters, a_fqPc, a_fqNext, a_twoBit, a_jumpDelta, a_robPc, a_robPredicted, a_robState, a_robRemaining, a_robValue, a_robFault, a_robNext, a_robSrc1, a_robVal1, a_robSrc2, a_robVal2, a_robOp, a_robC, a_robDest, a_mapSlot, a_unitBusy, a_settings, a_queuePc, a_queueNext, a_ePc, a_ePredicted, a_eState, a_eRemaining, a_eValue, a_eFault, a_eNext, a_eWait1, a_eVal1, a_eWait2, a_eVal2), 0, ⟨H, hb, hpk, hpc⟩, fun post G => ?_, fun post G => ?_⟩
      · show wpX_setVector post ((nI rs), f_stations, f_queueSize, (nI w), f_phase, f_pc, f_epc, f_cause, f_handling, f_vector, (nI len), f_fetchPc, f_parked, (nI qh), (nI qc), (nI h), (nI c), f_waitingCount, f_memCount, a_regs, a_memory, a_progOp, a_progA, a_progB, a_progC, a_latency, a_counters, a_fqPc, a_fqNext, a_twoBit, a_jumpDelta, a_robPc, a_robPredicted, a_robState, a_robRemaining, a_robValue, a_robFault, a_robNext, a_robSrc1, a_robVal1, a_robSrc2, a_robVal2, a_robOp, a_robC, a_robDest, a_mapSlot, a_unitBusy) v1
        exact br_f h0 (br_t h1 G)
      · show wpY_setVector post (f_pc, f_epc, f_cause, f_handling, f_vector, f_phase, (nI len), f_fetchPc, f_parked, (nI qc), (nI c), a_regs, a_memory, a_progOp, a_progA, a_progB, a_progC, a_counters, a_settings, a_queuePc, a_queueNext, a_twoBit, a_jumpDelta, a_ePc, a_ePredicted, a_eState, a_eRemaining, a_eValue, a_eFault, a_eNext, a_eWait1, a_eVal1, a_eWait2, a_eVal2) v1
        exact br_f h0 (br_t h1 G)
    · refine ⟨(w, rs, len, qh, qc, h, c, f_stations, f_queueSize, f_phase, f_pc, f_epc, f_cause, f_handling, f_vector, f_fetchPc, f_parked, f_waitingCount, f_memCount, a_regs, a_memory, a_progOp, a_progA, a_progB, a_progC, a_latency, a_counters, a_fqPc, a_fqNext, a_twoBit, a_jumpDelta, a_robPc, a_robPredicted, a_robState, a_robRemaining, a_robValue, a_robFault, a_robNext, a_robSrc1, a_robVal1, a_robSrc2, a_robVal2, a_robOp, a_robC, a_robDest, a_mapSlot, a_unitBusy, a_settings, a_queuePc, a_queueNext, a_ePc, a_ePredicted, a_eState, a_eRemaining, a_eValue, a_eFault, a_eNext, a_eWait1, a_eVal1, a_eWait2, a_eVal2), -2, HF, fun post G => ?_, fun post G => ?_⟩
      · show wpX_setVector post ((nI rs), f_stations, f_queueSize, (nI w), f_phase, f_pc, f_epc, f_cause, f_handling, f_vector, (nI len), f_fetchPc, f_parked, (nI qh), (nI qc), (nI h), (nI c), f_waitingCount, f_memCount, a_regs, a_memory, a_progOp, a_progA, a_progB, a_progC, a_latency, a_counters, a_fqPc, a_fqNext, a_twoBit, a_jumpDelta, a_robPc, a_robPredicted, a_robState, a_robRemaining, a_robValue, a_robFault, a_robNext, a_robSrc1, a_robVal1, a_robSrc2, a_robVal2, a_robOp, a_robC, a_robDest, a_mapSlot, a_unitBusy) v1
        exact br_f h0 (br_f h1 G)
      · show wpY_setVector post (f_pc, f_epc, f_cause, f_handling, f_vector, f_phase, (nI len), f_fetchPc, f_parked, (nI qc), (nI c), a_regs, a_memory, a_progOp, a_progA, a_progB, a_progC, a_counters, a_settings, a_queuePc, a_queueNext, a_twoBit, a_jumpDelta, a_ePc, a_ePredicted, a_eState, a_eRemaining, a_eValue, a_eFault, a_eNext, a_eWait1, a_eVal1, a_eWait2, a_eVal2) v1
        exact br_f h0 (br_f h1 G)
theorem j_m_start (v1 : Int32) : ∀ z, rc_FZ z → rc_ME (fun post u => wpX_start post u v1) (fun post v => wpY_start post v v1) z := by
  refine rc_el ?_
  intro w rs len qh qc h c f_stations f_queueSize f_phase f_pc f_epc f_cause f_handling f_vector f_fetchPc f_parked f_waitingCount f_memCount a_regs a_memory a_progOp a_progA a_progB a_progC a_latency a_counters a_fqPc a_fqNext a_twoBit a_jumpDelta a_robPc a_robPredicted a_robState a_robRemaining a_robValue a_robFault a_robNext a_robSrc1 a_robVal1 a_robSrc2 a_robVal2 a_robOp a_robC a_robDest a_mapSlot a_unitBusy a_settings a_queuePc a_queueNext a_ePc a_ePredicted a_eState a_eRemaining a_eValue a_eFault a_eNext a_eWait1 a_eVal1 a_eWait2 a_eVal2 HF
  by_cases hp : f_phase = 1
  · refine ⟨(w, rs, len, qh, qc, h, c, f_stations, f_queueSize, f_phase, f_pc, f_epc, f_cause, f_handling, f_vector, f_fetchPc, f_parked, f_waitingCount, f_memCount, a_regs, a_memory, a_progOp, a_progA, a_progB, a_progC, a_latency, a_counters, a_fqPc, a_fqNext, a_twoBit, a_jumpDelta, a_robPc, a_robPredicted, a_robState, a_robRemaining, a_robValue, a_robFault, a_robNext, a_robSrc1, a_robVal1, a_robSrc2, a_robVal2, a_robOp, a_robC, a_robDest, a_mapSlot, a_unitBusy, a_settings, a_queuePc, a_queueNext, a_ePc, a_ePredicted, a_eState, a_eRemaining, a_eValue, a_eFault, a_eNext, a_eWait1, a_eVal1, a_eWait2, a_eVal2), -1, HF, fun post G => ?_, fun post G => ?_⟩
    · show wpX_start post ((nI rs), f_stations, f_queueSize, (nI w), f_phase, f_pc, f_epc, f_cause, f_handling, f_vector, (nI len), f_fetchPc, f_parked, (nI qh), (nI qc), (nI h), (nI c), f_waitingCount, f_memCount, a_regs, a_memory, a_progOp, a_progA, a_progB, a_progC, a_latency, a_counters, a_fqPc, a_fqNext, a_twoBit, a_jumpDelta, a_robPc, a_robPredicted, a_robState, a_robRemaining, a_robValue, a_robFault, a_robNext, a_robSrc1, a_robVal1, a_robSrc2, a_robVal2, a_robOp, a_robC, a_robDest, a_mapSlot, a_unitBusy) v1
      exact br_t hp G
    · show wpY_start post (f_pc, f_epc, f_cause, f_handling, f_vector, f_phase, (nI len), f_fetchPc, f_parked, (nI qc), (nI c), a_regs, a_memory, a_progOp, a_progA, a_progB, a_progC, a_counters, a_settings, a_queuePc, a_queueNext, a_twoBit, a_jumpDelta, a_ePc, a_ePredicted, a_eState, a_eRemaining, a_eValue, a_eFault, a_eNext, a_eWait1, a_eVal1, a_eWait2, a_eVal2) v1
      exact br_t hp G
  · obtain ⟨H, hb, hpk, hpc⟩ := HF
    refine ⟨(w, rs, len, qh, qc, h, c, f_stations, f_queueSize, 1, v1, f_epc, f_cause, 0, f_vector, v1, f_parked, f_waitingCount, f_memCount, a_regs, a_memory, a_progOp, a_progA, a_progB, a_progC, a_latency, a_counters, a_fqPc, a_fqNext, a_twoBit, a_jumpDelta, a_robPc, a_robPredicted, a_robState, a_robRemaining, a_robValue, a_robFault, a_robNext, a_robSrc1, a_robVal1, a_robSrc2, a_robVal2, a_robOp, a_robC, a_robDest, a_mapSlot, a_unitBusy, a_settings, a_queuePc, a_queueNext, a_ePc, a_ePredicted, a_eState, a_eRemaining, a_eValue, a_eFault, a_eNext, a_eWait1, a_eVal1, a_eWait2, a_eVal2), 0, ⟨H, Or.inl rfl, hpk, Or.inl rfl⟩, fun post G => ?_, fun post G => ?_⟩
    · show wpX_start post ((nI rs), f_stations, f_queueSize, (nI w), f_phase, f_pc, f_epc, f_cause, f_handling, f_vector, (nI len), f_fetchPc, f_parked, (nI qh), (nI qc), (nI h), (nI c), f_waitingCount, f_memCount, a_regs, a_memory, a_progOp, a_progA, a_progB, a_progC, a_latency, a_counters, a_fqPc, a_fqNext, a_twoBit, a_jumpDelta, a_robPc, a_robPredicted, a_robState, a_robRemaining, a_robValue, a_robFault, a_robNext, a_robSrc1, a_robVal1, a_robSrc2, a_robVal2, a_robOp, a_robC, a_robDest, a_mapSlot, a_unitBusy) v1
      exact br_f hp G
    · show wpY_start post (f_pc, f_epc, f_cause, f_handling, f_vector, f_phase, (nI len), f_fetchPc, f_parked, (nI qc), (nI c), a_regs, a_memory, a_progOp, a_progA, a_progB, a_progC, a_counters, a_settings, a_queuePc, a_queueNext, a_twoBit, a_jumpDelta, a_ePc, a_ePredicted, a_eState, a_eRemaining, a_eValue, a_eFault, a_eNext, a_eWait1, a_eVal1, a_eWait2, a_eVal2) v1
      exact br_f hp G
end
section
/-! getters: one answer for both sides -/
theorem j_g_phase : ∀ z, rc_FZ z → rc_MR wpX_phase wpY_phase z := by
  refine rc_el ?_
  intro w rs len qh qc h c f_stations f_queueSize f_phase f_pc f_epc f_cause f_handling f_vector f_fetchPc f_parked f_waitingCount f_memCount a_regs a_memory a_progOp a_progA a_progB a_progC a_latency a_counters a_fqPc a_fqNext a_twoBit a_jumpDelta a_robPc a_robPredicted a_robState a_robRemaining a_robValue a_robFault a_robNext a_robSrc1 a_robVal1 a_robSrc2 a_robVal2 a_robOp a_robC a_robDest a_mapSlot a_unitBusy a_settings a_queuePc a_queueNext a_ePc a_ePredicted a_eState a_eRemaining a_eValue a_eFault a_eNext a_eWait1 a_eVal1 a_eWait2 a_eVal2 HF
  exact ⟨f_phase, fun post G => G, fun post G => G⟩
theorem j_g_pc : ∀ z, rc_FZ z → rc_MR wpX_pc wpY_pc z := by
  refine rc_el ?_
  intro w rs len qh qc h c f_stations f_queueSize f_phase f_pc f_epc f_cause f_handling f_vector f_fetchPc f_parked f_waitingCount f_memCount a_regs a_memory a_progOp a_progA a_progB a_progC a_latency a_counters a_fqPc a_fqNext a_twoBit a_jumpDelta a_robPc a_robPredicted a_robState a_robRemaining a_robValue a_robFault a_robNext a_robSrc1 a_robVal1 a_robSrc2 a_robVal2 a_robOp a_robC a_robDest a_mapSlot a_unitBusy a_settings a_queuePc a_queueNext a_ePc a_ePredicted a_eState a_eRemaining a_eValue a_eFault a_eNext a_eWait1 a_eVal1 a_eWait2 a_eVal2 HF
  exact ⟨f_pc, fun post G => G, fun post G => G⟩
theorem j_g_epc : ∀ z, rc_FZ z → rc_MR wpX_epc wpY_epc z := by
  refine rc_el ?_
  intro w rs len qh qc h c f_stations f_queueSize f_phase f_pc f_epc f_cause f_handling f_vector f_fetchPc f_parked f_waitingCount f_memCount a_regs a_memory a_progOp a_progA a_progB a_progC a_latency a_counters a_fqPc a_fqNext a_twoBit a_jumpDelta a_robPc a_robPredicted a_robState a_robRemaining a_robValue a_robFault a_robNext a_robSrc1 a_robVal1 a_robSrc2 a_robVal2 a_robOp a_robC a_robDest a_mapSlot a_unitBusy a_settings a_queuePc a_queueNext a_ePc a_ePredicted a_eState a_eRemaining a_eValue a_eFault a_eNext a_eWait1 a_eVal1 a_eWait2 a_eVal2 HF
  exact ⟨f_epc, fun post G => G, fun post G => G⟩
theorem j_g_cause : ∀ z, rc_FZ z → rc_MR wpX_cause wpY_cause z := by
  refine rc_el ?_
  intro w rs len qh qc h c f_stations f_queueSize f_phase f_pc f_epc f_cause f_handling f_vector f_fetchPc f_parked f_waitingCount f_memCount a_regs a_memory a_progOp a_progA a_progB a_progC a_latency a_counters a_fqPc a_fqNext a_twoBit a_jumpDelta a_robPc a_robPredicted a_robState a_robRemaining a_robValue a_robFault a_robNext a_robSrc1 a_robVal1 a_robSrc2 a_robVal2 a_robOp a_robC a_robDest a_mapSlot a_unitBusy a_settings a_queuePc a_queueNext a_ePc a_ePredicted a_eState a_eRemaining a_eValue a_eFault a_eNext a_eWait1 a_eVal1 a_eWait2 a_eVal2 HF
  exact ⟨f_cause, fun post G => G, fun post G => G⟩
theorem j_g_vector : ∀ z, rc_FZ z → rc_MR wpX_vector wpY_vector z := by
  refine rc_el ?_
  intro w rs len qh qc h c f_stations f_queueSize f_phase f_pc f_epc f_cause f_handling f_vector f_fetchPc f_parked f_waitingCount f_memCount a_regs a_memory a_progOp a_progA a_progB a_progC a_latency a_counters a_fqPc a_fqNext a_twoBit a_jumpDelta a_robPc a_robPredicted a_robState a_robRemaining a_robValue a_robFault a_robNext a_robSrc1 a_robVal1 a_robSrc2 a_robVal2 a_robOp a_robC a_robDest a_mapSlot a_unitBusy a_settings a_queuePc a_queueNext a_ePc a_ePredicted a_eState a_eRemaining a_eValue a_eFault a_eNext a_eWait1 a_eVal1 a_eWait2 a_eVal2 HF
  exact ⟨f_vector, fun post G => G, fun post G => G⟩
theorem j_g_programLength : ∀ z, rc_FZ z → rc_MR wpX_programLength wpY_programLength z := by
  refine rc_el ?_
  intro w rs len qh qc h c f_stations f_queueSize f_phase f_pc f_epc f_cause f_handling f_vector f_fetchPc f_parked f_waitingCount f_memCount a_regs a_memory a_progOp a_progA a_progB a_progC a_latency a_counters a_fqPc a_fqNext a_twoBit a_jumpDelta a_robPc a_robPredicted a_robState a_robRemaining a_robValue a_robFault a_robNext a_robSrc1 a_robVal1 a_robSrc2 a_robVal2 a_robOp a_robC a_robDest a_mapSlot a_unitBusy a_settings a_queuePc a_queueNext a_ePc a_ePredicted a_eState a_eRemaining a_eValue a_eFault a_eNext a_eWait1 a_eVal1 a_eWait2 a_eVal2 HF
  exact ⟨nI len, fun post G => G, fun post G => G⟩
theorem j_g_inFlight : ∀ z, rc_FZ z → rc_MR wpX_inFlight wpY_inFlight z := by
  refine rc_el ?_
  intro w rs len qh qc h c f_stations f_queueSize f_phase f_pc f_epc f_cause f_handling f_vector f_fetchPc f_parked f_waitingCount f_memCount a_regs a_memory a_progOp a_progA a_progB a_progC a_latency a_counters a_fqPc a_fqNext a_twoBit a_jumpDelta a_robPc a_robPredicted a_robState a_robRemaining a_robValue a_robFault a_robNext a_robSrc1 a_robVal1 a_robSrc2 a_robVal2 a_robOp a_robC a_robDest a_mapSlot a_unitBusy a_settings a_queuePc a_queueNext a_ePc a_ePredicted a_eState a_eRemaining a_eValue a_eFault a_eNext a_eWait1 a_eVal1 a_eWait2 a_eVal2 HF
  exact ⟨nI c, fun post G => G, fun post G => G⟩
theorem j_g_handling : ∀ z, rc_FZ z → rc_MR wpX_handling wpY_handling z := by
  refine rc_el ?_
  intro w rs len qh qc h c f_stations f_queueSize f_phase f_pc f_epc f_cause f_handling f_vector f_fetchPc f_parked f_waitingCount f_memCount a_regs a_memory a_progOp a_progA a_progB a_progC a_latency a_counters a_fqPc a_fqNext a_twoBit a_jumpDelta a_robPc a_robPredicted a_robState a_robRemaining a_robValue a_robFault a_robNext a_robSrc1 a_robVal1 a_robSrc2 a_robVal2 a_robOp a_robC a_robDest a_mapSlot a_unitBusy a_settings a_queuePc a_queueNext a_ePc a_ePredicted a_eState a_eRemaining a_eValue a_eFault a_eNext a_eWait1 a_eVal1 a_eWait2 a_eVal2 HF
  exact ⟨f_handling, fun post G => And.intro (bo_n HF.2.1) G, fun post G => And.intro (bo_n HF.2.1) G⟩
theorem j_g_reg (v1 : Int32) : ∀ z, rc_FZ z → rc_MR (fun post u => wpX_reg post u v1) (fun post v => wpY_reg post v v1) z := by
  refine rc_el ?_
  intro w rs len qh qc h c f_stations f_queueSize f_phase f_pc f_epc f_cause f_handling f_vector f_fetchPc f_parked f_waitingCount f_memCount a_regs a_memory a_progOp a_progA a_progB a_progC a_latency a_counters a_fqPc a_fqNext a_twoBit a_jumpDelta a_robPc a_robPredicted a_robState a_robRemaining a_robValue a_robFault a_robNext a_robSrc1 a_robVal1 a_robSrc2 a_robVal2 a_robOp a_robC a_robDest a_mapSlot a_unitBusy a_settings a_queuePc a_queueNext a_ePc a_ePredicted a_eState a_eRemaining a_eValue a_eFault a_eNext a_eWait1 a_eVal1 a_eWait2 a_eVal2 HF
  by_cases h0 : v1 < 0
  · refine ⟨0, fun post G => ?_, fun post G => ?_⟩
    · show wpX_reg post ((nI rs), f_stations, f_queueSize, (nI w), f_phase, f_pc, f_epc, f_cause, f_handling, f_vector, (nI len), f_fetchPc, f_parked, (nI qh), (nI qc), (nI h), (nI c), f_waitingCount, f_memCount, a_regs, a_memory, a_progOp, a_progA, a_progB, a_progC, a_latency, a_counters, a_fqPc, a_fqNext, a_twoBit, a_jumpDelta, a_robPc, a_robPredicted, a_robState, a_robRemaining, a_robValue, a_robFault, a_robNext, a_robSrc1, a_robVal1, a_robSrc2, a_robVal2, a_robOp, a_robC, a_robDest, a_mapSlot, a_unitBusy) v1
      exact br_t h0 G
    · show wpY_reg post (f_pc, f_epc, f_cause, f_handling, f_vector, f_phase, (nI len), f_fetchPc, f_parked, (nI qc), (nI c), a_regs, a_memory, a_progOp, a_progA, a_progB, a_progC, a_counters, a_settings, a_queuePc, a_queueNext, a_twoBit, a_jumpDelta, a_ePc, a_ePredicted, a_eState, a_eRemaining, a_eValue, a_eFault, a_eNext, a_eWait1, a_eVal1, a_eWait2, a_eVal2) v1
      exact br_t h0 G
  · by_cases h1 : v1 ≤ 7
    · have hin : vp_in v1 8 := in_le (M := 7) (n := 7) (by decide) (by decide) h0 h1
      refine ⟨a_regs v1.toNatClampNeg, fun post G => ?_, fun post G => ?_⟩
      · show wpX_reg post ((nI rs), f_stations, f_queueSize, (nI w), f_phase, f_pc, f_epc, f_cause, f_handling, f_vector, (nI len), f_fetchPc, f_parked, (nI qh), (nI qc), (nI h), (nI c), f_waitingCount, f_memCount, a_regs, a_memory, a_progOp, a_progA, a_progB, a_progC, a_latency, a_counters, a_fqPc, a_fqNext, a_twoBit, a_jumpDelta, a_robPc, a_robPredicted, a_robState, a_robRemaining, a_robValue, a_robFault, a_robNext, a_robSrc1, a_robVal1, a_robSrc2, a_robVal2, a_robOp, a_robC, a_robDest, a_mapSlot, a_unitBusy) v1
        exact br_f h0 (br_t h1 (And.intro hin G))
      · show wpY_reg post (f_pc, f_epc, f_cause, f_handling, f_vector, f_phase, (nI len), f_fetchPc, f_parked, (nI qc), (nI c), a_regs, a_memory, a_progOp, a_progA, a_progB, a_progC, a_counters, a_settings, a_queuePc, a_queueNext, a_twoBit, a_jumpDelta, a_ePc, a_ePredicted, a_eState, a_eRemaining, a_eValue, a_eFault, a_eNext, a_eWait1, a_eVal1, a_eWait2, a_eVal2) v1
        exact br_f h0 (br_t h1 (And.intro hin G))
    · refine ⟨0, fun post G => ?_, fun post G => ?_⟩
      · show wpX_reg post ((nI rs), f_stations, f_queueSize, (nI w), f_phase, f_pc, f_epc, f_cause, f_handling, f_vector, (nI len), f_fetchPc, f_parked, (nI qh), (nI qc), (nI h), (nI c), f_waitingCount, f_memCount, a_regs, a_memory, a_progOp, a_progA, a_progB, a_progC, a_latency, a_counters, a_fqPc, a_fqNext, a_twoBit, a_jumpDelta, a_robPc, a_robPredicted, a_robState, a_robRemaining, a_robValue, a_robFault, a_robNext, a_robSrc1, a_robVal1, a_robSrc2, a_robVal2, a_robOp, a_robC, a_robDest, a_mapSlot, a_unitBusy) v1
        exact br_f h0 (br_f h1 G)
      · show wpY_reg post (f_pc, f_epc, f_cause, f_handling, f_vector, f_phase, (nI len), f_fetchPc, f_parked, (nI qc), (nI c), a_regs, a_memory, a_progOp, a_progA, a_progB, a_progC, a_counters, a_settings, a_queuePc, a_queueNext, a_twoBit, a_jumpDelta, a_ePc, a_ePredicted, a_eState, a_eRemaining, a_eValue, a_eFault, a_eNext, a_eWait1, a_eVal1, a_eWait2, a_eVal2) v1
        exact br_f h0 (br_f h1 G)
theorem j_g_mem (v1 : Int32) : ∀ z, rc_FZ z → rc_MR (fun post u => wpX_mem post u v1) (fun post v => wpY_mem post v v1) z := by
  refine rc_el ?_
  intro w rs len qh qc h c f_stations f_queueSize f_phase f_pc f_epc f_cause f_handling f_vector f_fetchPc f_parked f_waitingCount f_memCount a_regs a_memory a_progOp a_progA a_progB a_progC a_latency a_counters a_fqPc a_fqNext a_twoBit a_jumpDelta a_robPc a_robPredicted a_robState a_robRemaining a_robValue a_robFault a_robNext a_robSrc1 a_robVal1 a_robSrc2 a_robVal2 a_robOp a_robC a_robDest a_mapSlot a_unitBusy a_settings a_queuePc a_queueNext a_ePc a_ePredicted a_eState a_eRemaining a_eValue a_eFault a_eNext a_eWait1 a_eVal1 a_eWait2 a_eVal2 HF
  by_cases h0 : v1 < 0
  · refine ⟨0, fun post G => ?_, fun post G => ?_⟩
    · show wpX_mem post ((nI rs), f_stations, f_queueSize, (nI w), f_phase, f_pc, f_epc, f_cause, f_handling, f_vector, (nI len), f_fetchPc, f_parked, (nI qh), (nI qc), (nI h), (nI c), f_waitingCount, f_memCount, a_regs, a_memory, a_progOp, a_progA, a_progB, a_progC, a_latency, a_counters, a_fqPc, a_fqNext, a_twoBit, a_jumpDelta, a_robPc, a_robPredicted, a_robState, a_robRemaining, a_robValue, a_robFault, a_robNext, a_robSrc1, a_robVal1, a_robSrc2, a_robVal2, a_robOp, a_robC, a_robDest, a_mapSlot, a_unitBusy) v1
      exact br_t h0 G
    · show wpY_mem post (f_pc, f_epc, f_cause, f_handling, f_vector, f_phase, (nI len), f_fetchPc, f_parked, (nI qc), (nI c), a_regs, a_memory, a_progOp, a_progA, a_progB, a_progC, a_counters, a_settings, a_queuePc, a_queueNext, a_twoBit, a_jumpDelta, a_ePc, a_ePredicted, a_eState, a_eRemaining, a_eValue, a_eFault, a_eNext, a_eWait1, a_eVal1, a_eWait2, a_eVal2) v1
      exact br_t h0 G
  · by_cases h1 : v1 ≤ 63
    · have hin : vp_in v1 64 := in_le (M := 63) (n := 63) (by decide) (by decide) h0 h1
      refine ⟨a_memory v1.toNatClampNeg, fun post G => ?_, fun post G => ?_⟩
      · show wpX_mem post ((nI rs), f_stations, f_queueSize, (nI w), f_phase, f_pc, f_epc, f_cause, f_handling, f_vector, (nI len), f_fetchPc, f_parked, (nI qh), (nI qc), (nI h), (nI c), f_waitingCount, f_memCount, a_regs, a_memory, a_progOp, a_progA, a_progB, a_progC, a_latency, a_counters, a_fqPc, a_fqNext, a_twoBit, a_jumpDelta, a_robPc, a_robPredicted, a_robState, a_robRemaining, a_robValue, a_robFault, a_robNext, a_robSrc1, a_robVal1, a_robSrc2, a_robVal2, a_robOp, a_robC, a_robDest, a_mapSlot, a_unitBusy) v1
        exact br_f h0 (br_t h1 (And.intro hin G))
      · show wpY_mem post (f_pc, f_epc, f_cause, f_handling, f_vector, f_phase, (nI len), f_fetchPc, f_parked, (nI qc), (nI c), a_regs, a_memory, a_progOp, a_progA, a_progB, a_progC, a_counters, a_settings, a_queuePc, a_queueNext, a_twoBit, a_jumpDelta, a_ePc, a_ePredicted, a_eState, a_eRemaining, a_eValue, a_eFault, a_eNext, a_eWait1, a_eVal1, a_eWait2, a_eVal2) v1
        exact br_f h0 (br_t h1 (And.intro hin G))
    · refine ⟨0, fun post G => ?_, fun post G => ?_⟩
      · show wpX_mem post ((nI rs), f_stations, f_queueSize, (nI w), f_phase, f_pc, f_epc, f_cause, f_handling, f_vector, (nI len), f_fetchPc, f_parked, (nI qh), (nI qc), (nI h), (nI c), f_waitingCount, f_memCount, a_regs, a_memory, a_progOp, a_progA, a_progB, a_progC, a_latency, a_counters, a_fqPc, a_fqNext, a_twoBit, a_jumpDelta, a_robPc, a_robPredicted, a_robState, a_robRemaining, a_robValue, a_robFault, a_robNext, a_robSrc1, a_robVal1, a_robSrc2, a_robVal2, a_robOp, a_robC, a_robDest, a_mapSlot, a_unitBusy) v1
        exact br_f h0 (br_f h1 G)
      · show wpY_mem post (f_pc, f_epc, f_cause, f_handling, f_vector, f_phase, (nI len), f_fetchPc, f_parked, (nI qc), (nI c), a_regs, a_memory, a_progOp, a_progA, a_progB, a_progC, a_counters, a_settings, a_queuePc, a_queueNext, a_twoBit, a_jumpDelta, a_ePc, a_ePredicted, a_eState, a_eRemaining, a_eValue, a_eFault, a_eNext, a_eWait1, a_eVal1, a_eWait2, a_eVal2) v1
        exact br_f h0 (br_f h1 G)
theorem j_g_counter (v1 : Int32) : ∀ z, rc_FZ z → rc_MR (fun post u => wpX_counter post u v1) (fun post v => wpY_counter post v v1) z := by
  refine rc_el ?_
  intro w rs len qh qc h c f_stations f_queueSize f_phase f_pc f_epc f_cause f_handling f_vector f_fetchPc f_parked f_waitingCount f_memCount a_regs a_memory a_progOp a_progA a_progB a_progC a_latency a_counters a_fqPc a_fqNext a_twoBit a_jumpDelta a_robPc a_robPredicted a_robState a_robRemaining a_robValue a_robFault a_robNext a_robSrc1 a_robVal1 a_robSrc2 a_robVal2 a_robOp a_robC a_robDest a_mapSlot a_unitBusy a_settings a_queuePc a_queueNext a_ePc a_ePredicted a_eState a_eRemaining a_eValue a_eFault a_eNext a_eWait1 a_eVal1 a_eWait2 a_eVal2 HF
  by_cases h0 : v1 < 0
  · refine ⟨0, fun post G => ?_, fun post G => ?_⟩
    · show wpX_counter post ((nI rs), f_stations, f_queueSize, (nI w), f_phase, f_pc, f_epc, f_cause, f_handling, f_vector, (nI len), f_fetchPc, f_parked, (nI qh), (nI qc), (nI h), (nI c), f_waitingCount, f_memCount, a_regs, a_memory, a_progOp, a_progA, a_progB, a_progC, a_latency, a_counters, a_fqPc, a_fqNext, a_twoBit, a_jumpDelta, a_robPc, a_robPredicted, a_robState, a_robRemaining, a_robValue, a_robFault, a_robNext, a_robSrc1, a_robVal1, a_robSrc2, a_robVal2, a_robOp, a_robC, a_robDest, a_mapSlot, a_unitBusy) v1
      exact br_t h0 G
    · show wpY_counter post (f_pc, f_epc, f_cause, f_handling, f_vector, f_phase, (nI len), f_fetchPc, f_parked, (nI qc), (nI c), a_regs, a_memory, a_progOp, a_progA, a_progB, a_progC, a_counters, a_settings, a_queuePc, a_queueNext, a_twoBit, a_jumpDelta, a_ePc, a_ePredicted, a_eState, a_eRemaining, a_eValue, a_eFault, a_eNext, a_eWait1, a_eVal1, a_eWait2, a_eVal2) v1
      exact br_t h0 G
  · by_cases h1 : v1 ≤ 5
    · have hin : vp_in v1 6 := in_le (M := 5) (n := 5) (by decide) (by decide) h0 h1
      refine ⟨a_counters v1.toNatClampNeg, fun post G => ?_, fun post G => ?_⟩
      · show wpX_counter post ((nI rs), f_stations, f_queueSize, (nI w), f_phase, f_pc, f_epc, f_cause, f_handling, f_vector, (nI len), f_fetchPc, f_parked, (nI qh), (nI qc), (nI h), (nI c), f_waitingCount, f_memCount, a_regs, a_memory, a_progOp, a_progA, a_progB, a_progC, a_latency, a_counters, a_fqPc, a_fqNext, a_twoBit, a_jumpDelta, a_robPc, a_robPredicted, a_robState, a_robRemaining, a_robValue, a_robFault, a_robNext, a_robSrc1, a_robVal1, a_robSrc2, a_robVal2, a_robOp, a_robC, a_robDest, a_mapSlot, a_unitBusy) v1
        exact br_f h0 (br_t h1 (And.intro hin G))
      · show wpY_counter post (f_pc, f_epc, f_cause, f_handling, f_vector, f_phase, (nI len), f_fetchPc, f_parked, (nI qc), (nI c), a_regs, a_memory, a_progOp, a_progA, a_progB, a_progC, a_counters, a_settings, a_queuePc, a_queueNext, a_twoBit, a_jumpDelta, a_ePc, a_ePredicted, a_eState, a_eRemaining, a_eValue, a_eFault, a_eNext, a_eWait1, a_eVal1, a_eWait2, a_eVal2) v1
        exact br_f h0 (br_t h1 (And.intro hin G))
    · refine ⟨0, fun post G => ?_, fun post G => ?_⟩
      · show wpX_counter post ((nI rs), f_stations, f_queueSize, (nI w), f_phase, f_pc, f_epc, f_cause, f_handling, f_vector, (nI len), f_fetchPc, f_parked, (nI qh), (nI qc), (nI h), (nI c), f_waitingCount, f_memCount, a_regs, a_memory, a_progOp, a_progA, a_progB, a_progC, a_latency, a_counters, a_fqPc, a_fqNext, a_twoBit, a_jumpDelta, a_robPc, a_robPredicted, a_robState, a_robRemaining, a_robValue, a_robFault, a_robNext, a_robSrc1, a_robVal1, a_robSrc2, a_robVal2, a_robOp, a_robC, a_robDest, a_mapSlot, a_unitBusy) v1
        exact br_f h0 (br_f h1 G)
      · show wpY_counter post (f_pc, f_epc, f_cause, f_handling, f_vector, f_phase, (nI len), f_fetchPc, f_parked, (nI qc), (nI c), a_regs, a_memory, a_progOp, a_progA, a_progB, a_progC, a_counters, a_settings, a_queuePc, a_queueNext, a_twoBit, a_jumpDelta, a_ePc, a_ePredicted, a_eState, a_eRemaining, a_eValue, a_eFault, a_eNext, a_eWait1, a_eVal1, a_eWait2, a_eVal2) v1
        exact br_f h0 (br_f h1 G)
theorem j_g_instruction (v1 v2 : Int32) : ∀ z, rc_FZ z → rc_MR (fun post u => wpX_instruction post u v1 v2) (fun post v => wpY_instruction post v v1 v2) z := by
  refine rc_el ?_
  intro w rs len qh qc h c f_stations f_queueSize f_phase f_pc f_epc f_cause f_handling f_vector f_fetchPc f_parked f_waitingCount f_memCount a_regs a_memory a_progOp a_progA a_progB a_progC a_latency a_counters a_fqPc a_fqNext a_twoBit a_jumpDelta a_robPc a_robPredicted a_robState a_robRemaining a_robValue a_robFault a_robNext a_robSrc1 a_robVal1 a_robSrc2 a_robVal2 a_robOp a_robC a_robDest a_mapSlot a_unitBusy a_settings a_queuePc a_queueNext a_ePc a_ePredicted a_eState a_eRemaining a_eValue a_eFault a_eNext a_eWait1 a_eVal1 a_eWait2 a_eVal2 HF
  obtain ⟨H, _⟩ := HF
  have H' : rc_F0 w rs len qh qc h c f_stations f_queueSize f_waitingCount f_memCount a_latency a_settings a_progOp a_progA a_progB a_progC a_fqPc a_fqNext a_queuePc a_queueNext a_robPc a_robPredicted a_robState a_robRemaining a_robValue a_robFault a_robNext a_robSrc1 a_robVal1 a_robSrc2 a_robVal2 a_robOp a_robC a_robDest a_ePc a_ePredicted a_eState a_eRemaining a_eValue a_eFault a_eNext a_eWait1 a_eVal1 a_eWait2 a_eVal2 a_mapSlot a_unitBusy := H
  have hl := H'.2.1.1
  by_cases h0 : v1 < 0
  · refine ⟨0, fun post G => ?_, fun post G => ?_⟩
    · show wpX_instruction post ((nI rs), f_stations, f_queueSize, (nI w), f_phase, f_pc, f_epc, f_cause, f_handling, f_vector, (nI len), f_fetchPc, f_parked, (nI qh), (nI qc), (nI h), (nI c), f_waitingCount, f_memCount, a_regs, a_memory, a_progOp, a_progA, a_progB, a_progC, a_latency, a_counters, a_fqPc, a_fqNext, a_twoBit, a_jumpDelta, a_robPc, a_robPredicted, a_robState, a_robRemaining, a_robValue, a_robFault, a_robNext, a_robSrc1, a_robVal1, a_robSrc2, a_robVal2, a_robOp, a_robC, a_robDest, a_mapSlot, a_unitBusy) v1 v2
      exact br_t h0 G
    · show wpY_instruction post (f_pc, f_epc, f_cause, f_handling, f_vector, f_phase, (nI len), f_fetchPc, f_parked, (nI qc), (nI c), a_regs, a_memory, a_progOp, a_progA, a_progB, a_progC, a_counters, a_settings, a_queuePc, a_queueNext, a_twoBit, a_jumpDelta, a_ePc, a_ePredicted, a_eState, a_eRemaining, a_eValue, a_eFault, a_eNext, a_eWait1, a_eVal1, a_eWait2, a_eVal2) v1 v2
      exact br_t h0 G
  · by_cases h1 : nI len ≤ v1
    · refine ⟨0, fun post G => ?_, fun post G => ?_⟩
      · show wpX_instruction post ((nI rs), f_stations, f_queueSize, (nI w), f_phase, f_pc, f_epc, f_cause, f_handling, f_vector, (nI len), f_fetchPc, f_parked, (nI qh), (nI qc), (nI h), (nI c), f_waitingCount, f_memCount, a_regs, a_memory, a_progOp, a_progA, a_progB, a_progC, a_latency, a_counters, a_fqPc, a_fqNext, a_twoBit, a_jumpDelta, a_robPc, a_robPredicted, a_robState, a_robRemaining, a_robValue, a_robFault, a_robNext, a_robSrc1, a_robVal1, a_robSrc2, a_robVal2, a_robOp, a_robC, a_robDest, a_mapSlot, a_unitBusy) v1 v2
        exact br_f h0 (br_f (Int32.not_lt.mpr h1) G)
      · show wpY_instruction post (f_pc, f_epc, f_cause, f_handling, f_vector, f_phase, (nI len), f_fetchPc, f_parked, (nI qc), (nI c), a_regs, a_memory, a_progOp, a_progA, a_progB, a_progC, a_counters, a_settings, a_queuePc, a_queueNext, a_twoBit, a_jumpDelta, a_ePc, a_ePredicted, a_eState, a_eRemaining, a_eValue, a_eFault, a_eNext, a_eWait1, a_eVal1, a_eWait2, a_eVal2) v1 v2
        exact br_f h0 (br_t h1 G)
    · have hin := pg_in hl h0 h1
      have k1 : v1 < nI len := Int32.not_le.mp h1
      have k2 := pg_63 hl h0 h1
      by_cases f0 : v2 = 0
      · refine ⟨a_progOp v1.toNatClampNeg, fun post G => ?_, fun post G => ?_⟩
        · show wpX_instruction post ((nI rs), f_stations, f_queueSize, (nI w), f_phase, f_pc, f_epc, f_cause, f_handling, f_vector, (nI len), f_fetchPc, f_parked, (nI qh), (nI qc), (nI h), (nI c), f_waitingCount, f_memCount, a_regs, a_memory, a_progOp, a_progA, a_progB, a_progC, a_latency, a_counters, a_fqPc, a_fqNext, a_twoBit, a_jumpDelta, a_robPc, a_robPredicted, a_robState, a_robRemaining, a_robValue, a_robFault, a_robNext, a_robSrc1, a_robVal1, a_robSrc2, a_robVal2, a_robOp, a_robC, a_robDest, a_mapSlot, a_unitBusy) v1 v2
          exact br_f h0 (br_t k1 (br_f (by rw [f0]; decide) (br_f (by rw [f0]; decide) (br_t f0 (And.intro hin G)))))
        · show wpY_instruction post (f_pc, f_epc, f_cause, f_handling, f_vector, f_phase, (nI len), f_fetchPc, f_parked, (nI qc), (nI c), a_regs, a_memory, a_progOp, a_progA, a_progB, a_progC, a_counters, a_settings, a_queuePc, a_queueNext, a_twoBit, a_jumpDelta, a_ePc, a_ePredicted, a_eState, a_eRemaining, a_eValue, a_eFault, a_eNext, a_eWait1, a_eVal1, a_eWait2, a_eVal2) v1 v2
          exact br_f h0 (br_f h1 (br_t k2 (br_t f0 (And.intro hin G))))
      · by_cases f1 : v2 = 1
        · refine ⟨a_progA v1.toNatClampNeg, fun post G => ?_, fun post G => ?_⟩
          · show wpX_instruction post ((nI rs), f_stations, f_queueSize, (nI w), f_phase, f_pc, f_epc, f_cause, f_handling, f_vector, (nI len), f_fetchPc, f_parked, (nI qh), (nI qc), (nI h), (nI c), f_waitingCount, f_memCount, a_regs, a_memory, a_progOp, a_progA, a_progB, a_progC, a_latency, a_counters, a_fqPc, a_fqNext, a_twoBit, a_jumpDelta, a_robPc, a_robPredicted, a_robState, a_robRemaining, a_robValue, a_robFault, a_robNext, a_robSrc1, a_robVal1, a_robSrc2, a_robVal2, a_robOp, a_robC, a_robDest, a_mapSlot, a_unitBusy) v1 v2
            exact br_f h0 (br_t k1 (br_f (by rw [f1]; decide) (br_f (by rw [f1]; decide) (br_f f0 (br_t f1 (And.intro hin G))))))
          · show wpY_instruction post (f_pc, f_epc, f_cause, f_handling, f_vector, f_phase, (nI len), f_fetchPc, f_parked, (nI qc), (nI c), a_regs, a_memory, a_progOp, a_progA, a_progB, a_progC, a_counters, a_settings, a_queuePc, a_queueNext, a_twoBit, a_jumpDelta, a_ePc, a_ePredicted, a_eState, a_eRemaining, a_eValue, a_eFault, a_eNext, a_eWait1, a_eVal1, a_eWait2, a_eVal2) v1 v2
            exact br_f h0 (br_f h1 (br_t k2 (br_f f0 (br_t f1 (And.intro hin G)))))
        · by_cases f2 : v2 = 2
          · refine ⟨a_progB v1.toNatClampNeg, fun post G => ?_, fun post G => ?_⟩
            · show wpX_instruction post ((nI rs), f_stations, f_queueSize, (nI w), f_phase, f_pc, f_epc, f_cause, f_handling, f_vector, (nI len), f_fetchPc, f_parked, (nI qh), (nI qc), (nI h), (nI c), f_waitingCount, f_memCount, a_regs, a_memory, a_progOp, a_progA, a_progB, a_progC, a_latency, a_counters, a_fqPc, a_fqNext, a_twoBit, a_jumpDelta, a_robPc, a_robPredicted, a_robState, a_robRemaining, a_robValue, a_robFault, a_robNext, a_robSrc1, a_robVal1, a_robSrc2, a_robVal2, a_robOp, a_robC, a_robDest, a_mapSlot, a_unitBusy) v1 v2
              exact br_f h0 (br_t k1 (br_f (by rw [f2]; decide) (br_f (by rw [f2]; decide) (br_f f0 (br_f f1 (br_t f2 (And.intro hin G)))))))
            · show wpY_instruction post (f_pc, f_epc, f_cause, f_handling, f_vector, f_phase, (nI len), f_fetchPc, f_parked, (nI qc), (nI c), a_regs, a_memory, a_progOp, a_progA, a_progB, a_progC, a_counters, a_settings, a_queuePc, a_queueNext, a_twoBit, a_jumpDelta, a_ePc, a_ePredicted, a_eState, a_eRemaining, a_eValue, a_eFault, a_eNext, a_eWait1, a_eVal1, a_eWait2, a_eVal2) v1 v2
              exact br_f h0 (br_f h1 (br_t k2 (br_f f0 (br_f f1 (br_t f2 (And.intro hin G))))))
          · by_cases f3 : v2 = 3
            · refine ⟨a_progC v1.toNatClampNeg, fun post G => ?_, fun post G => ?_⟩
              · show wpX_instruction post ((nI rs), f_stations, f_queueSize, (nI w), f_phase, f_pc, f_epc, f_cause, f_handling, f_vector, (nI len), f_fetchPc, f_parked, (nI qh), (nI qc), (nI h), (nI c), f_waitingCount, f_memCount, a_regs, a_memory, a_progOp, a_progA, a_progB, a_progC, a_latency, a_counters, a_fqPc, a_fqNext, a_twoBit, a_jumpDelta, a_robPc, a_robPredicted, a_robState, a_robRemaining, a_robValue, a_robFault, a_robNext, a_robSrc1, a_robVal1, a_robSrc2, a_robVal2, a_robOp, a_robC, a_robDest, a_mapSlot, a_unitBusy) v1 v2
                exact br_f h0 (br_t k1 (br_f (by rw [f3]; decide) (br_f (by rw [f3]; decide) (br_f f0 (br_f f1 (br_f f2 (br_t f3 (And.intro hin G))))))))
              · show wpY_instruction post (f_pc, f_epc, f_cause, f_handling, f_vector, f_phase, (nI len), f_fetchPc, f_parked, (nI qc), (nI c), a_regs, a_memory, a_progOp, a_progA, a_progB, a_progC, a_counters, a_settings, a_queuePc, a_queueNext, a_twoBit, a_jumpDelta, a_ePc, a_ePredicted, a_eState, a_eRemaining, a_eValue, a_eFault, a_eNext, a_eWait1, a_eVal1, a_eWait2, a_eVal2) v1 v2
                exact br_f h0 (br_f h1 (br_t k2 (br_f f0 (br_f f1 (br_f f2 (br_t f3 (And.intro hin G)))))))
            · refine ⟨0, fun post G => ?_, fun post G => ?_⟩
              · show wpX_instruction post ((nI rs), f_stations, f_queueSize, (nI w), f_phase, f_pc, f_epc, f_cause, f_handling, f_vector, (nI len), f_fetchPc, f_parked, (nI qh), (nI qc), (nI h), (nI c), f_waitingCount, f_memCount, a_regs, a_memory, a_progOp, a_progA, a_progB, a_progC, a_latency, a_counters, a_fqPc, a_fqNext, a_twoBit, a_jumpDelta, a_robPc, a_robPredicted, a_robState, a_robRemaining, a_robValue, a_robFault, a_robNext, a_robSrc1, a_robVal1, a_robSrc2, a_robVal2, a_robOp, a_robC, a_robDest, a_mapSlot, a_unitBusy) v1 v2
                exact br_f h0 (br_t k1 (br_c (fun _ => G) (fun _ => br_c (fun _ => G) (fun _ => br_f f0 (br_f f1 (br_f f2 (br_f f3 (trivial))))))))
              · show wpY_instruction post (f_pc, f_epc, f_cause, f_handling, f_vector, f_phase, (nI len), f_fetchPc, f_parked, (nI qc), (nI c), a_regs, a_memory, a_progOp, a_progA, a_progB, a_progC, a_counters, a_settings, a_queuePc, a_queueNext, a_twoBit, a_jumpDelta, a_ePc, a_ePredicted, a_eState, a_eRemaining, a_eValue, a_eFault, a_eNext, a_eWait1, a_eVal1, a_eWait2, a_eVal2) v1 v2
                exact br_f h0 (br_f h1 (br_t k2 (br_f f0 (br_f f1 (br_f f2 (br_f f3 (G)))))))
section
variable {w rs len qh qc h c : Nat} {f_stations f_queueSize f_phase f_pc f_epc f_cause f_handling f_vector f_fetchPc f_parked f_waitingCount f_memCount : Int32} {a_regs a_memory a_progOp a_progA a_progB a_progC a_latency a_counters a_fqPc a_fqNext a_twoBit a_jumpDelta a_robPc a_robPredicted a_robState a_robRemaining a_robValue a_robFault a_robNext a_robSrc1 a_robVal1 a_robSrc2 a_robVal2 a_robOp a_robC a_robDest a_mapSlot a_unitBusy a_settings a_queuePc a_queueNext a_ePc a_ePredicted a_eState a_eRemaining a_eValue a_eFault a_eNext a_eWait1 a_eVal1 a_eWait2 a_eVal2 : Nat → Int32}
theorem x_placeOf {W : Int32} {post : Int32 → Prop} (hh : h < 16) (hW : rc_w16 W) (G : post W) : wpX_placeOf post ((nI rs), f_stations, f_queueSize, (nI w), f_phase, f_pc, f_epc, f_cause, f_handling, f_vector, (nI len), f_fetchPc, f_parked, (nI qh), (nI qc), (nI h), (nI c), f_waitingCount, f_memCount, a_regs, a_memory, a_progOp, a_progA, a_progB, a_progC, a_latency, a_counters, a_fqPc, a_fqNext, a_twoBit, a_jumpDelta, a_robPc, a_robPredicted, a_robState, a_robRemaining, a_robValue, a_robFault, a_robNext, a_robSrc1, a_robVal1, a_robSrc2, a_robVal2, a_robOp, a_robC, a_robDest, a_mapSlot, a_unitBusy) (rc_sl h W) := by
  rcases hW with e | ⟨k, hk, e⟩
  · subst e
    rw [sl_m]
    exact br_t rfl G
  · subst e
    rw [sl_n hh hk]
    refine br_f (rc_nm1 (by omega)) ?_
    rw [sl_pl h hh k hk]
    exact G
end
theorem j_g_entry (v1 v2 : Int32) : ∀ z, rc_FZ z → rc_MR (fun post u => wpX_entry post u v1 v2) (fun post v => wpY_entry post v v1 v2) z := by
  refine rc_el ?_
  intro w rs len qh qc h c f_stations f_queueSize f_phase f_pc f_epc f_cause f_handling f_vector f_fetchPc f_parked f_waitingCount f_memCount a_regs a_memory a_progOp a_progA a_progB a_progC a_latency a_counters a_fqPc a_fqNext a_twoBit a_jumpDelta a_robPc a_robPredicted a_robState a_robRemaining a_robValue a_robFault a_robNext a_robSrc1 a_robVal1 a_robSrc2 a_robVal2 a_robOp a_robC a_robDest a_mapSlot a_unitBusy a_settings a_queuePc a_queueNext a_ePc a_ePredicted a_eState a_eRemaining a_eValue a_eFault a_eNext a_eWait1 a_eVal1 a_eWait2 a_eVal2 HF
  obtain ⟨H, _⟩ := HF
  have H' : rc_F0 w rs len qh qc h c f_stations f_queueSize f_waitingCount f_memCount a_latency a_settings a_progOp a_progA a_progB a_progC a_fqPc a_fqNext a_queuePc a_queueNext a_robPc a_robPredicted a_robState a_robRemaining a_robValue a_robFault a_robNext a_robSrc1 a_robVal1 a_robSrc2 a_robVal2 a_robOp a_robC a_robDest a_ePc a_ePredicted a_eState a_eRemaining a_eValue a_eFault a_eNext a_eWait1 a_eVal1 a_eWait2 a_eVal2 a_mapSlot a_unitBusy := H
  obtain ⟨_, hP, hQ, ⟨hh, hc, r1, r2, r3, r4, r5, r6, r7, r8, r9, r10, r11, r12, r13, r14⟩, hI, hw, hm, hM, hU⟩ := H'
  by_cases h0 : v1 < 0
  · refine ⟨0, fun post G => ?_, fun post G => ?_⟩
    · show wpX_entry post ((nI rs), f_stations, f_queueSize, (nI w), f_phase, f_pc, f_epc, f_cause, f_handling, f_vector, (nI len), f_fetchPc, f_parked, (nI qh), (nI qc), (nI h), (nI c), f_waitingCount, f_memCount, a_regs, a_memory, a_progOp, a_progA, a_progB, a_progC, a_latency, a_counters, a_fqPc, a_fqNext, a_twoBit, a_jumpDelta, a_robPc, a_robPredicted, a_robState, a_robRemaining, a_robValue, a_robFault, a_robNext, a_robSrc1, a_robVal1, a_robSrc2, a_robVal2, a_robOp, a_robC, a_robDest, a_mapSlot, a_unitBusy) v1 v2
      exact br_t h0 G
    · show wpY_entry post (f_pc, f_epc, f_cause, f_handling, f_vector, f_phase, (nI len), f_fetchPc, f_parked, (nI qc), (nI c), a_regs, a_memory, a_progOp, a_progA, a_progB, a_progC, a_counters, a_settings, a_queuePc, a_queueNext, a_twoBit, a_jumpDelta, a_ePc, a_ePredicted, a_eState, a_eRemaining, a_eValue, a_eFault, a_eNext, a_eWait1, a_eVal1, a_eWait2, a_eVal2) v1 v2
      exact br_t h0 G
  · by_cases h1 : nI c ≤ v1
    · refine ⟨0, fun post G => ?_, fun post G => ?_⟩
      · show wpX_entry post ((nI rs), f_stations, f_queueSize, (nI w), f_phase, f_pc, f_epc, f_cause, f_handling, f_vector, (nI len), f_fetchPc, f_parked, (nI qh), (nI qc), (nI h), (nI c), f_waitingCount, f_memCount, a_regs, a_memory, a_progOp, a_progA, a_progB, a_progC, a_latency, a_counters, a_fqPc, a_fqNext, a_twoBit, a_jumpDelta, a_robPc, a_robPredicted, a_robState, a_robRemaining, a_robValue, a_robFault, a_robNext, a_robSrc1, a_robVal1, a_robSrc2, a_robVal2, a_robOp, a_robC, a_robDest, a_mapSlot, a_unitBusy) v1 v2
        exact br_f h0 (br_f (Int32.not_lt.mpr h1) G)
      · show wpY_entry post (f_pc, f_epc, f_cause, f_handling, f_vector, f_phase, (nI len), f_fetchPc, f_parked, (nI qc), (nI c), a_regs, a_memory, a_progOp, a_progA, a_progB, a_progC, a_counters, a_settings, a_queuePc, a_queueNext, a_twoBit, a_jumpDelta, a_ePc, a_ePredicted, a_eState, a_eRemaining, a_eValue, a_eFault, a_eNext, a_eWait1, a_eVal1, a_eWait2, a_eVal2) v1 v2
        exact br_f h0 (br_t h1 G)
    · obtain ⟨p, hp31, e⟩ := nI_of h0
      subst e
      have hp : p < c := by
        rw [nI_leI (by omega) hp31] at h1
        omega
      have k1 : nI p < nI c := nI_lt hp (by omega)
      have k2 : nI p ≤ 15 := nI_le (b := 15) (by omega) (by omega)
      have hin : vp_in (nI ((h + p) % 16)) 16 := vp_in_nI (by omega) (by omega)
      have hcl : (nI ((h + p) % 16)).toNatClampNeg = (h + p) % 16 := nI_clamp (by omega)
      have hip : vp_in (nI p) 16 := vp_in_nI (by omega) (by omega)
      have hcp : (nI p).toNatClampNeg = p := nI_clamp (by omega)
      have e1 : a_robPc ((h + p) % 16) = a_ePc p := r1 p hp
      have e2 : a_robPredicted ((h + p) % 16) = a_ePredicted p := r2 p hp
      have e3 : a_robState ((h + p) % 16) = a_eState p := r3 p hp
      have e4 : a_robRemaining ((h + p) % 16) = a_eRemaining p := r4 p hp
      have e5 : a_robValue ((h + p) % 16) = a_eValue p := r5 p hp
      have e6 : a_robFault ((h + p) % 16) = a_eFault p := r6 p hp
      have e7 : a_robNext ((h + p) % 16) = a_eNext p := r7 p hp
      have e8 : a_robSrc1 ((h + p) % 16) = rc_sl h (a_eWait1 p) := r8 p hp
      have e9 : a_robVal1 ((h + p) % 16) = a_eVal1 p := r9 p hp
      have e10 : a_robSrc2 ((h + p) % 16) = rc_sl h (a_eWait2 p) := r10 p hp
      have e11 : a_robVal2 ((h + p) % 16) = a_eVal2 p := r11 p hp
      have w1 := wt_16 (by omega) (hI p hp).1
      have w2 := wt_16 (by omega) (hI p hp).2.1
      have xP : ∀ post : Int32 → Prop, ((v2 < 0 → post 0) ∧ (¬ v2 < 0 → ((10 < v2 → post 0) ∧ (¬ 10 < v2 → ((v2 = 0 → (vp_in (nI ((h + p) % 16)) 16 ∧ post (a_ePc p))) ∧ (¬ v2 = 0 → ((v2 = 1 → (vp_in (nI ((h + p) % 16)) 16 ∧ post (a_ePredicted p))) ∧ (¬ v2 = 1 → ((v2 = 2 → (vp_in (nI ((h + p) % 16)) 16 ∧ post (a_eState p))) ∧ (¬ v2 = 2 → ((v2 = 3 → (vp_in (nI ((h + p) % 16)) 16 ∧ post (a_eRemaining p))) ∧ (¬ v2 = 3 → ((v2 = 4 → (vp_in (nI ((h + p) % 16)) 16 ∧ post (a_eValue p))) ∧ (¬ v2 = 4 → ((v2 = 5 → (vp_in (nI ((h + p) % 16)) 16 ∧ post (a_eFault p))) ∧ (¬ v2 = 5 → ((v2 = 6 → (vp_in (nI ((h + p) % 16)) 16 ∧ post (a_eNext p))) ∧ (¬ v2 = 6 → ((v2 = 7 → (vp_in (nI ((h + p) % 16)) 16 ∧ wpX_placeOf (fun r => post r) ((nI rs), f_stations, f_queueSize, (nI w), f_phase, f_pc, f_epc, f_cause, f_handling, f_vector, (nI len), f_fetchPc, f_parked, (nI qh), (nI qc), (nI h), (nI c), f_waitingCount, f_memCount, a_regs, a_memory, a_progOp, a_progA, a_progB, a_progC, a_latency, a_counters, a_fqPc, a_fqNext, a_twoBit, a_jumpDelta, a_robPc, a_robPredicted, a_robState, a_robRemaining, a_robValue, a_robFault, a_robNext, a_robSrc1, a_robVal1, a_robSrc2, a_robVal2, a_robOp, a_robC, a_robDest, a_mapSlot, a_unitBusy) (rc_sl h (a_eWait1 p)))) ∧ (¬ v2 = 7 → ((v2 = 8 → (vp_in (nI ((h + p) % 16)) 16 ∧ post (a_eVal1 p))) ∧ (¬ v2 = 8 → ((v2 = 9 → (vp_in (nI ((h + p) % 16)) 16 ∧ wpX_placeOf (fun r => post r) ((nI rs), f_stations, f_queueSize, (nI w), f_phase, f_pc, f_epc, f_cause, f_handling, f_vector, (nI len), f_fetchPc, f_parked, (nI qh), (nI qc), (nI h), (nI c), f_waitingCount, f_memCount, a_regs, a_memory, a_progOp, a_progA, a_progB, a_progC, a_latency, a_counters, a_fqPc, a_fqNext, a_twoBit, a_jumpDelta, a_robPc, a_robPredicted, a_robState, a_robRemaining, a_robValue, a_robFault, a_robNext, a_robSrc1, a_robVal1, a_robSrc2, a_robVal2, a_robOp, a_robC, a_robDest, a_mapSlot, a_unitBusy) (rc_sl h (a_eWait2 p)))) ∧ (¬ v2 = 9 → ((v2 = 10 → (vp_in (nI ((h + p) % 16)) 16 ∧ post (a_eVal2 p))) ∧ (¬ v2 = 10 → True)))))))))))))))))))))))))) → wpX_entry post ((nI rs), f_stations, f_queueSize, (nI w), f_phase, f_pc, f_epc, f_cause, f_handling, f_vector, (nI len), f_fetchPc, f_parked, (nI qh), (nI qc), (nI h), (nI c), f_waitingCount, f_memCount, a_regs, a_memory, a_progOp, a_progA, a_progB, a_progC, a_latency, a_counters, a_fqPc, a_fqNext, a_twoBit, a_jumpDelta, a_robPc, a_robPredicted, a_robState, a_robRemaining, a_robValue, a_robFault, a_robNext, a_robSrc1, a_robVal1, a_robSrc2, a_robVal2, a_robOp, a_robC, a_robDest, a_mapSlot, a_unitBusy) (nI p) v2 := by
        intro post g
        refine br_f h0 (br_t k1 (nm_r (rc_slot hh (by omega)) ?_))
        rw [hcl, e1, e2, e3, e4, e5, e6, e7, e8, e9, e10, e11]
        exact g
      have yP : ∀ post : Int32 → Prop, ((v2 = 0 → (vp_in (nI p) 16 ∧ post (a_ePc p))) ∧ (¬ v2 = 0 → ((v2 = 1 → (vp_in (nI p) 16 ∧ post (a_ePredicted p))) ∧ (¬ v2 = 1 → ((v2 = 2 → (vp_in (nI p) 16 ∧ post (a_eState p))) ∧ (¬ v2 = 2 → ((v2 = 3 → (vp_in (nI p) 16 ∧ post (a_eRemaining p))) ∧ (¬ v2 = 3 → ((v2 = 4 → (vp_in (nI p) 16 ∧ post (a_eValue p))) ∧ (¬ v2 = 4 → ((v2 = 5 → (vp_in (nI p) 16 ∧ post (a_eFault p))) ∧ (¬ v2 = 5 → ((v2 = 6 → (vp_in (nI p) 16 ∧ post (a_eNext p))) ∧ (¬ v2 = 6 → ((v2 = 7 → (vp_in (nI p) 16 ∧ post (a_eWait1 p))) ∧ (¬ v2 = 7 → ((v2 = 8 → (vp_in (nI p) 16 ∧ post (a_eVal1 p))) ∧ (¬ v2 = 8 → ((v2 = 9 → (vp_in (nI p) 16 ∧ post (a_eWait2 p))) ∧ (¬ v2 = 9 → ((v2 = 10 → (vp_in (nI p) 16 ∧ post (a_eVal2 p))) ∧ (¬ v2 = 10 → post 0)))))))))))))))))))))) → wpY_entry post (f_pc, f_epc, f_cause, f_handling, f_vector, f_phase, (nI len), f_fetchPc, f_parked, (nI qc), (nI c), a_regs, a_memory, a_progOp, a_progA, a_progB, a_progC, a_counters, a_settings, a_queuePc, a_queueNext, a_twoBit, a_jumpDelta, a_ePc, a_ePredicted, a_eState, a_eRemaining, a_eValue, a_eFault, a_eNext, a_eWait1, a_eVal1, a_eWait2, a_eVal2) (nI p) v2 := by
        intro post g
        refine br_f h0 (br_f h1 (br_t k2 ?_))
        rw [hcp]
        exact g
      by_cases f0 : v2 = 0
      · exact ⟨a_ePc p, fun post G => xP post (br_f (by rw [f0]; decide) (br_f (by rw [f0]; decide) (br_t f0 (And.intro hin G)))), fun post G => yP post (br_t f0 (And.intro hip G))⟩
      · by_cases f1 : v2 = 1
        · exact ⟨a_ePredicted p, fun post G => xP post (br_f (by rw [f1]; decide) (br_f (by rw [f1]; decide) (br_f f0 (br_t f1 (And.intro hin G))))), fun post G => yP post (br_f f0 (br_t f1 (And.intro hip G)))⟩
        · by_cases f2 : v2 = 2
          · exact ⟨a_eState p, fun post G => xP post (br_f (by rw [f2]; decide) (br_f (by rw [f2]; decide) (br_f f0 (br_f f1 (br_t f2 (And.intro hin G)))))), fun post G => yP post (br_f f0 (br_f f1 (br_t f2 (And.intro hip G))))⟩
          · by_cases f3 : v2 = 3
            · exact ⟨a_eRemaining p, fun post G => xP post (br_f (by rw [f3]; decide) (br_f (by rw [f3]; decide) (br_f f0 (br_f f1 (br_f f2 (br_t f3 (And.intro hin G))))))), fun post G => yP post (br_f f0 (br_f f1 (br_f f2 (br_t f3 (And.intro hip G)))))⟩
            · by_cases f4 : v2 = 4
              · exact ⟨a_eValue p, fun post G => xP post (br_f (by rw [f4]; decide) (br_f (by rw [f4]; decide) (br_f f0 (br_f f1 (br_f f2 (br_f f3 (br_t f4 (And.intro hin G)))))))), fun post G => yP post (br_f f0 (br_f f1 (br_f f2 (br_f f3 (br_t f4 (And.intro hip G))))))⟩
              · by_cases f5 : v2 = 5
                · exact ⟨a_eFault p, fun post G => xP post (br_f (by rw [f5]; decide) (br_f (by rw [f5]; decide) (br_f f0 (br_f f1 (br_f f2 (br_f f3 (br_f f4 (br_t f5 (And.intro hin G))))))))), fun post G => yP post (br_f f0 (br_f f1 (br_f f2 (br_f f3 (br_f f4 (br_t f5 (And.intro hip G)))))))⟩
                · by_cases f6 : v2 = 6
                  · exact ⟨a_eNext p, fun post G => xP post (br_f (by rw [f6]; decide) (br_f (by rw [f6]; decide) (br_f f0 (br_f f1 (br_f f2 (br_f f3 (br_f f4 (br_f f5 (br_t f6 (And.intro hin G)))))))))), fun post G => yP post (br_f f0 (br_f f1 (br_f f2 (br_f f3 (br_f f4 (br_f f5 (br_t f6 (And.intro hip G))))))))⟩
                  · by_cases f7 : v2 = 7
                    · exact ⟨a_eWait1 p, fun post G => xP post (br_f (by rw [f7]; decide) (br_f (by rw [f7]; decide) (br_f f0 (br_f f1 (br_f f2 (br_f f3 (br_f f4 (br_f f5 (br_f f6 (br_t f7 (And.intro hin (x_placeOf hh w1 G)))))))))))), fun post G => yP post (br_f f0 (br_f f1 (br_f f2 (br_f f3 (br_f f4 (br_f f5 (br_f f6 (br_t f7 (And.intro hip G)))))))))⟩
                    · by_cases f8 : v2 = 8
                      · exact ⟨a_eVal1 p, fun post G => xP post (br_f (by rw [f8]; decide) (br_f (by rw [f8]; decide) (br_f f0 (br_f f1 (br_f f2 (br_f f3 (br_f f4 (br_f f5 (br_f f6 (br_f f7 (br_t f8 (And.intro hin G)))))))))))), fun post G => yP post (br_f f0 (br_f f1 (br_f f2 (br_f f3 (br_f f4 (br_f f5 (br_f f6 (br_f f7 (br_t f8 (And.intro hip G))))))))))⟩
                      · by_cases f9 : v2 = 9
                        · exact ⟨a_eWait2 p, fun post G => xP post (br_f (by rw [f9]; decide) (br_f (by rw [f9]; decide) (br_f f0 (br_f f1 (br_f f2 (br_f f3 (br_f f4 (br_f f5 (br_f f6 (br_f f7 (br_f f8 (br_t f9 (And.intro hin (x_placeOf hh w2 G)))))))))))))), fun post G => yP post (br_f f0 (br_f f1 (br_f f2 (br_f f3 (br_f f4 (br_f f5 (br_f f6 (br_f f7 (br_f f8 (br_t f9 (And.intro hip G)))))))))))⟩
                        · by_cases f10 : v2 = 10
                          · exact ⟨a_eVal2 p, fun post G => xP post (br_f (by rw [f10]; decide) (br_f (by rw [f10]; decide) (br_f f0 (br_f f1 (br_f f2 (br_f f3 (br_f f4 (br_f f5 (br_f f6 (br_f f7 (br_f f8 (br_f f9 (br_t f10 (And.intro hin G)))))))))))))), fun post G => yP post (br_f f0 (br_f f1 (br_f f2 (br_f f3 (br_f f4 (br_f f5 (br_f f6 (br_f f7 (br_f f8 (br_f f9 (br_t f10 (And.intro hip G))))))))))))⟩
                          · exact ⟨0, fun post G => xP post (br_c (fun _ => G) (fun _ => br_c (fun _ => G) (fun _ => br_f f0 (br_f f1 (br_f f2 (br_f f3 (br_f f4 (br_f f5 (br_f f6 (br_f f7 (br_f f8 (br_f f9 (br_f f10 (trivial)))))))))))))), fun post G => yP post (br_f f0 (br_f f1 (br_f f2 (br_f f3 (br_f f4 (br_f f5 (br_f f6 (br_f f7 (br_f f8 (br_f f9 (br_f f10 (G))))))))))))⟩
theorem j_g_renamed (v1 : Int32) : ∀ z, rc_FZ z → rc_MR (fun post u => wpX_renamed post u v1) (fun post v => wpY_renamed post v v1) z := by
  refine rc_el ?_
  intro w rs len qh qc h c f_stations f_queueSize f_phase f_pc f_epc f_cause f_handling f_vector f_fetchPc f_parked f_waitingCount f_memCount a_regs a_memory a_progOp a_progA a_progB a_progC a_latency a_counters a_fqPc a_fqNext a_twoBit a_jumpDelta a_robPc a_robPredicted a_robState a_robRemaining a_robValue a_robFault a_robNext a_robSrc1 a_robVal1 a_robSrc2 a_robVal2 a_robOp a_robC a_robDest a_mapSlot a_unitBusy a_settings a_queuePc a_queueNext a_ePc a_ePredicted a_eState a_eRemaining a_eValue a_eFault a_eNext a_eWait1 a_eVal1 a_eWait2 a_eVal2 HF
  obtain ⟨H, _⟩ := HF
  have H' : rc_F0 w rs len qh qc h c f_stations f_queueSize f_waitingCount f_memCount a_latency a_settings a_progOp a_progA a_progB a_progC a_fqPc a_fqNext a_queuePc a_queueNext a_robPc a_robPredicted a_robState a_robRemaining a_robValue a_robFault a_robNext a_robSrc1 a_robVal1 a_robSrc2 a_robVal2 a_robOp a_robC a_robDest a_ePc a_ePredicted a_eState a_eRemaining a_eValue a_eFault a_eNext a_eWait1 a_eVal1 a_eWait2 a_eVal2 a_mapSlot a_unitBusy := H
  obtain ⟨_, hP, hQ, ⟨hh, hc, _⟩, hI, hw, hm, hM, hU⟩ := H'
  by_cases h0 : v1 < 0
  · refine ⟨-1, fun post G => ?_, fun post G => ?_⟩
    · show wpX_renamed post ((nI rs), f_stations, f_queueSize, (nI w), f_phase, f_pc, f_epc, f_cause, f_handling, f_vector, (nI len), f_fetchPc, f_parked, (nI qh), (nI qc), (nI h), (nI c), f_waitingCount, f_memCount, a_regs, a_memory, a_progOp, a_progA, a_progB, a_progC, a_latency, a_counters, a_fqPc, a_fqNext, a_twoBit, a_jumpDelta, a_robPc, a_robPredicted, a_robState, a_robRemaining, a_robValue, a_robFault, a_robNext, a_robSrc1, a_robVal1, a_robSrc2, a_robVal2, a_robOp, a_robC, a_robDest, a_mapSlot, a_unitBusy) v1
      exact br_t h0 G
    · show wpY_renamed post (f_pc, f_epc, f_cause, f_handling, f_vector, f_phase, (nI len), f_fetchPc, f_parked, (nI qc), (nI c), a_regs, a_memory, a_progOp, a_progA, a_progB, a_progC, a_counters, a_settings, a_queuePc, a_queueNext, a_twoBit, a_jumpDelta, a_ePc, a_ePredicted, a_eState, a_eRemaining, a_eValue, a_eFault, a_eNext, a_eWait1, a_eVal1, a_eWait2, a_eVal2) v1
      exact br_t h0 G
  · by_cases h1 : v1 ≤ 7
    · obtain ⟨j, hj, e⟩ := nI_of2 (n := 7) (by decide) h0 h1
      subst e
      have em := hM j (by omega)
      refine ⟨rc_yw (fun i => rc_dt len a_progOp a_progA a_progC (a_ePc i)) (nI j) c, fun post G => ?_, fun post G => ?_⟩
      · show wpX_renamed post ((nI rs), f_stations, f_queueSize, (nI w), f_phase, f_pc, f_epc, f_cause, f_handling, f_vector, (nI len), f_fetchPc, f_parked, (nI qh), (nI qc), (nI h), (nI c), f_waitingCount, f_memCount, a_regs, a_memory, a_progOp, a_progA, a_progB, a_progC, a_latency, a_counters, a_fqPc, a_fqNext, a_twoBit, a_jumpDelta, a_robPc, a_robPredicted, a_robState, a_robRemaining, a_robValue, a_robFault, a_robNext, a_robSrc1, a_robVal1, a_robSrc2, a_robVal2, a_robOp, a_robC, a_robDest, a_mapSlot, a_unitBusy) (nI j)
        refine br_f h0 (br_t h1 (And.intro (in_8 hj) ?_))
        rw [nI_clamp (by omega), em]
        exact x_placeOf hh (yw_16 hc) G
      · show wpY_renamed post (f_pc, f_epc, f_cause, f_handling, f_vector, f_phase, (nI len), f_fetchPc, f_parked, (nI qc), (nI c), a_regs, a_memory, a_progOp, a_progA, a_progB, a_progC, a_counters, a_settings, a_queuePc, a_queueNext, a_twoBit, a_jumpDelta, a_ePc, a_ePredicted, a_eState, a_eRemaining, a_eValue, a_eFault, a_eNext, a_eWait1, a_eVal1, a_eWait2, a_eVal2) (nI j)
        exact br_f h0 (br_t h1 (y_youngestWriter hP.1 hc (rc_nm1 (by omega)) G))
    · refine ⟨-1, fun post G => ?_, fun post G => ?_⟩
      · show wpX_renamed post ((nI rs), f_stations, f_queueSize, (nI w), f_phase, f_pc, f_epc, f_cause, f_handling, f_vector, (nI len), f_fetchPc, f_parked, (nI qh), (nI qc), (nI h), (nI c), f_waitingCount, f_memCount, a_regs, a_memory, a_progOp, a_progA, a_progB, a_progC, a_latency, a_counters, a_fqPc, a_fqNext, a_twoBit, a_jumpDelta, a_robPc, a_robPredicted, a_robState, a_robRemaining, a_robValue, a_robFault, a_robNext, a_robSrc1, a_robVal1, a_robSrc2, a_robVal2, a_robOp, a_robC, a_robDest, a_mapSlot, a_unitBusy) v1
        exact br_f h0 (br_f h1 G)
      · show wpY_renamed post (f_pc, f_epc, f_cause, f_handling, f_vector, f_phase, (nI len), f_fetchPc, f_parked, (nI qc), (nI c), a_regs, a_memory, a_progOp, a_progA, a_progB, a_progC, a_counters, a_settings, a_queuePc, a_queueNext, a_twoBit, a_jumpDelta, a_ePc, a_ePredicted, a_eState, a_eRemaining, a_eValue, a_eFault, a_eNext, a_eWait1, a_eVal1, a_eWait2, a_eVal2) v1
        exact br_f h0 (br_f h1 G)
theorem j_g_frontEnd (v1 : Int32) : ∀ z, rc_FZ z → rc_MR (fun post u => wpX_frontEnd post u v1) (fun post v => wpY_frontEnd post v v1) z := by
  refine rc_el ?_
  intro w rs len qh qc h c f_stations f_queueSize f_phase f_pc f_epc f_cause f_handling f_vector f_fetchPc f_parked f_waitingCount f_memCount a_regs a_memory a_progOp a_progA a_progB a_progC a_latency a_counters a_fqPc a_fqNext a_twoBit a_jumpDelta a_robPc a_robPredicted a_robState a_robRemaining a_robValue a_robFault a_robNext a_robSrc1 a_robVal1 a_robSrc2 a_robVal2 a_robOp a_robC a_robDest a_mapSlot a_unitBusy a_settings a_queuePc a_queueNext a_ePc a_ePredicted a_eState a_eRemaining a_eValue a_eFault a_eNext a_eWait1 a_eVal1 a_eWait2 a_eVal2 HF
  by_cases f0 : v1 = 0
  · refine ⟨f_fetchPc, fun post G => ?_, fun post G => ?_⟩
    · show wpX_frontEnd post ((nI rs), f_stations, f_queueSize, (nI w), f_phase, f_pc, f_epc, f_cause, f_handling, f_vector, (nI len), f_fetchPc, f_parked, (nI qh), (nI qc), (nI h), (nI c), f_waitingCount, f_memCount, a_regs, a_memory, a_progOp, a_progA, a_progB, a_progC, a_latency, a_counters, a_fqPc, a_fqNext, a_twoBit, a_jumpDelta, a_robPc, a_robPredicted, a_robState, a_robRemaining, a_robValue, a_robFault, a_robNext, a_robSrc1, a_robVal1, a_robSrc2, a_robVal2, a_robOp, a_robC, a_robDest, a_mapSlot, a_unitBusy) v1
      exact br_f (by rw [f0]; decide) (br_f (by rw [f0]; decide) (br_t f0 G))
    · show wpY_frontEnd post (f_pc, f_epc, f_cause, f_handling, f_vector, f_phase, (nI len), f_fetchPc, f_parked, (nI qc), (nI c), a_regs, a_memory, a_progOp, a_progA, a_progB, a_progC, a_counters, a_settings, a_queuePc, a_queueNext, a_twoBit, a_jumpDelta, a_ePc, a_ePredicted, a_eState, a_eRemaining, a_eValue, a_eFault, a_eNext, a_eWait1, a_eVal1, a_eWait2, a_eVal2) v1
      exact br_t f0 G
  · by_cases f1 : v1 = 1
    · by_cases q : f_parked = 0
      · refine ⟨0, fun post G => ?_, fun post G => ?_⟩
        · show wpX_frontEnd post ((nI rs), f_stations, f_queueSize, (nI w), f_phase, f_pc, f_epc, f_cause, f_handling, f_vector, (nI len), f_fetchPc, f_parked, (nI qh), (nI qc), (nI h), (nI c), f_waitingCount, f_memCount, a_regs, a_memory, a_progOp, a_progA, a_progB, a_progC, a_latency, a_counters, a_fqPc, a_fqNext, a_twoBit, a_jumpDelta, a_robPc, a_robPredicted, a_robState, a_robRemaining, a_robValue, a_robFault, a_robNext, a_robSrc1, a_robVal1, a_robSrc2, a_robVal2, a_robOp, a_robC, a_robDest, a_mapSlot, a_unitBusy) v1
          exact br_f (by rw [f1]; decide) (br_f (by rw [f1]; decide) (br_f f0 (br_t f1 (br_t q G))))
        · show wpY_frontEnd post (f_pc, f_epc, f_cause, f_handling, f_vector, f_phase, (nI len), f_fetchPc, f_parked, (nI qc), (nI c), a_regs, a_memory, a_progOp, a_progA, a_progB, a_progC, a_counters, a_settings, a_queuePc, a_queueNext, a_twoBit, a_jumpDelta, a_ePc, a_ePredicted, a_eState, a_eRemaining, a_eValue, a_eFault, a_eNext, a_eWait1, a_eVal1, a_eWait2, a_eVal2) v1
          exact br_f f0 (br_t f1 (br_t q G))
      · refine ⟨1, fun post G => ?_, fun post G => ?_⟩
        · show wpX_frontEnd post ((nI rs), f_stations, f_queueSize, (nI w), f_phase, f_pc, f_epc, f_cause, f_handling, f_vector, (nI len), f_fetchPc, f_parked, (nI qh), (nI qc), (nI h), (nI c), f_waitingCount, f_memCount, a_regs, a_memory, a_progOp, a_progA, a_progB, a_progC, a_latency, a_counters, a_fqPc, a_fqNext, a_twoBit, a_jumpDelta, a_robPc, a_robPredicted, a_robState, a_robRemaining, a_robValue, a_robFault, a_robNext, a_robSrc1, a_robVal1, a_robSrc2, a_robVal2, a_robOp, a_robC, a_robDest, a_mapSlot, a_unitBusy) v1
          exact br_f (by rw [f1]; decide) (br_f (by rw [f1]; decide) (br_f f0 (br_t f1 (br_f q G))))
        · show wpY_frontEnd post (f_pc, f_epc, f_cause, f_handling, f_vector, f_phase, (nI len), f_fetchPc, f_parked, (nI qc), (nI c), a_regs, a_memory, a_progOp, a_progA, a_progB, a_progC, a_counters, a_settings, a_queuePc, a_queueNext, a_twoBit, a_jumpDelta, a_ePc, a_ePredicted, a_eState, a_eRemaining, a_eValue, a_eFault, a_eNext, a_eWait1, a_eVal1, a_eWait2, a_eVal2) v1
          exact br_f f0 (br_t f1 (br_f q G))
    · by_cases f2 : v1 = 2
      · refine ⟨nI qc, fun post G => ?_, fun post G => ?_⟩
        · show wpX_frontEnd post ((nI rs), f_stations, f_queueSize, (nI w), f_phase, f_pc, f_epc, f_cause, f_handling, f_vector, (nI len), f_fetchPc, f_parked, (nI qh), (nI qc), (nI h), (nI c), f_waitingCount, f_memCount, a_regs, a_memory, a_progOp, a_progA, a_progB, a_progC, a_latency, a_counters, a_fqPc, a_fqNext, a_twoBit, a_jumpDelta, a_robPc, a_robPredicted, a_robState, a_robRemaining, a_robValue, a_robFault, a_robNext, a_robSrc1, a_robVal1, a_robSrc2, a_robVal2, a_robOp, a_robC, a_robDest, a_mapSlot, a_unitBusy) v1
          exact br_f (by rw [f2]; decide) (br_f (by rw [f2]; decide) (br_f f0 (br_f f1 (br_t f2 G))))
        · show wpY_frontEnd post (f_pc, f_epc, f_cause, f_handling, f_vector, f_phase, (nI len), f_fetchPc, f_parked, (nI qc), (nI c), a_regs, a_memory, a_progOp, a_progA, a_progB, a_progC, a_counters, a_settings, a_queuePc, a_queueNext, a_twoBit, a_jumpDelta, a_ePc, a_ePredicted, a_eState, a_eRemaining, a_eValue, a_eFault, a_eNext, a_eWait1, a_eVal1, a_eWait2, a_eVal2) v1
          exact br_f f0 (br_f f1 (br_t f2 G))
      · refine ⟨0, fun post G => ?_, fun post G => ?_⟩
        · show wpX_frontEnd post ((nI rs), f_stations, f_queueSize, (nI w), f_phase, f_pc, f_epc, f_cause, f_handling, f_vector, (nI len), f_fetchPc, f_parked, (nI qh), (nI qc), (nI h), (nI c), f_waitingCount, f_memCount, a_regs, a_memory, a_progOp, a_progA, a_progB, a_progC, a_latency, a_counters, a_fqPc, a_fqNext, a_twoBit, a_jumpDelta, a_robPc, a_robPredicted, a_robState, a_robRemaining, a_robValue, a_robFault, a_robNext, a_robSrc1, a_robVal1, a_robSrc2, a_robVal2, a_robOp, a_robC, a_robDest, a_mapSlot, a_unitBusy) v1
          exact br_c (fun _ => G) (fun _ => br_c (fun _ => G) (fun _ => br_f f0 (br_f f1 (br_f f2 trivial))))
        · show wpY_frontEnd post (f_pc, f_epc, f_cause, f_handling, f_vector, f_phase, (nI len), f_fetchPc, f_parked, (nI qc), (nI c), a_regs, a_memory, a_progOp, a_progA, a_progB, a_progC, a_counters, a_settings, a_queuePc, a_queueNext, a_twoBit, a_jumpDelta, a_ePc, a_ePredicted, a_eState, a_eRemaining, a_eValue, a_eFault, a_eNext, a_eWait1, a_eVal1, a_eWait2, a_eVal2) v1
          exact br_f f0 (br_f f1 (br_f f2 G))
theorem j_g_fetched (v1 v2 : Int32) : ∀ z, rc_FZ z → rc_MR (fun post u => wpX_fetched post u v1 v2) (fun post v => wpY_fetched post v v1 v2) z := by
  refine rc_el ?_
  intro w rs len qh qc h c f_stations f_queueSize f_phase f_pc f_epc f_cause f_handling f_vector f_fetchPc f_parked f_waitingCount f_memCount a_regs a_memory a_progOp a_progA a_progB a_progC a_latency a_counters a_fqPc a_fqNext a_twoBit a_jumpDelta a_robPc a_robPredicted a_robState a_robRemaining a_robValue a_robFault a_robNext a_robSrc1 a_robVal1 a_robSrc2 a_robVal2 a_robOp a_robC a_robDest a_mapSlot a_unitBusy a_settings a_queuePc a_queueNext a_ePc a_ePredicted a_eState a_eRemaining a_eValue a_eFault a_eNext a_eWait1 a_eVal1 a_eWait2 a_eVal2 HF
  obtain ⟨H, _⟩ := HF
  have H' : rc_F0 w rs len qh qc h c f_stations f_queueSize f_waitingCount f_memCount a_latency a_settings a_progOp a_progA a_progB a_progC a_fqPc a_fqNext a_queuePc a_queueNext a_robPc a_robPredicted a_robState a_robRemaining a_robValue a_robFault a_robNext a_robSrc1 a_robVal1 a_robSrc2 a_robVal2 a_robOp a_robC a_robDest a_ePc a_ePredicted a_eState a_eRemaining a_eValue a_eFault a_eNext a_eWait1 a_eVal1 a_eWait2 a_eVal2 a_mapSlot a_unitBusy := H
  obtain ⟨_, hP, ⟨hq4, hqc, q1, q2⟩, _⟩ := H'
  by_cases h0 : v1 < 0
  · refine ⟨0, fun post G => ?_, fun post G => ?_⟩
    · show wpX_fetched post ((nI rs), f_stations, f_queueSize, (nI w), f_phase, f_pc, f_epc, f_cause, f_handling, f_vector, (nI len), f_fetchPc, f_parked, (nI qh), (nI qc), (nI h), (nI c), f_waitingCount, f_memCount, a_regs, a_memory, a_progOp, a_progA, a_progB, a_progC, a_latency, a_counters, a_fqPc, a_fqNext, a_twoBit, a_jumpDelta, a_robPc, a_robPredicted, a_robState, a_robRemaining, a_robValue, a_robFault, a_robNext, a_robSrc1, a_robVal1, a_robSrc2, a_robVal2, a_robOp, a_robC, a_robDest, a_mapSlot, a_unitBusy) v1 v2
      exact br_t h0 G
    · show wpY_fetched post (f_pc, f_epc, f_cause, f_handling, f_vector, f_phase, (nI len), f_fetchPc, f_parked, (nI qc), (nI c), a_regs, a_memory, a_progOp, a_progA, a_progB, a_progC, a_counters, a_settings, a_queuePc, a_queueNext, a_twoBit, a_jumpDelta, a_ePc, a_ePredicted, a_eState, a_eRemaining, a_eValue, a_eFault, a_eNext, a_eWait1, a_eVal1, a_eWait2, a_eVal2) v1 v2
      exact br_t h0 G
  · by_cases h1 : nI qc ≤ v1
    · refine ⟨0, fun post G => ?_, fun post G => ?_⟩
      · show wpX_fetched post ((nI rs), f_stations, f_queueSize, (nI w), f_phase, f_pc, f_epc, f_cause, f_handling, f_vector, (nI len), f_fetchPc, f_parked, (nI qh), (nI qc), (nI h), (nI c), f_waitingCount, f_memCount, a_regs, a_memory, a_progOp, a_progA, a_progB, a_progC, a_latency, a_counters, a_fqPc, a_fqNext, a_twoBit, a_jumpDelta, a_robPc, a_robPredicted, a_robState, a_robRemaining, a_robValue, a_robFault, a_robNext, a_robSrc1, a_robVal1, a_robSrc2, a_robVal2, a_robOp, a_robC, a_robDest, a_mapSlot, a_unitBusy) v1 v2
        exact br_f h0 (br_f (Int32.not_lt.mpr h1) G)
      · show wpY_fetched post (f_pc, f_epc, f_cause, f_handling, f_vector, f_phase, (nI len), f_fetchPc, f_parked, (nI qc), (nI c), a_regs, a_memory, a_progOp, a_progA, a_progB, a_progC, a_counters, a_settings, a_queuePc, a_queueNext, a_twoBit, a_jumpDelta, a_ePc, a_ePredicted, a_eState, a_eRemaining, a_eValue, a_eFault, a_eNext, a_eWait1, a_eVal1, a_eWait2, a_eVal2) v1 v2
        exact br_f h0 (br_t h1 G)
    · obtain ⟨p, hp31, e⟩ := nI_of h0
      subst e
      have hp : p < qc := by
        rw [nI_leI (by omega) hp31] at h1
        omega
      have k1 : nI p < nI qc := nI_lt hp (by omega)
      have k2 : nI p ≤ 3 := nI_le (b := 3) (by omega) (by omega)
      have hin : vp_in (nI ((qh + p) % 4)) 4 := vp_in_nI (by omega) (by omega)
      have hcl : (nI ((qh + p) % 4)).toNatClampNeg = (qh + p) % 4 := nI_clamp (by omega)
      have hip : vp_in (nI p) 4 := vp_in_nI (by omega) (by omega)
      have hcp : (nI p).toNatClampNeg = p := nI_clamp (by omega)
      have e1 : a_fqPc ((qh + p) % 4) = a_queuePc p := q1 p hp
      have e2 : a_fqNext ((qh + p) % 4) = a_queueNext p := q2 p hp
      have xP : ∀ post : Int32 → Prop, ((v2 = 0 → (vp_in (nI ((qh + p) % 4)) 4 ∧ post (a_queuePc p))) ∧ (¬ v2 = 0 → ((v2 = 1 → (vp_in (nI ((qh + p) % 4)) 4 ∧ post (a_queueNext p))) ∧ (¬ v2 = 1 → post 0)))) → wpX_fetched post ((nI rs), f_stations, f_queueSize, (nI w), f_phase, f_pc, f_epc, f_cause, f_handling, f_vector, (nI len), f_fetchPc, f_parked, (nI qh), (nI qc), (nI h), (nI c), f_waitingCount, f_memCount, a_regs, a_memory, a_progOp, a_progA, a_progB, a_progC, a_latency, a_counters, a_fqPc, a_fqNext, a_twoBit, a_jumpDelta, a_robPc, a_robPredicted, a_robState, a_robRemaining, a_robValue, a_robFault, a_robNext, a_robSrc1, a_robVal1, a_robSrc2, a_robVal2, a_robOp, a_robC, a_robDest, a_mapSlot, a_unitBusy) (nI p) v2 := by
        intro post g
        refine br_f h0 (br_t k1 (nm_r (rc_qslot hq4 (by omega)) ?_))
        rw [hcl, e1, e2]
        exact g
      have yP : ∀ post : Int32 → Prop, ((v2 = 0 → (vp_in (nI p) 4 ∧ post (a_queuePc p))) ∧ (¬ v2 = 0 → ((v2 = 1 → (vp_in (nI p) 4 ∧ post (a_queueNext p))) ∧ (¬ v2 = 1 → post 0)))) → wpY_fetched post (f_pc, f_epc, f_cause, f_handling, f_vector, f_phase, (nI len), f_fetchPc, f_parked, (nI qc), (nI c), a_regs, a_memory, a_progOp, a_progA, a_progB, a_progC, a_counters, a_settings, a_queuePc, a_queueNext, a_twoBit, a_jumpDelta, a_ePc, a_ePredicted, a_eState, a_eRemaining, a_eValue, a_eFault, a_eNext, a_eWait1, a_eVal1, a_eWait2, a_eVal2) (nI p) v2 := by
        intro post g
        refine br_f h0 (br_f h1 (br_t k2 ?_))
        rw [hcp]
        exact g
      by_cases f0 : v2 = 0
      · exact ⟨a_queuePc p, fun post G => xP post (br_t f0 (And.intro hin G)), fun post G => yP post (br_t f0 (And.intro hip G))⟩
      · by_cases f1 : v2 = 1
        · exact ⟨a_queueNext p, fun post G => xP post (br_f f0 (br_t f1 (And.intro hin G))), fun post G => yP post (br_f f0 (br_t f1 (And.intro hip G)))⟩
        · exact ⟨0, fun post G => xP post (br_f f0 (br_f f1 G)), fun post G => yP post (br_f f0 (br_f f1 G))⟩
theorem rc_15 {x : Int32} : 15 < x ↔ 16 ≤ x := by
  rw [Int32.lt_iff_toInt_lt, Int32.le_iff_toInt_le, show (15 : Int32).toInt = 15 from by decide, show (16 : Int32).toInt = 16 from by decide]
  omega
theorem rc_7 {x : Int32} : 7 < x ↔ 8 ≤ x := by
  rw [Int32.lt_iff_toInt_lt, Int32.le_iff_toInt_le, show (7 : Int32).toInt = 7 from by decide, show (8 : Int32).toInt = 8 from by decide]
  omega
section
variable {w rs len qh qc h c : Nat} {f_stations f_queueSize f_phase f_pc f_epc f_cause f_handling f_vector f_fetchPc f_parked f_waitingCount f_memCount : Int32} {a_regs a_memory a_progOp a_progA a_progB a_progC a_latency a_counters a_fqPc a_fqNext a_twoBit a_jumpDelta a_robPc a_robPredicted a_robState a_robRemaining a_robValue a_robFault a_robNext a_robSrc1 a_robVal1 a_robSrc2 a_robVal2 a_robOp a_robC a_robDest a_mapSlot a_unitBusy a_settings a_queuePc a_queueNext a_ePc a_ePredicted a_eState a_eRemaining a_eValue a_eFault a_eNext a_eWait1 a_eVal1 a_eWait2 a_eVal2 : Nat → Int32}
theorem j_p21 (v1 v2 : Int32) : ∃ r, (∀ post : Int32 → Prop, post r → wX_predictor_21 post v1 v2 (nI rs) f_stations f_queueSize (nI w) f_phase f_pc f_epc f_cause f_handling f_vector (nI len) f_fetchPc f_parked (nI qh) (nI qc) (nI h) (nI c) f_waitingCount f_memCount a_regs a_memory a_progOp a_progA a_progB a_progC a_latency a_counters a_fqPc a_fqNext a_twoBit a_jumpDelta a_robPc a_robPredicted a_robState a_robRemaining a_robValue a_robFault a_robNext a_robSrc1 a_robVal1 a_robSrc2 a_robVal2 a_robOp a_robC a_robDest a_mapSlot a_unitBusy) ∧ (∀ post : Int32 → Prop, post r → wY_predictor_21 post v1 v2 f_pc f_epc f_cause f_handling f_vector f_phase (nI len) f_fetchPc f_parked (nI qc) (nI c) a_regs a_memory a_progOp a_progA a_progB a_progC a_counters a_settings a_queuePc a_queueNext a_twoBit a_jumpDelta a_ePc a_ePredicted a_eState a_eRemaining a_eValue a_eFault a_eNext a_eWait1 a_eVal1 a_eWait2 a_eVal2) := by
  by_cases f1 : v1 = 1
  · by_cases h0 : v2 < 0
    · exact ⟨0, fun post G => br_t f1 (br_t h0 G), fun post G => br_t f1 (br_t h0 G)⟩
    · by_cases h7 : 7 < v2
      · exact ⟨0, fun post G => br_t f1 (br_f h0 (br_t (rc_7.mp h7) G)), fun post G => br_t f1 (br_f h0 (br_t h7 G))⟩
      · have hin : vp_in v2 8 := in_le (M := 7) (n := 7) (by decide) (by decide) h0 (Int32.not_lt.mp h7)
        exact ⟨a_jumpDelta v2.toNatClampNeg, fun post G => br_t f1 (br_f h0 (br_f (fun z => h7 (rc_7.mpr z)) (And.intro hin G))), fun post G => br_t f1 (br_f h0 (br_f h7 (And.intro hin G)))⟩
  · exact ⟨0, fun post G => br_f f1 G, fun post G => br_f f1 G⟩
end
theorem j_g_predictor (v1 v2 : Int32) : ∀ z, rc_FZ z → rc_MR (fun post u => wpX_predictor post u v1 v2) (fun post v => wpY_predictor post v v1 v2) z := by
  refine rc_el ?_
  intro w rs len qh qc h c f_stations f_queueSize f_phase f_pc f_epc f_cause f_handling f_vector f_fetchPc f_parked f_waitingCount f_memCount a_regs a_memory a_progOp a_progA a_progB a_progC a_latency a_counters a_fqPc a_fqNext a_twoBit a_jumpDelta a_robPc a_robPredicted a_robState a_robRemaining a_robValue a_robFault a_robNext a_robSrc1 a_robVal1 a_robSrc2 a_robVal2 a_robOp a_robC a_robDest a_mapSlot a_unitBusy a_settings a_queuePc a_queueNext a_ePc a_ePredicted a_eState a_eRemaining a_eValue a_eFault a_eNext a_eWait1 a_eVal1 a_eWait2 a_eVal2 HF
  obtain ⟨r, gX, gY⟩ := j_p21 (w := w) (rs := rs) (len := len) (qh := qh) (qc := qc) (h := h) (c := c) (f_stations := f_stations) (f_queueSize := f_queueSize) (f_phase := f_phase) (f_pc := f_pc) (f_epc := f_epc) (f_cause := f_cause) (f_handling := f_handling) (f_vector := f_vector) (f_fetchPc := f_fetchPc) (f_parked := f_parked) (f_waitingCount := f_waitingCount) (f_memCount := f_memCount) (a_regs := a_regs) (a_memory := a_memory) (a_progOp := a_progOp) (a_progA := a_progA) (a_progB := a_progB) (a_progC := a_progC) (a_latency := a_latency) (a_counters := a_counters) (a_fqPc := a_fqPc) (a_fqNext := a_fqNext) (a_twoBit := a_twoBit) (a_jumpDelta := a_jumpDelta) (a_robPc := a_robPc) (a_robPredicted := a_robPredicted) (a_robState := a_robState) (a_robRemaining := a_robRemaining) (a_robValue := a_robValue) (a_robFault := a_robFault) (a_robNext := a_robNext) (a_robSrc1 := a_robSrc1) (a_robVal1 := a_robVal1) (a_robSrc2 := a_robSrc2) (a_robVal2 := a_robVal2) (a_robOp := a_robOp) (a_robC := a_robC) (a_robDest := a_robDest) (a_mapSlot := a_mapSlot) (a_unitBusy := a_unitBusy) (a_settings := a_settings) (a_queuePc := a_queuePc) (a_queueNext := a_queueNext) (a_ePc := a_ePc) (a_ePredicted := a_ePredicted) (a_eState := a_eState) (a_eRemaining := a_eRemaining) (a_eValue := a_eValue) (a_eFault := a_eFault) (a_eNext := a_eNext) (a_eWait1 := a_eWait1) (a_eVal1 := a_eVal1) (a_eWait2 := a_eWait2) (a_eVal2 := a_eVal2) v1 v2
  by_cases f0 : v1 = 0
  · by_cases h0 : v2 < 0
    · refine ⟨r, fun post G => ?_, fun post G => ?_⟩
      · show wpX_predictor post ((nI rs), f_stations, f_queueSize, (nI w), f_phase, f_pc, f_epc, f_cause, f_handling, f_vector, (nI len), f_fetchPc, f_parked, (nI qh), (nI qc), (nI h), (nI c), f_waitingCount, f_memCount, a_regs, a_memory, a_progOp, a_progA, a_progB, a_progC, a_latency, a_counters, a_fqPc, a_fqNext, a_twoBit, a_jumpDelta, a_robPc, a_robPredicted, a_robState, a_robRemaining, a_robValue, a_robFault, a_robNext, a_robSrc1, a_robVal1, a_robSrc2, a_robVal2, a_robOp, a_robC, a_robDest, a_mapSlot, a_unitBusy) v1 v2
        exact br_t f0 (br_t h0 (gX _ G))
      · show wpY_predictor post (f_pc, f_epc, f_cause, f_handling, f_vector, f_phase, (nI len), f_fetchPc, f_parked, (nI qc), (nI c), a_regs, a_memory, a_progOp, a_progA, a_progB, a_progC, a_counters, a_settings, a_queuePc, a_queueNext, a_twoBit, a_jumpDelta, a_ePc, a_ePredicted, a_eState, a_eRemaining, a_eValue, a_eFault, a_eNext, a_eWait1, a_eVal1, a_eWait2, a_eVal2) v1 v2
        exact br_t f0 (br_t h0 (gY _ G))
    · by_cases h15 : 15 < v2
      · refine ⟨r, fun post G => ?_, fun post G => ?_⟩
        · show wpX_predictor post ((nI rs), f_stations, f_queueSize, (nI w), f_phase, f_pc, f_epc, f_cause, f_handling, f_vector, (nI len), f_fetchPc, f_parked, (nI qh), (nI qc), (nI h), (nI c), f_waitingCount, f_memCount, a_regs, a_memory, a_progOp, a_progA, a_progB, a_progC, a_latency, a_counters, a_fqPc, a_fqNext, a_twoBit, a_jumpDelta, a_robPc, a_robPredicted, a_robState, a_robRemaining, a_robValue, a_robFault, a_robNext, a_robSrc1, a_robVal1, a_robSrc2, a_robVal2, a_robOp, a_robC, a_robDest, a_mapSlot, a_unitBusy) v1 v2
          exact br_t f0 (br_f h0 (br_t (rc_15.mp h15) (gX _ G)))
        · show wpY_predictor post (f_pc, f_epc, f_cause, f_handling, f_vector, f_phase, (nI len), f_fetchPc, f_parked, (nI qc), (nI c), a_regs, a_memory, a_progOp, a_progA, a_progB, a_progC, a_counters, a_settings, a_queuePc, a_queueNext, a_twoBit, a_jumpDelta, a_ePc, a_ePredicted, a_eState, a_eRemaining, a_eValue, a_eFault, a_eNext, a_eWait1, a_eVal1, a_eWait2, a_eVal2) v1 v2
          exact br_t f0 (br_f h0 (br_t h15 (gY _ G)))
      · have hin : vp_in v2 16 := in_le (M := 15) (n := 15) (by decide) (by decide) h0 (Int32.not_lt.mp h15)
        refine ⟨a_twoBit v2.toNatClampNeg, fun post G => ?_, fun post G => ?_⟩
        · show wpX_predictor post ((nI rs), f_stations, f_queueSize, (nI w), f_phase, f_pc, f_epc, f_cause, f_handling, f_vector, (nI len), f_fetchPc, f_parked, (nI qh), (nI qc), (nI h), (nI c), f_waitingCount, f_memCount, a_regs, a_memory, a_progOp, a_progA, a_progB, a_progC, a_latency, a_counters, a_fqPc, a_fqNext, a_twoBit, a_jumpDelta, a_robPc, a_robPredicted, a_robState, a_robRemaining, a_robValue, a_robFault, a_robNext, a_robSrc1, a_robVal1, a_robSrc2, a_robVal2, a_robOp, a_robC, a_robDest, a_mapSlot, a_unitBusy) v1 v2
          exact br_t f0 (br_f h0 (br_f (fun z => h15 (rc_15.mpr z)) (And.intro hin G)))
        · show wpY_predictor post (f_pc, f_epc, f_cause, f_handling, f_vector, f_phase, (nI len), f_fetchPc, f_parked, (nI qc), (nI c), a_regs, a_memory, a_progOp, a_progA, a_progB, a_progC, a_counters, a_settings, a_queuePc, a_queueNext, a_twoBit, a_jumpDelta, a_ePc, a_ePredicted, a_eState, a_eRemaining, a_eValue, a_eFault, a_eNext, a_eWait1, a_eVal1, a_eWait2, a_eVal2) v1 v2
          exact br_t f0 (br_f h0 (br_f h15 (And.intro hin G)))
  · refine ⟨r, fun post G => ?_, fun post G => ?_⟩
    · show wpX_predictor post ((nI rs), f_stations, f_queueSize, (nI w), f_phase, f_pc, f_epc, f_cause, f_handling, f_vector, (nI len), f_fetchPc, f_parked, (nI qh), (nI qc), (nI h), (nI c), f_waitingCount, f_memCount, a_regs, a_memory, a_progOp, a_progA, a_progB, a_progC, a_latency, a_counters, a_fqPc, a_fqNext, a_twoBit, a_jumpDelta, a_robPc, a_robPredicted, a_robState, a_robRemaining, a_robValue, a_robFault, a_robNext, a_robSrc1, a_robVal1, a_robSrc2, a_robVal2, a_robOp, a_robC, a_robDest, a_mapSlot, a_unitBusy) v1 v2
      exact br_f f0 (gX _ G)
    · show wpY_predictor post (f_pc, f_epc, f_cause, f_handling, f_vector, f_phase, (nI len), f_fetchPc, f_parked, (nI qc), (nI c), a_regs, a_memory, a_progOp, a_progA, a_progB, a_progC, a_counters, a_settings, a_queuePc, a_queueNext, a_twoBit, a_jumpDelta, a_ePc, a_ePredicted, a_eState, a_eRemaining, a_eValue, a_eFault, a_eNext, a_eWait1, a_eVal1, a_eWait2, a_eVal2) v1 v2
      exact br_f f0 (gY _ G)
theorem j_g_setting (v1 : Int32) : ∀ z, rc_FZ z → rc_MR (fun post u => wpX_setting post u v1) (fun post v => wpY_setting post v v1) z := by
  refine rc_el ?_
  intro w rs len qh qc h c f_stations f_queueSize f_phase f_pc f_epc f_cause f_handling f_vector f_fetchPc f_parked f_waitingCount f_memCount a_regs a_memory a_progOp a_progA a_progB a_progC a_latency a_counters a_fqPc a_fqNext a_twoBit a_jumpDelta a_robPc a_robPredicted a_robState a_robRemaining a_robValue a_robFault a_robNext a_robSrc1 a_robVal1 a_robSrc2 a_robVal2 a_robOp a_robC a_robDest a_mapSlot a_unitBusy a_settings a_queuePc a_queueNext a_ePc a_ePredicted a_eState a_eRemaining a_eValue a_eFault a_eNext a_eWait1 a_eVal1 a_eWait2 a_eVal2 HF
  obtain ⟨H, _⟩ := HF
  have H' : rc_F0 w rs len qh qc h c f_stations f_queueSize f_waitingCount f_memCount a_latency a_settings a_progOp a_progA a_progB a_progC a_fqPc a_fqNext a_queuePc a_queueNext a_robPc a_robPredicted a_robState a_robRemaining a_robValue a_robFault a_robNext a_robSrc1 a_robVal1 a_robSrc2 a_robVal2 a_robOp a_robC a_robDest a_ePc a_ePredicted a_eState a_eRemaining a_eValue a_eFault a_eNext a_eWait1 a_eVal1 a_eWait2 a_eVal2 a_mapSlot a_unitBusy := H
  obtain ⟨⟨hw1, hw3, hrs, hs7, hs8, hs9, hs10, hset⟩, _⟩ := H'
  by_cases h0 : v1 < 0
  · refine ⟨0, fun post G => ?_, fun post G => ?_⟩
    · show wpX_setting post ((nI rs), f_stations, f_queueSize, (nI w), f_phase, f_pc, f_epc, f_cause, f_handling, f_vector, (nI len), f_fetchPc, f_parked, (nI qh), (nI qc), (nI h), (nI c), f_waitingCount, f_memCount, a_regs, a_memory, a_progOp, a_progA, a_progB, a_progC, a_latency, a_counters, a_fqPc, a_fqNext, a_twoBit, a_jumpDelta, a_robPc, a_robPredicted, a_robState, a_robRemaining, a_robValue, a_robFault, a_robNext, a_robSrc1, a_robVal1, a_robSrc2, a_robVal2, a_robOp, a_robC, a_robDest, a_mapSlot, a_unitBusy) v1
      exact br_t h0 (br_t (Int32.lt_trans h0 (by decide)) G)
    · show wpY_setting post (f_pc, f_epc, f_cause, f_handling, f_vector, f_phase, (nI len), f_fetchPc, f_parked, (nI qc), (nI c), a_regs, a_memory, a_progOp, a_progA, a_progB, a_progC, a_counters, a_settings, a_queuePc, a_queueNext, a_twoBit, a_jumpDelta, a_ePc, a_ePredicted, a_eState, a_eRemaining, a_eValue, a_eFault, a_eNext, a_eWait1, a_eVal1, a_eWait2, a_eVal2) v1
      exact br_t h0 G
  · by_cases h10 : v1 ≤ 10
    · obtain ⟨j, hj, e⟩ := nI_of2 (n := 10) (by decide) h0 h10
      subst e
      have hy : vp_in (nI j) 11 := vp_in_nI (by omega) (by omega)
      have hcl : (nI j).toNatClampNeg = j := nI_clamp (by omega)
      refine ⟨a_settings j, fun post G => ?_, fun post G => ?_⟩
      · show wpX_setting post ((nI rs), f_stations, f_queueSize, (nI w), f_phase, f_pc, f_epc, f_cause, f_handling, f_vector, (nI len), f_fetchPc, f_parked, (nI qh), (nI qc), (nI h), (nI c), f_waitingCount, f_memCount, a_regs, a_memory, a_progOp, a_progA, a_progB, a_progC, a_latency, a_counters, a_fqPc, a_fqNext, a_twoBit, a_jumpDelta, a_robPc, a_robPredicted, a_robState, a_robRemaining, a_robValue, a_robFault, a_robNext, a_robSrc1, a_robVal1, a_robSrc2, a_robVal2, a_robOp, a_robC, a_robDest, a_mapSlot, a_unitBusy) (nI j)
        by_cases j7 : j < 7
        · refine br_f h0 (br_f (nI_nlt (a := 6) (b := j) (by omega) (by omega)) (And.intro (vp_in_nI (by omega) (by omega)) ?_))
          rw [hcl, ← hset j j7]
          exact G
        · have k6 : (6 : Int32) < nI j := nI_lt (a := 6) (by omega) (by omega)
          have k7 : ¬ nI j < 7 := nI_nlt (b := 7) (by omega) (by omega)
          have k10 : ¬ (10 : Int32) < nI j := nI_nlt (a := 10) (b := j) (by omega) (by omega)
          refine br_f h0 (br_t k6 (br_f k7 (br_f k10 ?_)))
          have cs : j = 7 ∨ j = 8 ∨ j = 9 ∨ j = 10 := by omega
          rcases cs with e | e | e | e
          · subst e
            rw [hs7] at G
            exact br_t rfl G
          · subst e
            rw [hs8] at G
            exact br_f (by decide) (br_t rfl G)
          · subst e
            rw [hs9] at G
            exact br_f (by decide) (br_f (by decide) (br_t rfl G))
          · subst e
            rw [hs10] at G
            exact br_f (by decide) (br_f (by decide) (br_f (by decide) (br_t rfl G)))
      · show wpY_setting post (f_pc, f_epc, f_cause, f_handling, f_vector, f_phase, (nI len), f_fetchPc, f_parked, (nI qc), (nI c), a_regs, a_memory, a_progOp, a_progA, a_progB, a_progC, a_counters, a_settings, a_queuePc, a_queueNext, a_twoBit, a_jumpDelta, a_ePc, a_ePredicted, a_eState, a_eRemaining, a_eValue, a_eFault, a_eNext, a_eWait1, a_eVal1, a_eWait2, a_eVal2) (nI j)
        refine br_f h0 (br_t h10 (And.intro hy ?_))
        rw [hcl]
        exact G
    · have k10 : (10 : Int32) < v1 := Int32.not_le.mp h10
      have k6 : (6 : Int32) < v1 := Int32.lt_trans (by decide) k10
      have k7 : ¬ v1 < 7 := fun z => absurd (Int32.lt_trans k10 z) (by decide)
      refine ⟨0, fun post G => ?_, fun post G => ?_⟩
      · show wpX_setting post ((nI rs), f_stations, f_queueSize, (nI w), f_phase, f_pc, f_epc, f_cause, f_handling, f_vector, (nI len), f_fetchPc, f_parked, (nI qh), (nI qc), (nI h), (nI c), f_waitingCount, f_memCount, a_regs, a_memory, a_progOp, a_progA, a_progB, a_progC, a_latency, a_counters, a_fqPc, a_fqNext, a_twoBit, a_jumpDelta, a_robPc, a_robPredicted, a_robState, a_robRemaining, a_robValue, a_robFault, a_robNext, a_robSrc1, a_robVal1, a_robSrc2, a_robVal2, a_robOp, a_robC, a_robDest, a_mapSlot, a_unitBusy) v1
        exact br_f h0 (br_t k6 (br_f k7 (br_t k10 G)))
      · show wpY_setting post (f_pc, f_epc, f_cause, f_handling, f_vector, f_phase, (nI len), f_fetchPc, f_parked, (nI qc), (nI c), a_regs, a_memory, a_progOp, a_progA, a_progB, a_progC, a_counters, a_settings, a_queuePc, a_queueNext, a_twoBit, a_jumpDelta, a_ePc, a_ePredicted, a_eState, a_eRemaining, a_eValue, a_eFault, a_eNext, a_eWait1, a_eVal1, a_eWait2, a_eVal2) v1
        exact br_f h0 (br_f h10 G)
end
section
/-! the constructors -/
def rc_cl (v lo hi : Int32) : Int32 := if lo ≤ v then (if v ≤ hi then v else hi) else lo
theorem x_clamp {post : Int32 → Prop} {u : SX} {v lo hi : Int32} (H : post (rc_cl v lo hi)) : wpX_clamp post u v lo hi := if_br (post := post) H (fun H => if_br (post := post) H id id) id
theorem y_clamp {post : Int32 → Prop} {u : SY} {v lo hi : Int32} (H : post (rc_cl v lo hi)) : wpY_clamp post u v lo hi := if_br (post := post) H (fun H => if_br (post := post) H id id) id
theorem cl_r {a b : Nat} (hab : a ≤ b) (hb : b < 2 ^ 31) (v : Int32) : ∃ j, a ≤ j ∧ j ≤ b ∧ rc_cl v (nI a) (nI b) = nI j := by
  unfold rc_cl
  by_cases h : nI a ≤ v
  · rw [if_pos h]
    by_cases h2 : v ≤ nI b
    · rw [if_pos h2]
      have h0 : ¬ v < 0 := fun q => nI_pos (n := a) (by omega) (Int32.lt_of_le_of_lt h q)
      obtain ⟨j, hj, e⟩ := nI_of h0
      subst e
      exact ⟨j, (nI_leI (by omega) hj).mp h, (nI_leI hj hb).mp h2, rfl⟩
    · rw [if_neg h2]
      exact ⟨b, hab, Nat.le_refl _, rfl⟩
  · rw [if_neg h]
    exact ⟨a, Nat.le_refl _, hab, rfl⟩
def rc_fl (v : Int32) (i : Nat) : Nat → Int32 := fun k => if k < i then v else 0
theorem fl_0 {v : Int32} : rc_fl v 0 = fun _ => 0 := by
  funext k
  exact if_neg (by omega)
theorem fl_s {v : Int32} {i : Nat} : upd (rc_fl v i) i v = rc_fl v (i + 1) := by
  funext k
  by_cases q : k = i
  · rw [q, pk_us, rc_fl, if_pos (by omega)]
  · rw [pk_un q, rc_fl, rc_fl]
    by_cases q2 : k < i
    · rw [if_pos q2, if_pos (by omega)]
    · rw [if_neg q2, if_neg (by omega)]
def rc_lat : Nat → Int32 := upd (upd (upd (upd (upd (upd (upd (fun _ => 0) 0 1) 1 3) 2 8) 3 1) 4 3) 5 1) 6 1
section
variable {w rs len qh qc h c : Nat} {f_stations f_queueSize f_phase f_pc f_epc f_cause f_handling f_vector f_fetchPc f_parked f_waitingCount f_memCount : Int32} {a_regs a_memory a_progOp a_progA a_progB a_progC a_latency a_counters a_fqPc a_fqNext a_twoBit a_jumpDelta a_robPc a_robPredicted a_robState a_robRemaining a_robValue a_robFault a_robNext a_robSrc1 a_robVal1 a_robSrc2 a_robVal2 a_robOp a_robC a_robDest a_mapSlot a_unitBusy a_settings a_queuePc a_queueNext a_ePc a_ePredicted a_eState a_eRemaining a_eValue a_eFault a_eNext a_eWait1 a_eVal1 a_eWait2 a_eVal2 : Nat → Int32}
theorem x_i361 : ∀ (d i : Nat), i + d = 8 → ∀ (post : SX → Prop) (n : Nat), d < n → post ((nI rs), f_stations, f_queueSize, (nI w), f_phase, f_pc, f_epc, f_cause, f_handling, f_vector, (nI len), f_fetchPc, f_parked, (nI qh), (nI qc), (nI h), (nI c), f_waitingCount, f_memCount, a_regs, a_memory, a_progOp, a_progA, a_progB, a_progC, a_latency, a_counters, a_fqPc, a_fqNext, a_twoBit, a_jumpDelta, a_robPc, a_robPredicted, a_robState, a_robRemaining, a_robValue, a_robFault, a_robNext, a_robSrc1, a_robVal1, a_robSrc2, a_robVal2, a_robOp, a_robC, a_robDest, (rc_fl (-1) 8), a_unitBusy) → wX_init_361 post (nI rs) f_stations f_queueSize (nI w) f_phase f_pc f_epc f_cause f_handling f_vector (nI len) f_fetchPc f_parked (nI qh) (nI qc) (nI h) (nI c) f_waitingCount f_memCount n (nI i) a_regs a_memory a_progOp a_progA a_progB a_progC a_latency a_counters a_fqPc a_fqNext a_twoBit a_jumpDelta a_robPc a_robPredicted a_robState a_robRemaining a_robValue a_robFault a_robNext a_robSrc1 a_robVal1 a_robSrc2 a_robVal2 a_robOp a_robC a_robDest (rc_fl (-1) i) a_unitBusy := by
  intro d
  induction d with
  | zero =>
    intro i hi post n hn H
    have hi : i = 8 := by omega
    subst hi
    obtain ⟨n, rfl⟩ : ∃ m, n = m + 1 := ⟨n - 1, by omega⟩
    exact br_t (by decide) H
  | succ d ih =>
    intro i hi post n hn H
    obtain ⟨n, rfl⟩ : ∃ m, n = m + 1 := ⟨n - 1, by omega⟩
    have g := ih (i + 1) (by omega) post n (by omega) H
    refine br_f (nI_ge (b := 8) (by omega) (by omega)) (And.intro (vp_in_nI (by omega) (by omega)) ?_)
    rw [nI_clamp (by omega), fl_s]
    exact nm_e (nm_r (nI_1 i) g)
theorem x_i337 (hm : a_mapSlot = rc_fl (-1) 0) : ∀ (d i : Nat), i + d = 16 → ∀ (post : SX → Prop) (n : Nat), d < n → post ((nI rs), f_stations, f_queueSize, (nI w), f_phase, f_pc, f_epc, f_cause, f_handling, f_vector, (nI len), f_fetchPc, f_parked, (nI qh), (nI qc), (nI h), (nI c), f_waitingCount, f_memCount, a_regs, a_memory, a_progOp, a_progA, a_progB, a_progC, a_latency, a_counters, a_fqPc, a_fqNext, (rc_fl 1 16), a_jumpDelta, a_robPc, a_robPredicted, a_robState, a_robRemaining, a_robValue, a_robFault, a_robNext, a_robSrc1, a_robVal1, a_robSrc2, a_robVal2, a_robOp, a_robC, a_robDest, (rc_fl (-1) 8), a_unitBusy) → wX_init_337 post (nI rs) f_stations f_queueSize (nI w) f_phase f_pc f_epc f_cause f_handling f_vector (nI len) f_fetchPc f_parked (nI qh) (nI qc) (nI h) (nI c) f_waitingCount f_memCount n (nI i) a_regs a_memory a_progOp a_progA a_progB a_progC a_latency a_counters a_fqPc a_fqNext (rc_fl 1 i) a_jumpDelta a_robPc a_robPredicted a_robState a_robRemaining a_robValue a_robFault a_robNext a_robSrc1 a_robVal1 a_robSrc2 a_robVal2 a_robOp a_robC a_robDest a_mapSlot a_unitBusy := by
  intro d
  induction d with
  | zero =>
    intro i hi post n hn H
    have hi : i = 16 := by omega
    subst hi
    obtain ⟨n, rfl⟩ : ∃ m, n = m + 1 := ⟨n - 1, by omega⟩
    subst hm
    exact br_t (by decide) ⟨9, x_i361 8 0 (by omega) post 9 (by omega) H⟩
  | succ d ih =>
    intro i hi post n hn H
    obtain ⟨n, rfl⟩ : ∃ m, n = m + 1 := ⟨n - 1, by omega⟩
    have g := ih (i + 1) (by omega) post n (by omega) H
    refine br_f (nI_ge (b := 16) (by omega) (by omega)) (And.intro (vp_in_nI (by omega) (by omega)) ?_)
    rw [nI_clamp (by omega), fl_s]
    exact nm_e (nm_r (nI_1 i) g)
theorem y_i310 : ∀ (d i : Nat), i + d = 16 → ∀ (post : SY → Prop) (n : Nat), d < n → post (f_pc, f_epc, f_cause, f_handling, f_vector, f_phase, (nI len), f_fetchPc, f_parked, (nI qc), (nI c), a_regs, a_memory, a_progOp, a_progA, a_progB, a_progC, a_counters, a_settings, a_queuePc, a_queueNext, (rc_fl 1 16), a_jumpDelta, a_ePc, a_ePredicted, a_eState, a_eRemaining, a_eValue, a_eFault, a_eNext, a_eWait1, a_eVal1, a_eWait2, a_eVal2) → wY_init_310 post f_pc f_epc f_cause f_handling f_vector f_phase (nI len) f_fetchPc f_parked (nI qc) (nI c) n (nI i) a_regs a_memory a_progOp a_progA a_progB a_progC a_counters a_settings a_queuePc a_queueNext (rc_fl 1 i) a_jumpDelta a_ePc a_ePredicted a_eState a_eRemaining a_eValue a_eFault a_eNext a_eWait1 a_eVal1 a_eWait2 a_eVal2 := by
  intro d
  induction d with
  | zero =>
    intro i hi post n hn H
    have hi : i = 16 := by omega
    subst hi
    obtain ⟨n, rfl⟩ : ∃ m, n = m + 1 := ⟨n - 1, by omega⟩
    exact br_t (by decide) H
  | succ d ih =>
    intro i hi post n hn H
    obtain ⟨n, rfl⟩ : ∃ m, n = m + 1 := ⟨n - 1, by omega⟩
    have g := ih (i + 1) (by omega) post n (by omega) H
    refine br_f (nI_ge (b := 16) (by omega) (by omega)) (And.intro (vp_in_nI (by omega) (by omega)) ?_)
    rw [nI_clamp (by omega), fl_s]
    exact nm_e (nm_r (nI_1 i) g)
theorem f0_init {st qs : Int32} (h1 : 1 ≤ w) (h3 : w ≤ 3) (hr : rs ≤ 16) : rc_FZ (w, rs, 0, 0, 0, 0, 0, st, qs, 0, 0, 0, 0, 0, (-1), 0, 0, 0, 0, (fun _ => 0), (fun _ => 0), (fun _ => 0), (fun _ => 0), (fun _ => 0), (fun _ => 0), rc_lat, (fun _ => 0), (fun _ => 0), (fun _ => 0), (rc_fl 1 16), (fun _ => 0), (fun _ => 0), (fun _ => 0), (fun _ => 0), (fun _ => 0), (fun _ => 0), (fun _ => 0), (fun _ => 0), (fun _ => 0), (fun _ => 0), (fun _ => 0), (fun _ => 0), (fun _ => 0), (fun _ => 0), (fun _ => 0), (rc_fl (-1) 8), (fun _ => 0), (upd (upd (upd (upd rc_lat 7 (nI rs)) 8 st) 9 qs) 10 (nI w)), (fun _ => 0), (fun _ => 0), (fun _ => 0), (fun _ => 0), (fun _ => 0), (fun _ => 0), (fun _ => 0), (fun _ => 0), (fun _ => 0), (fun _ => 0), (fun _ => 0), (fun _ => 0), (fun _ => 0)) := by
  refine And.intro ?_ (And.intro (Or.inl rfl) (And.intro (Or.inl rfl) (Or.inr rfl)))
  unfold rc_F0 rc_Rb rc_Sz rc_Fq
  refine ⟨⟨h1, h3, hr, ?_, ?_, ?_, pk_us, fun i hi => ?_⟩, ⟨by omega, fun i hi => ⟨⟨0, by omega, rfl⟩, ⟨0, by omega, rfl⟩, ⟨0, by omega, rfl⟩, fun _ _ => ⟨0, by omega, rfl⟩⟩⟩, ⟨by omega, by omega, ra_0, ra_0⟩, ⟨by omega, by omega, ra_0, ra_0, ra_0, ra_0, ra_0, ra_0, ra_0, ra_0, ra_0, ra_0, ra_0, ra_0, ra_0, ra_0⟩, fun i hi => absurd hi (by omega), ?_, ?_, fun r hr => ?_, fun k hk => ?_⟩
  · rw [pk_un (by omega), pk_un (by omega), pk_un (by omega), pk_us]
  · rw [pk_un (by omega), pk_un (by omega), pk_us]
  · rw [pk_un (by omega), pk_us]
  · rw [pk_un (by omega), pk_un (by omega), pk_un (by omega), pk_un (by omega)]
  · rw [rc_cn]
  · rw [rc_cn]
  · rw [rc_yw, sl_m]
    exact if_pos hr
  · rw [rc_cn]
theorem j_init (k0 k1 k2 k3 : Int32) : ∃ z, rc_FZ z ∧ (∀ post : SX → Prop, post (rc_zX z) → wpX_init post k0 k1 k2 k3) ∧ (∀ post : SY → Prop, post (rc_zY z) → wpY_init post k0 k1 k2 k3) := by
  obtain ⟨rs, _, hr, e0⟩ := cl_r (a := 2) (b := 16) (by omega) (by omega) k0
  obtain ⟨w, h1, h3, e3⟩ := cl_r (a := 1) (b := 3) (by omega) (by omega) k3
  have e0 : rc_cl k0 2 16 = nI rs := e0
  have e3 : rc_cl k3 1 3 = nI w := e3
  generalize hst : rc_cl k1 1 8 = st
  generalize hqs : rc_cl k2 1 8 = qs
  refine ⟨(w, rs, 0, 0, 0, 0, 0, st, qs, 0, 0, 0, 0, 0, (-1), 0, 0, 0, 0, (fun _ => 0), (fun _ => 0), (fun _ => 0), (fun _ => 0), (fun _ => 0), (fun _ => 0), rc_lat, (fun _ => 0), (fun _ => 0), (fun _ => 0), (rc_fl 1 16), (fun _ => 0), (fun _ => 0), (fun _ => 0), (fun _ => 0), (fun _ => 0), (fun _ => 0), (fun _ => 0), (fun _ => 0), (fun _ => 0), (fun _ => 0), (fun _ => 0), (fun _ => 0), (fun _ => 0), (fun _ => 0), (fun _ => 0), (rc_fl (-1) 8), (fun _ => 0), (upd (upd (upd (upd rc_lat 7 (nI rs)) 8 st) 9 qs) 10 (nI w)), (fun _ => 0), (fun _ => 0), (fun _ => 0), (fun _ => 0), (fun _ => 0), (fun _ => 0), (fun _ => 0), (fun _ => 0), (fun _ => 0), (fun _ => 0), (fun _ => 0), (fun _ => 0), (fun _ => 0)), f0_init h1 h3 hr, fun post G => ?_, fun post G => ?_⟩
  · unfold wpX_init
    refine x_clamp ?_
    refine x_clamp ?_
    refine x_clamp ?_
    refine x_clamp ?_
    rw [e0, e3, hst, hqs]
    refine nm_e (nm_e (nm_e (nm_e (nm_e (nm_e (nm_e ⟨17, ?_⟩))))))
    have g := x_i337 (w := w) (rs := rs) (len := 0) (qh := 0) (qc := 0) (h := 0) (c := 0) (f_stations := st) (f_queueSize := qs) (f_phase := 0) (f_pc := 0) (f_epc := 0) (f_cause := 0) (f_handling := 0) (f_vector := -1) (f_fetchPc := 0) (f_parked := 0) (f_waitingCount := 0) (f_memCount := 0) (a_regs := (fun _ => 0)) (a_memory := (fun _ => 0)) (a_progOp := (fun _ => 0)) (a_progA := (fun _ => 0)) (a_progB := (fun _ => 0)) (a_progC := (fun _ => 0)) (a_latency := rc_lat) (a_counters := (fun _ => 0)) (a_fqPc := (fun _ => 0)) (a_fqNext := (fun _ => 0)) (a_jumpDelta := (fun _ => 0)) (a_robPc := (fun _ => 0)) (a_robPredicted := (fun _ => 0)) (a_robState := (fun _ => 0)) (a_robRemaining := (fun _ => 0)) (a_robValue := (fun _ => 0)) (a_robFault := (fun _ => 0)) (a_robNext := (fun _ => 0)) (a_robSrc1 := (fun _ => 0)) (a_robVal1 := (fun _ => 0)) (a_robSrc2 := (fun _ => 0)) (a_robVal2 := (fun _ => 0)) (a_robOp := (fun _ => 0)) (a_robC := (fun _ => 0)) (a_robDest := (fun _ => 0)) (a_mapSlot := rc_fl (-1) 0) (a_unitBusy := (fun _ => 0)) rfl 16 0 (by omega) post 17 (by omega) G
    rw [fl_0, fl_0] at g
    exact g
  · refine nm_e (nm_e (nm_e (nm_e (nm_e (nm_e (nm_e (y_clamp (nm_e (y_clamp (nm_e (y_clamp (nm_e (y_clamp (nm_e ⟨17, ?_⟩))))))))))))))
    rw [e0, e3, hst, hqs]
    have g := y_i310 (len := 0) (qc := 0) (c := 0) (f_phase := 0) (f_pc := 0) (f_epc := 0) (f_cause := 0) (f_handling := 0) (f_vector := -1) (f_fetchPc := 0) (f_parked := 0) (a_regs := (fun _ => 0)) (a_memory := (fun _ => 0)) (a_progOp := (fun _ => 0)) (a_progA := (fun _ => 0)) (a_progB := (fun _ => 0)) (a_progC := (fun _ => 0)) (a_counters := (fun _ => 0)) (a_settings := upd (upd (upd (upd rc_lat 7 (nI rs)) 8 st) 9 qs) 10 (nI w)) (a_queuePc := (fun _ => 0)) (a_queueNext := (fun _ => 0)) (a_jumpDelta := (fun _ => 0)) (a_ePc := (fun _ => 0)) (a_ePredicted := (fun _ => 0)) (a_eState := (fun _ => 0)) (a_eRemaining := (fun _ => 0)) (a_eValue := (fun _ => 0)) (a_eFault := (fun _ => 0)) (a_eNext := (fun _ => 0)) (a_eWait1 := (fun _ => 0)) (a_eVal1 := (fun _ => 0)) (a_eWait2 := (fun _ => 0)) (a_eVal2 := (fun _ => 0)) 16 0 (by omega) post 17 (by omega) G
    rw [fl_0] at g
    exact g
end
end
section
/-! what is owed -/
def i_Rel (k : Nat) (u : SX) (v : SY) : Prop := ∃ z : rc_Z, u = rc_zX z ∧ v = rc_zY z ∧ rc_FZ z
theorem i_up {k : Nat} {u : SX} {v : SY} (h : i_Rel k u v) : i_Rel (k + 5) u v := h
theorem i_vc0 (k0 : Int32) (k1 : Int32) (k2 : Int32) (k3 : Int32) : wpX_init (fun u => wpY_init (fun v => i_Rel 4 u v) k0 k1 k2 k3) k0 k1 k2 k3 := by
  obtain ⟨z, hF, hX, hY⟩ := j_init k0 k1 k2 k3
  exact hX _ (hY _ ⟨z, rfl, rfl, hF⟩)
theorem i_vc_emit {k : Nat} {u : SX} {v : SY} (I : i_Rel k u v) (hk : k + 5 ≤ 2564) (v1 : Int32) (v2 : Int32) (v3 : Int32) (v4 : Int32) : wpX_emit (fun r u' => wpY_emit (fun r' v' => r' = r ∧ i_Rel (k + 5) u' v') v v1 v2 v3 v4) u v1 v2 v3 v4 := by
  obtain ⟨z, rfl, rfl, F⟩ := I
  obtain ⟨z', r, F', hX, hY⟩ := j_m_emit v1 v2 v3 v4 z F
  exact hX _ (hY _ ⟨rfl, z', rfl, rfl, F'⟩)
theorem i_vc_clearProgram {k : Nat} {u : SX} {v : SY} (I : i_Rel k u v) (hk : k + 5 ≤ 2564) : wpX_clearProgram (fun r u' => wpY_clearProgram (fun r' v' => r' = r ∧ i_Rel (k + 5) u' v') v) u := by
  obtain ⟨z, rfl, rfl, F⟩ := I
  obtain ⟨z', r, F', hX, hY⟩ := j_m_clearProgram z F
  exact hX _ (hY _ ⟨rfl, z', rfl, rfl, F'⟩)
theorem i_vc_setReg {k : Nat} {u : SX} {v : SY} (I : i_Rel k u v) (hk : k + 5 ≤ 2564) (v1 : Int32) (v2 : Int32) : wpX_setReg (fun r u' => wpY_setReg (fun r' v' => r' = r ∧ i_Rel (k + 5) u' v') v v1 v2) u v1 v2 := by
  obtain ⟨z, rfl, rfl, F⟩ := I
  obtain ⟨z', r, F', hX, hY⟩ := j_m_setReg v1 v2 z F
  exact hX _ (hY _ ⟨rfl, z', rfl, rfl, F'⟩)
theorem i_vc_setMem {k : Nat} {u : SX} {v : SY} (I : i_Rel k u v) (hk : k + 5 ≤ 2564) (v1 : Int32) (v2 : Int32) : wpX_setMem (fun r u' => wpY_setMem (fun r' v' => r' = r ∧ i_Rel (k + 5) u' v') v v1 v2) u v1 v2 := by
  obtain ⟨z, rfl, rfl, F⟩ := I
  obtain ⟨z', r, F', hX, hY⟩ := j_m_setMem v1 v2 z F
  exact hX _ (hY _ ⟨rfl, z', rfl, rfl, F'⟩)
theorem i_vc_setLatency {k : Nat} {u : SX} {v : SY} (I : i_Rel k u v) (hk : k + 5 ≤ 2564) (v1 : Int32) (v2 : Int32) : wpX_setLatency (fun r u' => wpY_setLatency (fun r' v' => r' = r ∧ i_Rel (k + 5) u' v') v v1 v2) u v1 v2 := by
  obtain ⟨z, rfl, rfl, F⟩ := I
  obtain ⟨z', r, F', hX, hY⟩ := j_m_setLatency v1 v2 z F
  exact hX _ (hY _ ⟨rfl, z', rfl, rfl, F'⟩)
theorem i_vc_setVector {k : Nat} {u : SX} {v : SY} (I : i_Rel k u v) (hk : k + 5 ≤ 2564) (v1 : Int32) : wpX_setVector (fun r u' => wpY_setVector (fun r' v' => r' = r ∧ i_Rel (k + 5) u' v') v v1) u v1 := by
  obtain ⟨z, rfl, rfl, F⟩ := I
  obtain ⟨z', r, F', hX, hY⟩ := j_m_setVector v1 z F
  exact hX _ (hY _ ⟨rfl, z', rfl, rfl, F'⟩)
theorem i_vc_start {k : Nat} {u : SX} {v : SY} (I : i_Rel k u v) (hk : k + 5 ≤ 2564) (v1 : Int32) : wpX_start (fun r u' => wpY_start (fun r' v' => r' = r ∧ i_Rel (k + 5) u' v') v v1) u v1 := by
  obtain ⟨z, rfl, rfl, F⟩ := I
  obtain ⟨z', r, F', hX, hY⟩ := j_m_start v1 z F
  exact hX _ (hY _ ⟨rfl, z', rfl, rfl, F'⟩)
theorem i_vc_stop {k : Nat} {u : SX} {v : SY} (I : i_Rel k u v) (hk : k + 5 ≤ 2564) : wpX_stop (fun r u' => wpY_stop (fun r' v' => r' = r ∧ i_Rel (k + 5) u' v') v) u := by
  obtain ⟨z, rfl, rfl, F⟩ := I
  obtain ⟨z', r, F', hX, hY⟩ := j_m_stop z F
  exact hX _ (hY _ ⟨rfl, z', rfl, rfl, F'⟩)
theorem i_vc_interrupt {k : Nat} {u : SX} {v : SY} (I : i_Rel k u v) (hk : k + 5 ≤ 2564) : wpX_interrupt (fun r u' => wpY_interrupt (fun r' v' => r' = r ∧ i_Rel (k + 5) u' v') v) u := by
  obtain ⟨z, rfl, rfl, F⟩ := I
  obtain ⟨z', r, F', hX, hY⟩ := j_m_interrupt z F
  exact hX _ (hY _ ⟨rfl, z', rfl, rfl, F'⟩)
theorem i_vc_clock {k : Nat} {u : SX} {v : SY} (I : i_Rel k u v) (hk : k + 5 ≤ 2564) (v1 : Int32) : wpX_clock (fun r u' => wpY_clock (fun r' v' => r' = r ∧ i_Rel (k + 5) u' v') v v1) u v1 := by
  obtain ⟨z, rfl, rfl, F⟩ := I
  obtain ⟨z', r, F', hX, hY⟩ := j_m_clock v1 z F
  exact hX _ (hY _ ⟨rfl, z', rfl, rfl, F'⟩)
theorem i_vc_interpret {k : Nat} {u : SX} {v : SY} (I : i_Rel k u v) (hk : k + 5 ≤ 2564) (v1 : Int32) : wpX_interpret (fun r u' => wpY_interpret (fun r' v' => r' = r ∧ i_Rel (k + 5) u' v') v v1) u v1 := by
  obtain ⟨z, rfl, rfl, F⟩ := I
  obtain ⟨z', r, F', hX, hY⟩ := j_m_interpret v1 z F
  exact hX _ (hY _ ⟨rfl, z', rfl, rfl, F'⟩)
theorem i_vc_phase {k : Nat} {u : SX} {v : SY} (I : i_Rel k u v) (hk : k + 5 ≤ 2564) : wpX_phase (fun r => wpY_phase (fun r' => r' = r ∧ i_Rel (k + 5) u v) v) u := by
  obtain ⟨z, rfl, rfl, F⟩ := I
  obtain ⟨r, hX, hY⟩ := j_g_phase z F
  exact hX _ (hY _ ⟨rfl, z, rfl, rfl, F⟩)
theorem i_vc_pc {k : Nat} {u : SX} {v : SY} (I : i_Rel k u v) (hk : k + 5 ≤ 2564) : wpX_pc (fun r => wpY_pc (fun r' => r' = r ∧ i_Rel (k + 5) u v) v) u := by
  obtain ⟨z, rfl, rfl, F⟩ := I
  obtain ⟨r, hX, hY⟩ := j_g_pc z F
  exact hX _ (hY _ ⟨rfl, z, rfl, rfl, F⟩)
theorem i_vc_reg {k : Nat} {u : SX} {v : SY} (I : i_Rel k u v) (hk : k + 5 ≤ 2564) (v1 : Int32) : wpX_reg (fun r => wpY_reg (fun r' => r' = r ∧ i_Rel (k + 5) u v) v v1) u v1 := by
  obtain ⟨z, rfl, rfl, F⟩ := I
  obtain ⟨r, hX, hY⟩ := j_g_reg v1 z F
  exact hX _ (hY _ ⟨rfl, z, rfl, rfl, F⟩)
theorem i_vc_mem {k : Nat} {u : SX} {v : SY} (I : i_Rel k u v) (hk : k + 5 ≤ 2564) (v1 : Int32) : wpX_mem (fun r => wpY_mem (fun r' => r' = r ∧ i_Rel (k + 5) u v) v v1) u v1 := by
  obtain ⟨z, rfl, rfl, F⟩ := I
  obtain ⟨r, hX, hY⟩ := j_g_mem v1 z F
  exact hX _ (hY _ ⟨rfl, z, rfl, rfl, F⟩)
theorem i_vc_epc {k : Nat} {u : SX} {v : SY} (I : i_Rel k u v) (hk : k + 5 ≤ 2564) : wpX_epc (fun r => wpY_epc (fun r' => r' = r ∧ i_Rel (k + 5) u v) v) u := by
  obtain ⟨z, rfl, rfl, F⟩ := I
  obtain ⟨r, hX, hY⟩ := j_g_epc z F
  exact hX _ (hY _ ⟨rfl, z, rfl, rfl, F⟩)
theorem i_vc_cause {k : Nat} {u : SX} {v : SY} (I : i_Rel k u v) (hk : k + 5 ≤ 2564) : wpX_cause (fun r => wpY_cause (fun r' => r' = r ∧ i_Rel (k + 5) u v) v) u := by
  obtain ⟨z, rfl, rfl, F⟩ := I
  obtain ⟨r, hX, hY⟩ := j_g_cause z F
  exact hX _ (hY _ ⟨rfl, z, rfl, rfl, F⟩)
theorem i_vc_handling {k : Nat} {u : SX} {v : SY} (I : i_Rel k u v) (hk : k + 5 ≤ 2564) : wpX_handling (fun r => wpY_handling (fun r' => r' = r ∧ i_Rel (k + 5) u v) v) u := by
  obtain ⟨z, rfl, rfl, F⟩ := I
  obtain ⟨r, hX, hY⟩ := j_g_handling z F
  exact hX _ (hY _ ⟨rfl, z, rfl, rfl, F⟩)
theorem i_vc_vector {k : Nat} {u : SX} {v : SY} (I : i_Rel k u v) (hk : k + 5 ≤ 2564) : wpX_vector (fun r => wpY_vector (fun r' => r' = r ∧ i_Rel (k + 5) u v) v) u := by
  obtain ⟨z, rfl, rfl, F⟩ := I
  obtain ⟨r, hX, hY⟩ := j_g_vector z F
  exact hX _ (hY _ ⟨rfl, z, rfl, rfl, F⟩)
theorem i_vc_programLength {k : Nat} {u : SX} {v : SY} (I : i_Rel k u v) (hk : k + 5 ≤ 2564) : wpX_programLength (fun r => wpY_programLength (fun r' => r' = r ∧ i_Rel (k + 5) u v) v) u := by
  obtain ⟨z, rfl, rfl, F⟩ := I
  obtain ⟨r, hX, hY⟩ := j_g_programLength z F
  exact hX _ (hY _ ⟨rfl, z, rfl, rfl, F⟩)
theorem i_vc_instruction {k : Nat} {u : SX} {v : SY} (I : i_Rel k u v) (hk : k + 5 ≤ 2564) (v1 : Int32) (v2 : Int32) : wpX_instruction (fun r => wpY_instruction (fun r' => r' = r ∧ i_Rel (k + 5) u v) v v1 v2) u v1 v2 := by
  obtain ⟨z, rfl, rfl, F⟩ := I
  obtain ⟨r, hX, hY⟩ := j_g_instruction v1 v2 z F
  exact hX _ (hY _ ⟨rfl, z, rfl, rfl, F⟩)
theorem i_vc_inFlight {k : Nat} {u : SX} {v : SY} (I : i_Rel k u v) (hk : k + 5 ≤ 2564) : wpX_inFlight (fun r => wpY_inFlight (fun r' => r' = r ∧ i_Rel (k + 5) u v) v) u := by
  obtain ⟨z, rfl, rfl, F⟩ := I
  obtain ⟨r, hX, hY⟩ := j_g_inFlight z F
  exact hX _ (hY _ ⟨rfl, z, rfl, rfl, F⟩)
theorem i_vc_entry {k : Nat} {u : SX} {v : SY} (I : i_Rel k u v) (hk : k + 5 ≤ 2564) (v1 : Int32) (v2 : Int32) : wpX_entry (fun r => wpY_entry (fun r' => r' = r ∧ i_Rel (k + 5) u v) v v1 v2) u v1 v2 := by
  obtain ⟨z, rfl, rfl, F⟩ := I
  obtain ⟨r, hX, hY⟩ := j_g_entry v1 v2 z F
  exact hX _ (hY _ ⟨rfl, z, rfl, rfl, F⟩)
theorem i_vc_renamed {k : Nat} {u : SX} {v : SY} (I : i_Rel k u v) (hk : k + 5 ≤ 2564) (v1 : Int32) : wpX_renamed (fun r => wpY_renamed (fun r' => r' = r ∧ i_Rel (k + 5) u v) v v1) u v1 := by
  obtain ⟨z, rfl, rfl, F⟩ := I
  obtain ⟨r, hX, hY⟩ := j_g_renamed v1 z F
  exact hX _ (hY _ ⟨rfl, z, rfl, rfl, F⟩)
theorem i_vc_frontEnd {k : Nat} {u : SX} {v : SY} (I : i_Rel k u v) (hk : k + 5 ≤ 2564) (v1 : Int32) : wpX_frontEnd (fun r => wpY_frontEnd (fun r' => r' = r ∧ i_Rel (k + 5) u v) v v1) u v1 := by
  obtain ⟨z, rfl, rfl, F⟩ := I
  obtain ⟨r, hX, hY⟩ := j_g_frontEnd v1 z F
  exact hX _ (hY _ ⟨rfl, z, rfl, rfl, F⟩)
theorem i_vc_fetched {k : Nat} {u : SX} {v : SY} (I : i_Rel k u v) (hk : k + 5 ≤ 2564) (v1 : Int32) (v2 : Int32) : wpX_fetched (fun r => wpY_fetched (fun r' => r' = r ∧ i_Rel (k + 5) u v) v v1 v2) u v1 v2 := by
  obtain ⟨z, rfl, rfl, F⟩ := I
  obtain ⟨r, hX, hY⟩ := j_g_fetched v1 v2 z F
  exact hX _ (hY _ ⟨rfl, z, rfl, rfl, F⟩)
theorem i_vc_predictor {k : Nat} {u : SX} {v : SY} (I : i_Rel k u v) (hk : k + 5 ≤ 2564) (v1 : Int32) (v2 : Int32) : wpX_predictor (fun r => wpY_predictor (fun r' => r' = r ∧ i_Rel (k + 5) u v) v v1 v2) u v1 v2 := by
  obtain ⟨z, rfl, rfl, F⟩ := I
  obtain ⟨r, hX, hY⟩ := j_g_predictor v1 v2 z F
  exact hX _ (hY _ ⟨rfl, z, rfl, rfl, F⟩)
theorem i_vc_setting {k : Nat} {u : SX} {v : SY} (I : i_Rel k u v) (hk : k + 5 ≤ 2564) (v1 : Int32) : wpX_setting (fun r => wpY_setting (fun r' => r' = r ∧ i_Rel (k + 5) u v) v v1) u v1 := by
  obtain ⟨z, rfl, rfl, F⟩ := I
  obtain ⟨r, hX, hY⟩ := j_g_setting v1 z F
  exact hX _ (hY _ ⟨rfl, z, rfl, rfl, F⟩)
theorem i_vc_counter {k : Nat} {u : SX} {v : SY} (I : i_Rel k u v) (hk : k + 5 ≤ 2564) (v1 : Int32) : wpX_counter (fun r => wpY_counter (fun r' => r' = r ∧ i_Rel (k + 5) u v) v v1) u v1 := by
  obtain ⟨z, rfl, rfl, F⟩ := I
  obtain ⟨r, hX, hY⟩ := j_g_counter v1 z F
  exact hX _ (hY _ ⟨rfl, z, rfl, rfl, F⟩)
end
