section
/-! pure rows to paste: stores, nI and lN arithmetic, masks, shifts, narrowing, branches by naturals (pk_le, pk_lt, pk_eq), loops (lp1 .. lp16: the measure of the state; rp1 ..: recursion), negatives. Take what you need -/
theorem pk_us {f : Nat → Int32} {k : Nat} {x : Int32} : upd f k x k = x := if_pos rfl
theorem pk_un {f : Nat → Int32} {k j : Nat} {x : Int32} (h : j ≠ k) : upd f k x j = f j := if_neg h
theorem pk_uLs {f : Nat → Int64} {k : Nat} {x : Int64} : vp_updL f k x k = x := if_pos rfl
theorem pk_uLn {f : Nat → Int64} {k j : Nat} {x : Int64} (h : j ≠ k) : vp_updL f k x j = f j := if_neg h
theorem pk_sub {a b : Nat} (h : b ≤ a) : nI a - nI b = nI (a - b) := by
  obtain ⟨c, rfl⟩ : ∃ c, a = c + b := ⟨a - b, by omega⟩
  rw [← nI_add, Int32.add_sub_cancel, Nat.add_sub_cancel]
theorem pk_m1 (n : Nat) : nI (n + 1) + (-1) = nI n := by
  rw [← nI_1, Int32.add_assoc, show (1 : Int32) + (-1) = 0 from rfl, Int32.add_zero]
theorem pk_mul (a b : Nat) : nI a * nI b = nI (a * b) := (Int32.ofNat_mul a b).symm
theorem pk_div {a d : Nat} (ha : a < 2 ^ 31) (h0 : 0 < d) (hd : d < 2 ^ 31) : nI a / nI d = nI (a / d) := by
  apply Int32.toInt_inj.mp
  rw [lg_idiv_nonneg (by rw [nI_toInt ha]; omega) (by rw [nI_toInt hd]; omega), nI_toInt ha, nI_toInt hd, nI_toInt (Nat.lt_of_le_of_lt (Nat.div_le_self a d) ha)]
  first | rfl | exact (Int.natCast_ediv _ _).symm
theorem pk_rem {a d : Nat} (ha : a < 2 ^ 31) (h0 : 0 < d) (hd : d < 2 ^ 31) : nI a - nI a / nI d * nI d = nI (a % d) := by
  rw [pk_div ha h0 hd, pk_mul, pk_sub (Nat.div_mul_le_self a d)]
  exact congrArg nI (by have := Nat.div_add_mod' a d; omega)
theorem pk_sub_toInt {a b : Nat} (ha : a < 2 ^ 30) (hb : b < 2 ^ 30) : (nI a - nI b).toInt = (a : Int) - b := by
  rw [Int32.toInt_sub, nI_toInt (by omega), nI_toInt (by omega)]
  exact Int.bmod_eq_of_le (by omega) (by omega)
theorem pk_sneg {a b : Nat} (hb : b < 2 ^ 30) (h : a < b) : nI a - nI b < 0 := by
  rw [Int32.lt_iff_toInt_lt, pk_sub_toInt (by omega) hb, show (0 : Int32).toInt = 0 from by decide]
  omega
theorem pk_ix (x : Int32) {n : Nat} (hn : n < 2 ^ 31) : x < 0 ∨ nI n ≤ x ∨ ∃ j : Nat, j < n ∧ x = nI j := by
  by_cases h : x < 0
  · exact Or.inl h
  · obtain ⟨j, hj, rfl⟩ := nI_of h
    by_cases h2 : j < n
    · exact Or.inr (Or.inr ⟨j, h2, rfl⟩)
    · exact Or.inr (Or.inl (nI_le (by omega) hj))
theorem pk_le {x y : Int32} {A B : Prop} (a b : Nat) (f : a ≤ b → A) (g : b < a → B) (hx : x = nI a := by rfl) (hy : y = nI b := by rfl) (ha : a < 2 ^ 31 := by omega) (hb : b < 2 ^ 31 := by omega) : (x ≤ y → A) ∧ (¬ x ≤ y → B) := by
  subst hx hy
  rw [nI_leI ha hb]
  exact ⟨f, fun z => g (by omega)⟩
theorem pk_lt {x y : Int32} {A B : Prop} (a b : Nat) (f : a < b → A) (g : b ≤ a → B) (hx : x = nI a := by rfl) (hy : y = nI b := by rfl) (ha : a < 2 ^ 31 := by omega) (hb : b < 2 ^ 31 := by omega) : (x < y → A) ∧ (¬ x < y → B) := by
  subst hx hy
  rw [nI_ltI ha hb]
  exact ⟨f, fun z => g (by omega)⟩
theorem pk_eq {x y : Int32} {A B : Prop} (a b : Nat) (f : a = b → A) (g : a ≠ b → B) (hx : x = nI a := by rfl) (hy : y = nI b := by rfl) (ha : a < 2 ^ 31 := by omega) (hb : b < 2 ^ 31 := by omega) : (x = y → A) ∧ (¬ x = y → B) := by
  subst hx hy
  rw [nI_eq ha hb]
  exact ⟨f, g⟩
theorem pk_in {x : Int32} (n N : Nat) (h : n < N) (hx : x = nI n := by rfl) (hN : N < 2 ^ 31 := by omega) : vp_in x N := by
  subst hx
  exact vp_in_nI h hN
theorem pk_cl {x : Int32} (n : Nat) (hx : x = nI n := by rfl) (h : n < 2 ^ 31 := by omega) : x.toNatClampNeg = n := by
  subst hx
  exact nI_clamp h
theorem pk_tn {n : Nat} (h : n < 2 ^ 32) : (nI n).toBitVec.toNat = n := Nat.mod_eq_of_lt h
theorem pk_and (x : Int32) {m : Int32} (k : Nat) (hm : m.toBitVec.toNat = 2 ^ k - 1) : x &&& m = nI (x.toBitVec.toNat % 2 ^ k) := by
  apply Int32.toBitVec_inj.mp
  apply BitVec.eq_of_toNat_eq
  rw [Int32.toBitVec_and, BitVec.toNat_and, hm, Nat.and_two_pow_sub_one_eq_mod]
  show _ = (BitVec.ofNat 32 _).toNat
  rw [BitVec.toNat_ofNat]
  exact (Nat.mod_eq_of_lt (Nat.lt_of_le_of_lt (Nat.mod_le _ _) x.toBitVec.isLt)).symm
theorem pk_andN {n : Nat} (h : n < 2 ^ 32) {m : Int32} (k : Nat) (hm : m.toBitVec.toNat = 2 ^ k - 1) : nI n &&& m = nI (n % 2 ^ k) := by
  rw [pk_and _ k hm, pk_tn h]
theorem pk_andE (x : Int32) {m : Int32} (k : Nat) (hm : m.toBitVec.toNat = 2 ^ k - 1) : ∃ j : Nat, j < 2 ^ k ∧ x &&& m = nI j := ⟨_, Nat.mod_lt _ (Nat.two_pow_pos k), pk_and x k hm⟩
theorem pk_andIn (x : Int32) {m : Int32} (k : Nat) (hm : m.toBitVec.toNat = 2 ^ k - 1) (hk : k ≤ 30) : vp_in (x &&& m) (2 ^ k) := by
  obtain ⟨j, hj, e⟩ := pk_andE x k hm
  rw [e]
  exact vp_in_nI hj (Nat.lt_of_le_of_lt (Nat.pow_le_pow_right (by decide) hk) (by decide))
theorem pk_shl (a s : Int32) (k : Nat) (hs : (s.toBitVec.smod 32).toNat = k) : (a <<< s).toBitVec.toNat = a.toBitVec.toNat * 2 ^ k % 2 ^ 32 := by
  show (a.toBitVec <<< (s.toBitVec.smod 32).toNat).toNat = _
  rw [hs, BitVec.toNat_shiftLeft, Nat.shiftLeft_eq]
theorem pk_shlN {n : Nat} (s : Int32) (k : Nat) (hs : (s.toBitVec.smod 32).toNat = k) (h : n * 2 ^ k < 2 ^ 32) : nI n <<< s = nI (n * 2 ^ k) := by
  apply Int32.toBitVec_inj.mp
  apply BitVec.eq_of_toNat_eq
  have hn : n < 2 ^ 32 := Nat.lt_of_le_of_lt (Nat.le_mul_of_pos_right n (Nat.two_pow_pos k)) h
  rw [pk_shl _ _ k hs, pk_tn hn, pk_tn h, Nat.mod_eq_of_lt h]
theorem pk_shr (a s : Int32) (k : Nat) (hs : (s.toBitVec.smod 32).toNat = k) : (a >>> s).toInt = a.toInt >>> k := by
  show (a.toBitVec.sshiftRight (s.toBitVec.smod 32).toNat).toInt = _
  rw [hs, BitVec.toInt_sshiftRight]
  rfl
theorem pk_shrN {n : Nat} (h : n < 2 ^ 31) (s : Int32) (k : Nat) (hs : (s.toBitVec.smod 32).toNat = k) : nI n >>> s = nI (n / 2 ^ k) := by
  apply Int32.toInt_inj.mp
  have h2 : n / 2 ^ k ≤ n := Nat.div_le_self _ _
  rw [pk_shr _ _ k hs, nI_toInt h, nI_toInt (by omega), Int.shiftRight_eq_div_pow]
  rfl
end
section
/-! the pure side: programs by local conditions, the evaluator, its laws -/
abbrev cc_V : Type := Int32 × Int32
abbrev cc_E : Type := Nat → cc_V
abbrev cc_S : Type := Nat × Nat × (Nat → Nat × cc_E)
abbrev cc_R : Type := Int32 × cc_V × cc_S
def cc_set (e : cc_E) (v : Nat) (x : cc_V) : cc_E := fun j => if j = v then x else e j
def cc_op (k x y : Int32) : Int32 := if k = 0 then x + y else if k = 1 then x - y else if k = 2 then x * y else if y ≤ x then 0 else 1
def cc_then (r : cc_R) (f : cc_V → cc_S → cc_R) : cc_R := if r.1 = -1 then f r.2.1 r.2.2 else r
def cc_arg (N : Nat → Int32) (t : Nat × cc_E) (v1 v2 : cc_V) : cc_E := cc_set (cc_set t.2 ((N t.1).toNatClampNeg / 4) v1) ((N t.1).toNatClampNeg % 4) v2
def cc_ev (K N : Nat → Int32) (A B C : Nat → Nat) : Nat → Nat → cc_E → cc_S → cc_R
  | 0, _, _, s => (9, (0, 0), s)
  | g + 1, x, e, s =>
    if K x = 8 then (-1, (0, N x), s)
    else if K x = 9 then (if (e (N x).toNatClampNeg).1 = 2 then (2, (0, 0), s) else (-1, e (N x).toNatClampNeg, s))
    else if K x = 7 then (-1, (1, nI s.2.1), (s.1, s.2.1 + 1, fun j => if j = s.2.1 then (x, e) else s.2.2 j))
    else if K x = 5 then cc_then (cc_ev K N A B C g (A x) e s) (fun v1 s1 =>
        if v1.1 = 0 then (if v1.2 = 0 then cc_ev K N A B C g (C x) e s1 else cc_ev K N A B C g (B x) e s1) else (2, (0, 0), s1))
    else if K x = 6 then cc_then (cc_ev K N A B C g (A x) e s) (fun v1 s1 => cc_ev K N A B C g (B x) (cc_set e (N x).toNatClampNeg v1) s1)
    else cc_then (cc_ev K N A B C g (A x) e s) (fun v1 s1 => cc_then (cc_ev K N A B C g (B x) e s1) (fun v2 s2 =>
        if K x = 4 then (if v1.1 = 1 then (if s2.1 = 60 then (3, (0, 0), s2) else cc_ev K N A B C g (A (s2.2.2 v1.2.toNatClampNeg).1) (cc_arg N (s2.2.2 v1.2.toNatClampNeg) v1 v2) (s2.1 + 1, s2.2)) else (2, (0, 0), s2))
        else if v1.1 = 0 then (if v2.1 = 0 then (-1, (0, cc_op (K x) v1.2 v2.2), s2) else (2, (0, 0), s2)) else (2, (0, 0), s2)))
/-- a good program x, by its kind -/
def cc_Nd (K N W P : Nat → Int32) (A B C z : Nat → Nat) (fr : Nat → Nat → Bool) (x : Nat) : Prop :=
  (K x = 8 ∧ z x = 1 ∧ ∀ v, fr x v = false) ∨
  (K x = 9 ∧ z x = 1 ∧ ∃ w, w < 4 ∧ N x = nI w ∧ ∀ v, fr x v = decide (v = w)) ∨
  (K x = 7 ∧ A x < x ∧ W (A x) = nI x ∧ P (A x) = 0 ∧ z x = 1 + z (A x) ∧ ∃ f w, f < 4 ∧ w < 4 ∧ N x = nI (4 * f + w) ∧ ∀ v, fr x v = (fr (A x) v && !decide (v = f) && !decide (v = w))) ∨
  (K x = 6 ∧ A x < x ∧ B x < x ∧ W (A x) = nI x ∧ P (A x) = 0 ∧ W (B x) = nI x ∧ P (B x) = 1 ∧ z x = 1 + z (A x) + z (B x) ∧ ∃ w, w < 4 ∧ N x = nI w ∧ ∀ v, fr x v = (fr (A x) v || (fr (B x) v && !decide (v = w)))) ∨
  (K x = 5 ∧ A x < x ∧ B x < x ∧ C x < x ∧ W (A x) = nI x ∧ P (A x) = 0 ∧ W (B x) = nI x ∧ P (B x) = 1 ∧ W (C x) = nI x ∧ P (C x) = 2 ∧ z x = 1 + z (A x) + z (B x) + z (C x) ∧ ∀ v, fr x v = (fr (A x) v || fr (B x) v || fr (C x) v)) ∨
  (∃ k, k < 5 ∧ K x = nI k ∧ A x < x ∧ B x < x ∧ W (A x) = nI x ∧ P (A x) = 0 ∧ W (B x) = nI x ∧ P (B x) = 1 ∧ z x = 1 + z (A x) + z (B x) ∧ ∀ v, fr x v = (fr (A x) v || fr (B x) v))
theorem cc_if {c : Prop} [Decidable c] (Q : cc_R → Prop) {a b : cc_R} (ha : c → Q a) (hb : ¬ c → Q b) : Q (if c then a else b) := by
  by_cases h : c
  · rw [if_pos h]; exact ha h
  · rw [if_neg h]; exact hb h
theorem cc_k5 : ∀ k, k < 5 → nI k ≠ 5 ∧ nI k ≠ 6 ∧ nI k ≠ 7 ∧ nI k ≠ 8 ∧ nI k ≠ 9 := by decide
theorem cc_k4 : ∀ k, k < 5 → (nI k = 4 ↔ k = 4) := by decide
theorem cc_n1 : (-1 : Int32) ≠ 9 := by decide
theorem cc_n2 : (2 : Int32) ≠ 9 := by decide
theorem cc_n3 : (3 : Int32) ≠ 9 := by decide
theorem cc_klt : ∀ k, k < 5 → nI k < 7 := by decide
section
variable {n : Nat} {K N W P : Nat → Int32} {A B C z : Nat → Nat} {fr : Nat → Nat → Bool}
theorem cc_z1 {x : Nat} (h : cc_Nd K N W P A B C z fr x) : 1 ≤ z x := by
  rcases h with h | h | h | h | h | ⟨k, h⟩ <;> (have := h.2; omega)
theorem cc_ev8 {g x : Nat} {e : cc_E} {s : cc_S} (h : K x = 8) : cc_ev K N A B C (g + 1) x e s = (-1, (0, N x), s) := by
  rw [cc_ev, if_pos h]
theorem cc_ev9 {g x : Nat} {e : cc_E} {s : cc_S} (h : K x = 9) : cc_ev K N A B C (g + 1) x e s = (if (e (N x).toNatClampNeg).1 = 2 then (2, (0, 0), s) else (-1, e (N x).toNatClampNeg, s)) := by
  rw [cc_ev, h]; rfl
theorem cc_ev7 {g x : Nat} {e : cc_E} {s : cc_S} (h : K x = 7) : cc_ev K N A B C (g + 1) x e s = (-1, (1, nI s.2.1), (s.1, s.2.1 + 1, fun j => if j = s.2.1 then (x, e) else s.2.2 j)) := by
  rw [cc_ev, h]; rfl
theorem cc_ev5 {g x : Nat} {e : cc_E} {s : cc_S} (h : K x = 5) : cc_ev K N A B C (g + 1) x e s = cc_then (cc_ev K N A B C g (A x) e s) (fun v1 s1 =>
        if v1.1 = 0 then (if v1.2 = 0 then cc_ev K N A B C g (C x) e s1 else cc_ev K N A B C g (B x) e s1) else (2, (0, 0), s1)) := by
  rw [cc_ev, h]; rfl
theorem cc_ev6 {g x : Nat} {e : cc_E} {s : cc_S} (h : K x = 6) : cc_ev K N A B C (g + 1) x e s = cc_then (cc_ev K N A B C g (A x) e s) (fun v1 s1 => cc_ev K N A B C g (B x) (cc_set e (N x).toNatClampNeg v1) s1) := by
  rw [cc_ev, h]; rfl
theorem cc_ev4 {g x : Nat} {e : cc_E} {s : cc_S} (h : K x = 4) : cc_ev K N A B C (g + 1) x e s = cc_then (cc_ev K N A B C g (A x) e s) (fun v1 s1 => cc_then (cc_ev K N A B C g (B x) e s1) (fun v2 s2 =>
        if v1.1 = 1 then (if s2.1 = 60 then (3, (0, 0), s2) else cc_ev K N A B C g (A (s2.2.2 v1.2.toNatClampNeg).1) (cc_arg N (s2.2.2 v1.2.toNatClampNeg) v1 v2) (s2.1 + 1, s2.2)) else (2, (0, 0), s2))) := by
  rw [cc_ev, h]; rfl
theorem cc_ev0 {g x : Nat} {e : cc_E} {s : cc_S} {k : Nat} (hk : k < 4) (h : K x = nI k) : cc_ev K N A B C (g + 1) x e s = cc_then (cc_ev K N A B C g (A x) e s) (fun v1 s1 => cc_then (cc_ev K N A B C g (B x) e s1) (fun v2 s2 =>
        if v1.1 = 0 then (if v2.1 = 0 then (-1, (0, cc_op (K x) v1.2 v2.2), s2) else (2, (0, 0), s2)) else (2, (0, 0), s2))) := by
  have ⟨a, b, c, d, f⟩ := cc_k5 k (by omega)
  have i : ¬ nI k = 4 := fun q => by have := (cc_k4 k (by omega)).mp q; omega
  rw [cc_ev, h, if_neg d, if_neg f, if_neg c, if_neg a, if_neg b]
  simp only [if_neg i]
/-- a good value: a number, or a closure that stands -/
def cc_VO (m : Nat) (v : cc_V) : Prop := v.1 = 0 ∨ (v.1 = 1 ∧ ∃ c, c < m ∧ v.2 = nI c)
def cc_EO (m : Nat) (e : cc_E) : Prop := ∀ v, (e v).1 = 2 ∨ cc_VO m (e v)
def cc_SO (n : Nat) (K : Nat → Int32) (z : Nat → Nat) (s : cc_S) : Prop := s.1 ≤ 60 ∧ ∀ c, c < s.2.1 → (s.2.2 c).1 < n ∧ K (s.2.2 c).1 = 7 ∧ z (s.2.2 c).1 ≤ 24 ∧ cc_EO s.2.1 (s.2.2 c).2
/-- what an evaluation from store s does, of weight y -/
def cc_Q (n : Nat) (K : Nat → Int32) (z : Nat → Nat) (y : Nat) (s : cc_S) (r : cc_R) : Prop :=
  (r.1 = -1 ∨ r.1 = 2 ∨ r.1 = 3 ∨ r.1 = 9) ∧ s.1 ≤ r.2.2.1 ∧ s.2.1 ≤ r.2.2.2.1 ∧ (∀ c, c < s.2.1 → r.2.2.2.2 c = s.2.2 c) ∧ cc_SO n K z r.2.2 ∧ (r.1 = -1 → cc_VO r.2.2.2.1 r.2.1) ∧ 2 * r.2.2.2.1 + 24 * (60 - r.2.2.1) ≤ 2 * s.2.1 + y + 24 * (60 - s.1)
theorem cc_VOm {m m' : Nat} {v : cc_V} (h : cc_VO m v) (l : m ≤ m') : cc_VO m' v := by
  rcases h with h | ⟨h, c, hc, e⟩
  · exact Or.inl h
  · exact Or.inr ⟨h, c, by omega, e⟩
theorem cc_EOm {m m' : Nat} {e : cc_E} (h : cc_EO m e) (l : m ≤ m') : cc_EO m' e := fun v => (h v).imp id (fun q => cc_VOm q l)
theorem cc_EOs {m : Nat} {e : cc_E} {v : Nat} {x : cc_V} (h : cc_EO m e) (hx : cc_VO m x) : cc_EO m (cc_set e v x) := by
  intro j
  unfold cc_set
  by_cases q : j = v
  · rw [if_pos q]; exact Or.inr hx
  · rw [if_neg q]; exact h j
theorem cc_Qs {y : Nat} {s : cc_S} {k : Int32} {v : cc_V} (hk : k = 2 ∨ k = 3 ∨ k = 9) (hS : cc_SO n K z s) : cc_Q n K z y s (k, v, s) := by
  refine ⟨?_, Nat.le_refl _, Nat.le_refl _, fun _ _ => rfl, hS, ?_, ?_⟩
  · rcases hk with rfl | rfl | rfl
    · exact Or.inr (Or.inl rfl)
    · exact Or.inr (Or.inr (Or.inl rfl))
    · exact Or.inr (Or.inr (Or.inr rfl))
  · intro q
    have q' : k = -1 := q
    rw [q'] at hk
    exact absurd hk (by decide)
  · show 2 * s.2.1 + 24 * (60 - s.1) ≤ _; omega
theorem cc_Qv {y : Nat} {s : cc_S} {v : cc_V} (hv : cc_VO s.2.1 v) (hS : cc_SO n K z s) : cc_Q n K z y s (-1, v, s) :=
  ⟨Or.inl rfl, Nat.le_refl _, Nat.le_refl _, fun _ _ => rfl, hS, fun _ => hv, by show 2 * s.2.1 + 24 * (60 - s.1) ≤ _; omega⟩
theorem cc_Qw {y y' : Nat} {s : cc_S} {r : cc_R} (h : cc_Q n K z y s r) (l : y ≤ y') : cc_Q n K z y' s r := by
  obtain ⟨a, b, c, d, e, f, g⟩ := h
  exact ⟨a, b, c, d, e, f, by omega⟩
theorem cc_Qc {y y' : Nat} {s : cc_S} {r r' : cc_R} (h : cc_Q n K z y s r) (h' : cc_Q n K z y' r.2.2 r') : cc_Q n K z (y + y') s r' := by
  obtain ⟨a, b, c, d, e, f, g⟩ := h
  obtain ⟨a', b', c', d', e', f', g'⟩ := h'
  exact ⟨a', by omega, by omega, fun k hk => by rw [d' k (by omega), d k hk], e', f', by omega⟩
theorem cc_Qt {y : Nat} {s : cc_S} {r : cc_R} {f : cc_V → cc_S → cc_R} (y1 y2 : Nat) (l : y1 + y2 ≤ y) (h : cc_Q n K z y1 s r) (hf : r.1 = -1 → cc_VO r.2.2.2.1 r.2.1 → cc_SO n K z r.2.2 → s.2.1 ≤ r.2.2.2.1 → cc_Q n K z y2 r.2.2 (f r.2.1 r.2.2)) : cc_Q n K z y s (cc_then r f) := by
  unfold cc_then
  by_cases q : r.1 = -1
  · rw [if_pos q]
    exact cc_Qw (cc_Qc h (hf q (h.2.2.2.2.2.1 q) h.2.2.2.2.1 h.2.2.1)) l
  · rw [if_neg q]
    exact cc_Qw h (by omega)
theorem cc_SOf {s : cc_S} {x : Nat} {e : cc_E} (hS : cc_SO n K z s) (hx : x < n) (hK : K x = 7) (hz : z x ≤ 24) (he : cc_EO s.2.1 e) : cc_SO n K z (s.1, s.2.1 + 1, fun j => if j = s.2.1 then (x, e) else s.2.2 j) := by
  refine ⟨hS.1, fun c hc => ?_⟩
  show ((if c = s.2.1 then (x, e) else s.2.2 c : Nat × cc_E)).1 < n ∧ K ((if c = s.2.1 then (x, e) else s.2.2 c : Nat × cc_E)).1 = 7 ∧ z ((if c = s.2.1 then (x, e) else s.2.2 c : Nat × cc_E)).1 ≤ 24 ∧ cc_EO (s.2.1 + 1) ((if c = s.2.1 then (x, e) else s.2.2 c : Nat × cc_E)).2
  by_cases q : c = s.2.1
  · rw [if_pos q]; exact ⟨hx, hK, hz, cc_EOm he (Nat.le_succ _)⟩
  · rw [if_neg q]
    have hc' : c < s.2.1 + 1 := hc
    obtain ⟨a, b, d, f⟩ := hS.2 c (by omega)
    exact ⟨a, b, d, cc_EOm f (Nat.le_succ _)⟩
theorem cc_ev_ok (hP : ∀ x, x < n → cc_Nd K N W P A B C z fr x) : ∀ (g x : Nat) (e : cc_E) (s : cc_S), x < n → z x ≤ 24 → cc_EO s.2.1 e → cc_SO n K z s → 2 * s.2.1 + z x + 24 * (60 - s.1) < 2 ^ 30 → cc_Q n K z (z x) s (cc_ev K N A B C g x e s) := by
  intro g
  induction g with
  | zero => intro x e s hx hz he hS _; exact cc_Qs (Or.inr (Or.inr rfl)) hS
  | succ g ih =>
    intro x e s hx hz he hS hb
    rcases hP x hx with h | h | h | h | h | ⟨k, hk, h⟩
    · rw [cc_ev8 h.1]; exact cc_Qv (Or.inl rfl) hS
    · rw [cc_ev9 h.1]
      by_cases q : (e (N x).toNatClampNeg).1 = 2
      · rw [if_pos q]; exact cc_Qs (Or.inl rfl) hS
      · rw [if_neg q]; exact cc_Qv ((he _).resolve_left q) hS
    · rw [cc_ev7 h.1]
      have h1 := cc_z1 (hP (A x) (by omega))
      refine ⟨Or.inl rfl, Nat.le_refl _, Nat.le_succ _, fun c hc => ?_, cc_SOf hS hx h.1 hz he, fun _ => Or.inr ⟨rfl, s.2.1, Nat.lt_succ_self _, rfl⟩, ?_⟩
      · show (if c = s.2.1 then (x, e) else s.2.2 c : Nat × cc_E) = _
        rw [if_neg (by omega)]
      · show 2 * (s.2.1 + 1) + 24 * (60 - s.1) ≤ _
        have := h.2.2.2.2.1
        omega
    · obtain ⟨h6, hA, hB, _, _, _, _, hzx, _⟩ := h
      rw [cc_ev6 h6]
      refine cc_Qt (z (A x)) (z (B x)) (by omega) (ih (A x) e s (by omega) (by omega) he hS (by omega)) ?_
      intro q hv hS1 hm
      have hq := (ih (A x) e s (by omega) (by omega) he hS (by omega)).2.2.2.2.2.2
      exact ih (B x) _ _ (by omega) (by omega) (cc_EOs (cc_EOm he hm) hv) hS1 (by omega)
    · obtain ⟨h5, hA, hB, hC, _, _, _, _, _, _, hzx, _⟩ := h
      rw [cc_ev5 h5]
      refine cc_Qt (z (A x)) (z (B x) + z (C x)) (by omega) (ih (A x) e s (by omega) (by omega) he hS (by omega)) ?_
      intro q hv hS1 hm
      have hq := (ih (A x) e s (by omega) (by omega) he hS (by omega)).2.2.2.2.2.2
      exact cc_if (cc_Q n K z _ _) (fun _ => cc_if (cc_Q n K z _ _) (fun _ => cc_Qw (ih (C x) _ _ (by omega) (by omega) (cc_EOm he hm) hS1 (by omega)) (by omega)) (fun _ => cc_Qw (ih (B x) _ _ (by omega) (by omega) (cc_EOm he hm) hS1 (by omega)) (by omega))) (fun _ => cc_Qs (Or.inl rfl) hS1)
    · obtain ⟨hkx, hA, hB, _, _, _, _, hzx, _⟩ := h
      by_cases k4 : k = 4
      · have h4 : K x = 4 := by rw [hkx, k4]; rfl
        rw [cc_ev4 h4]
        refine cc_Qt (z (A x)) (z (B x)) (by omega) (ih (A x) e s (by omega) (by omega) he hS (by omega)) ?_
        intro q hv hS1 hm
        have hq := (ih (A x) e s (by omega) (by omega) he hS (by omega)).2.2.2.2.2.2
        generalize cc_ev K N A B C g (A x) e s = r1 at *
        have hb2 := ih (B x) e r1.2.2 (by omega) (by omega) (cc_EOm he hm) hS1 (by omega)
        refine cc_Qt (z (B x)) 0 (by omega) hb2 ?_
        intro q2 hv2 hS2 hm2
        have hq2 := hb2.2.2.2.2.2.2
        generalize cc_ev K N A B C g (B x) e r1.2.2 = r2 at *
        by_cases t1 : r1.2.1.1 = 1
        · rw [if_pos t1]
          by_cases t2 : r2.2.2.1 = 60
          · rw [if_pos t2]; exact cc_Qs (Or.inr (Or.inl rfl)) hS2
          · rw [if_neg t2]
            rcases hv with hv | ⟨_, c, hc, ec⟩
            · exact absurd (t1.symm.trans hv) (by decide)
            · have hc2 : c < r2.2.2.2.1 := by omega
              have hcl : (r1.2.1.2).toNatClampNeg = c := by rw [ec]; exact nI_clamp (by omega)
              rw [hcl]
              obtain ⟨f1, f2, f3, f4⟩ := hS2.2 c hc2
              have c60 := hS2.1
              rcases hP _ f1 with w | w | w | w | w | ⟨k', hk', w⟩
              · exact absurd (f2.symm.trans w.1) (by decide)
              · exact absurd (f2.symm.trans w.1) (by decide)
              · have wz := w.2.2.2.2.1
                have wa := w.2.1
                have hS3 : cc_SO n K z (r2.2.2.1 + 1, r2.2.2.2) := ⟨by show r2.2.2.1 + 1 ≤ 60; omega, hS2.2⟩
                have he3 : cc_EO r2.2.2.2.1 (cc_arg N (r2.2.2.2.2 c) r1.2.1 r2.2.1) := cc_EOs (cc_EOs f4 (Or.inr ⟨t1, c, hc2, ec⟩)) hv2
                have hr := ih (A (r2.2.2.2.2 c).1) _ (r2.2.2.1 + 1, r2.2.2.2) (by omega) (by omega) he3 hS3 (by show 2 * r2.2.2.2.1 + _ + 24 * (60 - (r2.2.2.1 + 1)) < _; omega)
                obtain ⟨p1, p2, p3, p4, p5, p6, p7⟩ := hr
                have p2' : r2.2.2.1 + 1 ≤ _ := p2
                have p7' : _ ≤ 2 * r2.2.2.2.1 + _ + 24 * (60 - (r2.2.2.1 + 1)) := p7
                exact ⟨p1, by omega, p3, p4, p5, p6, by omega⟩
              · exact absurd (f2.symm.trans w.1) (by decide)
              · exact absurd (f2.symm.trans w.1) (by decide)
              · exact absurd (w.1.symm.trans f2) (cc_k5 k' hk').2.2.1
        · rw [if_neg t1]; exact cc_Qs (Or.inl rfl) hS2
      · rw [cc_ev0 (by omega) hkx]
        refine cc_Qt (z (A x)) (z (B x)) (by omega) (ih (A x) e s (by omega) (by omega) he hS (by omega)) ?_
        intro q hv hS1 hm
        have hq := (ih (A x) e s (by omega) (by omega) he hS (by omega)).2.2.2.2.2.2
        refine cc_Qt (z (B x)) 0 (by omega) (ih (B x) e _ (by omega) (by omega) (cc_EOm he hm) hS1 (by omega)) ?_
        intro q2 hv2 hS2 hm2
        exact cc_if (cc_Q n K z _ _) (fun _ => cc_if (cc_Q n K z _ _) (fun _ => cc_Qv (Or.inl rfl) hS2) (fun _ => cc_Qs (Or.inl rfl) hS2)) (fun _ => cc_Qs (Or.inl rfl) hS2)
end
section
variable {n : Nat} {K N W P : Nat → Int32} {A B C z : Nat → Nat} {fr : Nat → Nat → Bool}
theorem cc_then9 {r : cc_R} {f : cc_V → cc_S → cc_R} (h : r.1 ≠ 9) (hf : r.1 = -1 → (f r.2.1 r.2.2).1 ≠ 9) : (cc_then r f).1 ≠ 9 := by
  unfold cc_then
  by_cases q : r.1 = -1
  · rw [if_pos q]; exact hf q
  · rw [if_neg q]; exact h
theorem cc_ev_fuel (hn : n ≤ 24) (hP : ∀ x, x < n → cc_Nd K N W P A B C z fr x) : ∀ (g x : Nat) (e : cc_E) (s : cc_S), 25 * (60 - s.1) + x < g → x < n → z x ≤ 24 → cc_EO s.2.1 e → cc_SO n K z s → 2 * s.2.1 + z x + 24 * (60 - s.1) < 2 ^ 30 → (cc_ev K N A B C g x e s).1 ≠ 9 := by
  intro g
  induction g with
  | zero => intro x e s hg; omega
  | succ g ih =>
    intro x e s hg hx hz he hS hb
    have ok := cc_ev_ok (z := z) hP g
    rcases hP x hx with h | h | h | h | h | ⟨k, hk, h⟩
    · rw [cc_ev8 h.1]; exact cc_n1
    · rw [cc_ev9 h.1]
      exact cc_if (fun r => r.1 ≠ 9) (fun _ => cc_n2) (fun _ => cc_n1)
    · rw [cc_ev7 h.1]; exact cc_n1
    · obtain ⟨h6, hA, hB, _, _, _, _, hzx, _⟩ := h
      rw [cc_ev6 h6]
      have q1 := ok (A x) e s (by omega) (by omega) he hS (by omega)
      refine cc_then9 (ih (A x) e s (by omega) (by omega) (by omega) he hS (by omega)) ?_
      intro q
      obtain ⟨_, l1, l2, _, l3, l4, l5⟩ := q1
      exact ih (B x) _ _ (by omega) (by omega) (by omega) (cc_EOs (cc_EOm he l2) (l4 q)) l3 (by omega)
    · obtain ⟨h5, hA, hB, hC, _, _, _, _, _, _, hzx, _⟩ := h
      rw [cc_ev5 h5]
      have q1 := ok (A x) e s (by omega) (by omega) he hS (by omega)
      refine cc_then9 (ih (A x) e s (by omega) (by omega) (by omega) he hS (by omega)) ?_
      intro q
      obtain ⟨_, l1, l2, _, l3, l4, l5⟩ := q1
      exact cc_if (fun r => r.1 ≠ 9) (fun _ => cc_if (fun r => r.1 ≠ 9) (fun _ => ih (C x) _ _ (by omega) (by omega) (by omega) (cc_EOm he l2) l3 (by omega)) (fun _ => ih (B x) _ _ (by omega) (by omega) (by omega) (cc_EOm he l2) l3 (by omega))) (fun _ => cc_n2)
    · obtain ⟨hkx, hA, hB, _, _, _, _, hzx, _⟩ := h
      have q1 := ok (A x) e s (by omega) (by omega) he hS (by omega)
      have i1 := ih (A x) e s (by omega) (by omega) (by omega) he hS (by omega)
      by_cases k4 : k = 4
      · have h4 : K x = 4 := by rw [hkx, k4]; rfl
        rw [cc_ev4 h4]
        refine cc_then9 i1 ?_
        intro q
        obtain ⟨_, l1, l2, _, l3, l4, l5⟩ := q1
        generalize cc_ev K N A B C g (A x) e s = r1 at *
        have q2 := ok (B x) e r1.2.2 (by omega) (by omega) (cc_EOm he l2) l3 (by omega)
        refine cc_then9 (ih (B x) e r1.2.2 (by omega) (by omega) (by omega) (cc_EOm he l2) l3 (by omega)) ?_
        intro qq
        obtain ⟨_, m1, m2, _, m3, m4, m5⟩ := q2
        generalize cc_ev K N A B C g (B x) e r1.2.2 = r2 at *
        by_cases t1 : r1.2.1.1 = 1
        · rw [if_pos t1]
          by_cases t2 : r2.2.2.1 = 60
          · rw [if_pos t2]; exact cc_n3
          · rw [if_neg t2]
            rcases l4 q with hv | ⟨_, c, hc, ec⟩
            · exact absurd (t1.symm.trans hv) (by decide)
            · have hc2 : c < r2.2.2.2.1 := by omega
              have hcl : (r1.2.1.2).toNatClampNeg = c := by rw [ec]; exact nI_clamp (by omega)
              rw [hcl]
              obtain ⟨f1, f2, f3, f4⟩ := m3.2 c hc2
              have c60 := m3.1
              rcases hP _ f1 with w | w | w | w | w | ⟨k', hk', w⟩
              · exact absurd (f2.symm.trans w.1) (by decide)
              · exact absurd (f2.symm.trans w.1) (by decide)
              · have wz := w.2.2.2.2.1
                have wa := w.2.1
                have hS3 : cc_SO n K z (r2.2.2.1 + 1, r2.2.2.2) := ⟨by show r2.2.2.1 + 1 ≤ 60; omega, m3.2⟩
                have he3 : cc_EO r2.2.2.2.1 (cc_arg N (r2.2.2.2.2 c) r1.2.1 r2.2.1) := cc_EOs (cc_EOs f4 (Or.inr ⟨t1, c, hc2, ec⟩)) (m4 qq)
                exact ih (A (r2.2.2.2.2 c).1) _ (r2.2.2.1 + 1, r2.2.2.2) (by show 25 * (60 - (r2.2.2.1 + 1)) + _ < _; omega) (by omega) (by omega) he3 hS3 (by show 2 * r2.2.2.2.1 + _ + 24 * (60 - (r2.2.2.1 + 1)) < _; omega)
              · exact absurd (f2.symm.trans w.1) (by decide)
              · exact absurd (f2.symm.trans w.1) (by decide)
              · exact absurd (w.1.symm.trans f2) (cc_k5 k' hk').2.2.1
        · rw [if_neg t1]; exact cc_n2
      · rw [cc_ev0 (by omega) hkx]
        refine cc_then9 i1 ?_
        intro q
        obtain ⟨_, l1, l2, _, l3, l4, l5⟩ := q1
        refine cc_then9 (ih (B x) e _ (by omega) (by omega) (by omega) (cc_EOm he l2) l3 (by omega)) ?_
        intro qq
        exact cc_if (fun r => r.1 ≠ 9) (fun _ => cc_if (fun r => r.1 ≠ 9) (fun _ => cc_n1) (fun _ => cc_n2)) (fun _ => cc_n2)
end
end
section
/-! static functions of the component: slots, meanings, code -/
/-- the whole of x, as a number: x < it < 24 -/
abbrev cc_up (W : Nat → Int32) (x : Nat) : Prop := ¬ W x < 0 ∧ x < (W x).toNatClampNeg ∧ (W x).toNatClampNeg < 24
theorem cc_upd {W : Nat → Int32} {x w : Nat} (h : W x = nI w) (h1 : x < w) (h2 : w < 24) : cc_up W x := by
  show ¬ W x < 0 ∧ x < (W x).toNatClampNeg ∧ (W x).toNatClampNeg < 24
  rw [h, nI_clamp (by omega)]
  exact ⟨nI_pos (by omega), h1, h2⟩
def cc_b (K W P : Nat → Int32) (x : Nat) : Nat :=
  if h : ¬ W x < 0 ∧ x < (W x).toNatClampNeg ∧ (W x).toNatClampNeg < 24 then
    (if K (W x).toNatClampNeg = 7 then 0 else (if K (W x).toNatClampNeg = 6 then (if P x = 1 then 1 else 0) else 0) + cc_b K W P (W x).toNatClampNeg)
  else 0
termination_by 24 - x
decreasing_by omega
/-- lookOut: what is found, its number, the function that is crossed -/
def cc_lo (K N W P : Nat → Int32) (v : Nat) (x : Nat) : Int32 × Int32 × Int32 :=
  if h : ¬ W x < 0 ∧ x < (W x).toNatClampNeg ∧ (W x).toNatClampNeg < 24 then
    (if K (W x).toNatClampNeg = 6 ∧ P x = 1 ∧ N (W x).toNatClampNeg = nI v then (11, nI (cc_b K W P (W x).toNatClampNeg), -1)
    else if K (W x).toNatClampNeg = 7 then
      (if N (W x).toNatClampNeg &&& 3 = nI v then (12, nI v, -1) else if N (W x).toNatClampNeg >>> ((2 : Int32) &&& 31) = nI v then (13, nI v, -1) else (14, nI v, nI (W x).toNatClampNeg))
    else cc_lo K N W P v (W x).toNatClampNeg)
  else (15, 0, -1)
termination_by 24 - x
decreasing_by omega
def cc_len (K : Nat → Int32) (A B C : Nat → Nat) (x : Nat) : Nat :=
  if K x = 7 ∨ K x = 8 ∨ K x = 9 then 1
  else if h : A x < x ∧ B x < x then
    (if K x = 5 then (if h2 : C x < x then cc_len K A B C (A x) + cc_len K A B C (B x) + cc_len K A B C (C x) + 2 else 0)
    else cc_len K A B C (A x) + cc_len K A B C (B x) + 1)
  else 0
termination_by x
decreasing_by all_goals omega
/-- the functions crossed from f outwards have their ways to get v -/
def cc_ch (K N W P : Nat → Int32) (G : Nat → Nat → Prop) (v : Nat) (f : Nat) : Prop :=
  G f v ∧ (if h : ¬ (cc_lo K N W P v f).2.2 < 0 ∧ f < (cc_lo K N W P v f).2.2.toNatClampNeg ∧ (cc_lo K N W P v f).2.2.toNatClampNeg < 24 then cc_ch K N W P G v (cc_lo K N W P v f).2.2.toNatClampNeg else True)
termination_by 24 - f
decreasing_by omega
def cc_cx (K N W P : Nat → Int32) (G : Nat → Nat → Prop) (v : Nat) (x : Nat) : Prop := ¬ (cc_lo K N W P v x).2.2 < 0 → cc_ch K N W P G v (cc_lo K N W P v x).2.2.toNatClampNeg
/-- the code of x lies at a -/
def cc_ca (K N W P : Nat → Int32) (A B C : Nat → Nat) (cd ex : Nat → Int32) (D : Nat → Prop) (G : Nat → Nat → Prop) (x : Nat) (a : Nat) : Prop :=
  if K x = 8 then cd a = 10 ∧ ex a = N x
  else if K x = 9 then cd a = (cc_lo K N W P (N x).toNatClampNeg x).1 ∧ ex a = (cc_lo K N W P (N x).toNatClampNeg x).2.1 ∧ cc_cx K N W P G (N x).toNatClampNeg x
  else if K x = 7 then cd a = 17 ∧ ex a = nI x ∧ D x
  else if h : A x < x ∧ B x < x then
    cc_ca K N W P A B C cd ex D G (A x) a ∧
    (if K x = 5 then (if h2 : C x < x then
        cd (a + cc_len K A B C (A x)) = 18 ∧ ex (a + cc_len K A B C (A x)) = nI (a + cc_len K A B C (A x) + cc_len K A B C (B x) + 2) ∧
        cc_ca K N W P A B C cd ex D G (B x) (a + cc_len K A B C (A x) + 1) ∧
        cd (a + cc_len K A B C (A x) + 1 + cc_len K A B C (B x)) = 19 ∧ ex (a + cc_len K A B C (A x) + 1 + cc_len K A B C (B x)) = nI (a + cc_len K A B C (A x) + cc_len K A B C (B x) + 2 + cc_len K A B C (C x)) ∧
        cc_ca K N W P A B C cd ex D G (C x) (a + cc_len K A B C (A x) + cc_len K A B C (B x) + 2) else False)
    else if K x = 6 then cd (a + cc_len K A B C (A x)) = 16 ∧ ex (a + cc_len K A B C (A x)) = nI (cc_b K W P x) ∧ cc_ca K N W P A B C cd ex D G (B x) (a + cc_len K A B C (A x) + 1)
    else cc_ca K N W P A B C cd ex D G (B x) (a + cc_len K A B C (A x)) ∧ cd (a + cc_len K A B C (A x) + cc_len K A B C (B x)) = K x)
  else False
termination_by x
decreasing_by all_goals omega
section
variable {n : Nat} {K N W P : Nat → Int32} {A B C z : Nat → Nat} {fr : Nat → Nat → Bool} {cd ex : Nat → Int32} {D : Nat → Prop} {G : Nat → Nat → Prop}
theorem cc_b_w {x w : Nat} (h : W x = nI w) (h1 : x < w) (h2 : w < 24) : cc_b K W P x = (if K w = 7 then 0 else (if K w = 6 then (if P x = 1 then 1 else 0) else 0) + cc_b K W P w) := by
  have u : ¬ W x < 0 ∧ x < (W x).toNatClampNeg ∧ (W x).toNatClampNeg < 24 := cc_upd h h1 h2
  have c : (W x).toNatClampNeg = w := by rw [h]; exact nI_clamp (by omega)
  rw [cc_b, dif_pos u, c]
theorem cc_b_r {x : Nat} (h : W x = -1) : cc_b K W P x = 0 := by
  rw [cc_b, dif_neg]
  rw [h]
  exact fun q => q.1 (by decide)
theorem cc_lo_w {v x w : Nat} (h : W x = nI w) (h1 : x < w) (h2 : w < 24) : cc_lo K N W P v x = (if K w = 6 ∧ P x = 1 ∧ N w = nI v then (11, nI (cc_b K W P w), -1)
    else if K w = 7 then
      (if N w &&& 3 = nI v then (12, nI v, -1) else if N w >>> ((2 : Int32) &&& 31) = nI v then (13, nI v, -1) else (14, nI v, nI w))
    else cc_lo K N W P v w) := by
  have u : ¬ W x < 0 ∧ x < (W x).toNatClampNeg ∧ (W x).toNatClampNeg < 24 := cc_upd h h1 h2
  have c : (W x).toNatClampNeg = w := by rw [h]; exact nI_clamp (by omega)
  rw [cc_lo, dif_pos u, c]
theorem cc_lo_r {v x : Nat} (h : W x = -1) : cc_lo K N W P v x = (15, 0, -1) := by
  rw [cc_lo, dif_neg]
  rw [h]
  exact fun q => q.1 (by decide)
/-- a part that binds nothing -/
theorem cc_lo_p {v x w : Nat} (h : W x = nI w) (h1 : x < w) (h2 : w < 24) (h7 : K w ≠ 7) (h6 : ¬ (K w = 6 ∧ P x = 1 ∧ N w = nI v)) : cc_lo K N W P v x = cc_lo K N W P v w := by
  rw [cc_lo_w h h1 h2, if_neg h6, if_neg h7]
theorem cc_b_p {x w : Nat} (h : W x = nI w) (h1 : x < w) (h2 : w < 24) (h7 : K w ≠ 7) (h6 : ¬ (K w = 6 ∧ P x = 1)) : cc_b K W P x = cc_b K W P w := by
  rw [cc_b_w h h1 h2, if_neg h7]
  by_cases a : K w = 6
  · rw [if_pos a, if_neg (fun q => h6 ⟨a, q⟩), Nat.zero_add]
  · rw [if_neg a, Nat.zero_add]
theorem cc_b_2 {x w : Nat} (h : W x = nI w) (h1 : x < w) (h2 : w < 24) (h6 : K w = 6) (hp : P x = 1) : cc_b K W P x = cc_b K W P w + 1 := by
  rw [cc_b_w h h1 h2, h6, if_neg (by decide), if_pos rfl, if_pos hp, Nat.add_comm]
theorem cc_b_7 {x w : Nat} (h : W x = nI w) (h1 : x < w) (h2 : w < 24) (h7 : K w = 7) : cc_b K W P x = 0 := by
  rw [cc_b_w h h1 h2, if_pos h7]
theorem cc_lo_2 {v x w : Nat} (h : W x = nI w) (h1 : x < w) (h2 : w < 24) (h6 : K w = 6) (hp : P x = 1) (hv : N w = nI v) : cc_lo K N W P v x = (11, nI (cc_b K W P w), -1) := by
  rw [cc_lo_w h h1 h2, if_pos ⟨h6, hp, hv⟩]
/-- the number of a function: 4 f + v -/
theorem cc_fn : ∀ f, f < 4 → ∀ w, w < 4 → ∀ v, v < 4 → ((nI (4 * f + w) &&& 3 = nI v ↔ v = w) ∧ (nI (4 * f + w) >>> ((2 : Int32) &&& 31) = nI v ↔ v = f)) := by decide
theorem cc_lo_7 {v x w f y : Nat} (h : W x = nI w) (h1 : x < w) (h2 : w < 24) (h7 : K w = 7) (hf : f < 4) (hy : y < 4) (hv : v < 4) (hN : N w = nI (4 * f + y)) : cc_lo K N W P v x = (if v = y then (12, nI v, -1) else if v = f then (13, nI v, -1) else (14, nI v, nI w)) := by
  have ⟨e1, e2⟩ := cc_fn f hf y hy v hv
  rw [cc_lo_w h h1 h2, if_neg (fun q => absurd (h7.symm.trans q.1) (by decide)), if_pos h7, hN]
  simp only [e1, e2]
/-- whatever is found outwards -/
def cc_Up (n : Nat) (W : Nat → Int32) (x : Nat) : Prop := W x = -1 ∨ ∃ w, W x = nI w ∧ x < w ∧ w < n
theorem cc_lo_i (hn : n ≤ 24) (hU : ∀ x, x < n → cc_Up n W x) {v : Nat} (hv : v < 4) : ∀ d x, x < n → n ≤ x + d →
    (cc_lo K N W P v x = (15, 0, -1)) ∨ (∃ s, s < cc_b K W P x ∧ cc_lo K N W P v x = (11, nI s, -1)) ∨ (cc_lo K N W P v x = (12, nI v, -1)) ∨ (cc_lo K N W P v x = (13, nI v, -1)) ∨ (∃ w, x < w ∧ w < n ∧ K w = 7 ∧ cc_lo K N W P v x = (14, nI v, nI w)) := by
  intro d
  induction d with
  | zero => intro x hx hd; omega
  | succ d ih =>
    intro x hx hd
    rcases hU x hx with h | ⟨w, h, h1, h2⟩
    · exact Or.inl (cc_lo_r h)
    · rw [cc_lo_w h h1 (by omega)]
      by_cases c6 : K w = 6 ∧ P x = 1 ∧ N w = nI v
      · rw [if_pos c6]
        exact Or.inr (Or.inl ⟨cc_b K W P w, by rw [cc_b_2 h h1 (by omega) c6.1 c6.2.1]; omega, rfl⟩)
      · rw [if_neg c6]
        by_cases c7 : K w = 7
        · rw [if_pos c7]
          split
          · exact Or.inr (Or.inr (Or.inl rfl))
          · split
            · exact Or.inr (Or.inr (Or.inr (Or.inl rfl)))
            · exact Or.inr (Or.inr (Or.inr (Or.inr ⟨w, h1, h2, c7, rfl⟩)))
        · rw [if_neg c7]
          rcases ih w h2 (by omega) with q | ⟨s, q1, q2⟩ | q | q | ⟨w', q1, q2, q3, q4⟩
          · exact Or.inl q
          · refine Or.inr (Or.inl ⟨s, ?_, q2⟩)
            rw [cc_b_w h h1 (by omega), if_neg c7]
            omega
          · exact Or.inr (Or.inr (Or.inl q))
          · exact Or.inr (Or.inr (Or.inr (Or.inl q)))
          · exact Or.inr (Or.inr (Or.inr (Or.inr ⟨w', by omega, q2, q3, q4⟩)))
theorem cc_lo_c (hn : n ≤ 24) (hU : ∀ x, x < n → cc_Up n W x) {v x : Nat} (hv : v < 4) (hx : x < n) (c : ¬ (cc_lo K N W P v x).2.2 < 0) : ∃ w, x < w ∧ w < n ∧ K w = 7 ∧ cc_lo K N W P v x = (14, nI v, nI w) := by
  rcases cc_lo_i (K := K) (N := N) (P := P) hn hU hv 24 x hx (by omega) with q | ⟨s, _, q⟩ | q | q | q
  · rw [q] at c; exact absurd (by decide) c
  · rw [q] at c; exact absurd (show (-1 : Int32) < 0 by decide) c
  · rw [q] at c; exact absurd (show (-1 : Int32) < 0 by decide) c
  · rw [q] at c; exact absurd (show (-1 : Int32) < 0 by decide) c
  · exact q
theorem cc_len1 {x : Nat} (h : K x = 7 ∨ K x = 8 ∨ K x = 9) : cc_len K A B C x = 1 := by rw [cc_len, if_pos h]
theorem cc_len5 {x : Nat} (h : K x = 5) (hA : A x < x) (hB : B x < x) (hC : C x < x) : cc_len K A B C x = cc_len K A B C (A x) + cc_len K A B C (B x) + cc_len K A B C (C x) + 2 := by
  rw [cc_len, if_neg (by rw [h]; decide), dif_pos ⟨hA, hB⟩, if_pos h, dif_pos hC]
theorem cc_len2 {x : Nat} (h7 : K x ≠ 7) (h8 : K x ≠ 8) (h9 : K x ≠ 9) (h5 : K x ≠ 5) (hA : A x < x) (hB : B x < x) : cc_len K A B C x = cc_len K A B C (A x) + cc_len K A B C (B x) + 1 := by
  rw [cc_len, if_neg (fun q => q.elim h7 (fun q => q.elim h8 h9)), dif_pos ⟨hA, hB⟩, if_neg h5]
theorem cc_ca8 {x a : Nat} (h : K x = 8) : cc_ca K N W P A B C cd ex D G x a = (cd a = 10 ∧ ex a = N x) := by
  rw [cc_ca, if_pos h]
theorem cc_ca9 {x a : Nat} (h : K x = 9) : cc_ca K N W P A B C cd ex D G x a = (cd a = (cc_lo K N W P (N x).toNatClampNeg x).1 ∧ ex a = (cc_lo K N W P (N x).toNatClampNeg x).2.1 ∧ cc_cx K N W P G (N x).toNatClampNeg x) := by
  rw [cc_ca, if_neg (by rw [h]; decide), if_pos h]
theorem cc_ca7 {x a : Nat} (h : K x = 7) : cc_ca K N W P A B C cd ex D G x a = (cd a = 17 ∧ ex a = nI x ∧ D x) := by
  rw [cc_ca, if_neg (by rw [h]; decide), if_neg (by rw [h]; decide), if_pos h]
theorem cc_ca5 {x a : Nat} (h : K x = 5) (hA : A x < x) (hB : B x < x) (hC : C x < x) : cc_ca K N W P A B C cd ex D G x a = (cc_ca K N W P A B C cd ex D G (A x) a ∧ (cd (a + cc_len K A B C (A x)) = 18 ∧ ex (a + cc_len K A B C (A x)) = nI (a + cc_len K A B C (A x) + cc_len K A B C (B x) + 2) ∧
        cc_ca K N W P A B C cd ex D G (B x) (a + cc_len K A B C (A x) + 1) ∧
        cd (a + cc_len K A B C (A x) + 1 + cc_len K A B C (B x)) = 19 ∧ ex (a + cc_len K A B C (A x) + 1 + cc_len K A B C (B x)) = nI (a + cc_len K A B C (A x) + cc_len K A B C (B x) + 2 + cc_len K A B C (C x)) ∧
        cc_ca K N W P A B C cd ex D G (C x) (a + cc_len K A B C (A x) + cc_len K A B C (B x) + 2))) := by
  rw [cc_ca, if_neg (by rw [h]; decide), if_neg (by rw [h]; decide), if_neg (by rw [h]; decide), dif_pos ⟨hA, hB⟩, if_pos h, dif_pos hC]
theorem cc_ca6 {x a : Nat} (h : K x = 6) (hA : A x < x) (hB : B x < x) : cc_ca K N W P A B C cd ex D G x a = (cc_ca K N W P A B C cd ex D G (A x) a ∧ (cd (a + cc_len K A B C (A x)) = 16 ∧ ex (a + cc_len K A B C (A x)) = nI (cc_b K W P x) ∧ cc_ca K N W P A B C cd ex D G (B x) (a + cc_len K A B C (A x) + 1))) := by
  rw [cc_ca, if_neg (by rw [h]; decide), if_neg (by rw [h]; decide), if_neg (by rw [h]; decide), dif_pos ⟨hA, hB⟩, if_neg (by rw [h]; decide), if_pos h]
theorem cc_ca0 {x a k : Nat} (hk : k < 5) (h : K x = nI k) (hA : A x < x) (hB : B x < x) : cc_ca K N W P A B C cd ex D G x a = (cc_ca K N W P A B C cd ex D G (A x) a ∧ (cc_ca K N W P A B C cd ex D G (B x) (a + cc_len K A B C (A x)) ∧ cd (a + cc_len K A B C (A x) + cc_len K A B C (B x)) = K x)) := by
  have ⟨a5, a6, a7, a8, a9⟩ := cc_k5 k hk
  rw [cc_ca, if_neg (by rw [h]; exact a8), if_neg (by rw [h]; exact a9), if_neg (by rw [h]; exact a7), dif_pos ⟨hA, hB⟩, if_neg (by rw [h]; exact a5), if_neg (by rw [h]; exact a6)]
theorem cc_len0 {x k : Nat} (hk : k < 5) (h : K x = nI k) (hA : A x < x) (hB : B x < x) : cc_len K A B C x = cc_len K A B C (A x) + cc_len K A B C (B x) + 1 := by
  have ⟨a5, a6, a7, a8, a9⟩ := cc_k5 k hk
  exact cc_len2 (by rw [h]; exact a7) (by rw [h]; exact a8) (by rw [h]; exact a9) (by rw [h]; exact a5) hA hB
theorem cc_len6 {x : Nat} (h : K x = 6) (hA : A x < x) (hB : B x < x) : cc_len K A B C x = cc_len K A B C (A x) + cc_len K A B C (B x) + 1 :=
  cc_len2 (by rw [h]; decide) (by rw [h]; decide) (by rw [h]; decide) (by rw [h]; decide) hA hB
end
end
section
/-! laws of the code's picture: it is local, and what it says of free names -/
section
variable {n : Nat} {K N W P : Nat → Int32} {A B C z : Nat → Nat} {fr : Nat → Nat → Bool} {cd ex cd' ex' : Nat → Int32} {D D' : Nat → Prop} {G G' : Nat → Nat → Prop}
theorem cc_ch_m (hG : ∀ f v, G f v → G' f v) {v : Nat} : ∀ d f, 24 ≤ f + d → cc_ch K N W P G v f → cc_ch K N W P G' v f := by
  intro d
  induction d with
  | zero =>
    intro f hf h
    rw [cc_ch] at h ⊢
    refine ⟨hG _ _ h.1, ?_⟩
    rw [dif_neg (by omega)]
    trivial
  | succ d ih =>
    intro f hf h
    rw [cc_ch] at h ⊢
    refine ⟨hG _ _ h.1, ?_⟩
    have h2 := h.2
    split
    · rename_i c
      rw [dif_pos c] at h2
      exact ih _ (by omega) h2
    · trivial
theorem cc_cx_m (hG : ∀ f v, G f v → G' f v) {v x : Nat} (h : cc_cx K N W P G v x) : cc_cx K N W P G' v x := fun q => cc_ch_m hG 24 _ (by omega) (h q)
theorem cc_len_z (hP : ∀ x, x < n → cc_Nd K N W P A B C z fr x) : ∀ x, x < n → 1 ≤ cc_len K A B C x ∧ cc_len K A B C x ≤ 2 * z x := by
  intro x
  induction x using Nat.strongRecOn with
  | ind x ih =>
    intro hx
    rcases hP x hx with h | h | h | h | h | ⟨k, hk, h⟩
    · rw [cc_len1 (Or.inr (Or.inl h.1))]; omega
    · rw [cc_len1 (Or.inr (Or.inr h.1))]; omega
    · rw [cc_len1 (Or.inl h.1)]; omega
    · obtain ⟨h6, hA, hB, _, _, _, _, hzx, _⟩ := h
      have a := ih _ hA (by omega)
      have b := ih _ hB (by omega)
      rw [cc_len6 h6 hA hB]; omega
    · obtain ⟨h5, hA, hB, hC, _, _, _, _, _, _, hzx, _⟩ := h
      have a := ih _ hA (by omega)
      have b := ih _ hB (by omega)
      have c := ih _ hC (by omega)
      rw [cc_len5 h5 hA hB hC]; omega
    · obtain ⟨hkx, hA, hB, _, _, _, _, hzx, _⟩ := h
      have a := ih _ hA (by omega)
      have b := ih _ hB (by omega)
      rw [cc_len0 hk hkx hA hB]; omega
theorem cc_ca_m (hP : ∀ x, x < n → cc_Nd K N W P A B C z fr x) (hD : ∀ f, D f → D' f) (hG : ∀ f v, G f v → G' f v) : ∀ x, x < n → ∀ a, (∀ j, a ≤ j → j < a + cc_len K A B C x → cd' j = cd j ∧ ex' j = ex j) → cc_ca K N W P A B C cd ex D G x a → cc_ca K N W P A B C cd' ex' D' G' x a := by
  intro x
  induction x using Nat.strongRecOn with
  | ind x ih =>
    intro hx a hc
    rcases hP x hx with h | h | h | h | h | ⟨k, hk, h⟩
    · rw [cc_len1 (Or.inr (Or.inl h.1))] at hc
      have ⟨c1, c2⟩ := hc a (by omega) (by omega)
      rw [cc_ca8 h.1, cc_ca8 h.1, c1, c2]
      exact id
    · rw [cc_len1 (Or.inr (Or.inr h.1))] at hc
      have ⟨c1, c2⟩ := hc a (by omega) (by omega)
      rw [cc_ca9 h.1, cc_ca9 h.1, c1, c2]
      exact fun q => ⟨q.1, q.2.1, cc_cx_m hG q.2.2⟩
    · rw [cc_len1 (Or.inl h.1)] at hc
      have ⟨c1, c2⟩ := hc a (by omega) (by omega)
      rw [cc_ca7 h.1, cc_ca7 h.1, c1, c2]
      exact fun q => ⟨q.1, q.2.1, hD _ q.2.2⟩
    · obtain ⟨h6, hA, hB, _, _, _, _, hzx, _⟩ := h
      rw [cc_len6 h6 hA hB] at hc
      have lA := cc_len_z hP (A x) (by omega)
      have lB := cc_len_z hP (B x) (by omega)
      have ⟨c1, c2⟩ := hc (a + cc_len K A B C (A x)) (by omega) (by omega)
      rw [cc_ca6 h6 hA hB, cc_ca6 h6 hA hB, c1, c2]
      rintro ⟨qA, q1, q2, qB⟩
      exact ⟨ih _ hA (by omega) a (fun j j1 j2 => hc j (by omega) (by omega)) qA, q1, q2, ih _ hB (by omega) _ (fun j j1 j2 => hc j (by omega) (by omega)) qB⟩
    · obtain ⟨h5, hA, hB, hC, _, _, _, _, _, _, hzx, _⟩ := h
      rw [cc_len5 h5 hA hB hC] at hc
      have lA := cc_len_z hP (A x) (by omega)
      have lB := cc_len_z hP (B x) (by omega)
      have lC := cc_len_z hP (C x) (by omega)
      have ⟨c1, c2⟩ := hc (a + cc_len K A B C (A x)) (by omega) (by omega)
      have ⟨c3, c4⟩ := hc (a + cc_len K A B C (A x) + 1 + cc_len K A B C (B x)) (by omega) (by omega)
      rw [cc_ca5 h5 hA hB hC, cc_ca5 h5 hA hB hC, c1, c2, c3, c4]
      rintro ⟨qA, q1, q2, qB, q3, q4, qC⟩
      exact ⟨ih _ hA (by omega) a (fun j j1 j2 => hc j (by omega) (by omega)) qA, q1, q2, ih _ hB (by omega) _ (fun j j1 j2 => hc j (by omega) (by omega)) qB, q3, q4, ih _ hC (by omega) _ (fun j j1 j2 => hc j (by omega) (by omega)) qC⟩
    · obtain ⟨hkx, hA, hB, _, _, _, _, hzx, _⟩ := h
      rw [cc_len0 hk hkx hA hB] at hc
      have lA := cc_len_z hP (A x) (by omega)
      have lB := cc_len_z hP (B x) (by omega)
      have ⟨c1, c2⟩ := hc (a + cc_len K A B C (A x) + cc_len K A B C (B x)) (by omega) (by omega)
      rw [cc_ca0 hk hkx hA hB, cc_ca0 hk hkx hA hB, c1]
      rintro ⟨qA, qB, q1⟩
      exact ⟨ih _ hA (by omega) a (fun j j1 j2 => hc j (by omega) (by omega)) qA, ih _ hB (by omega) _ (fun j j1 j2 => hc j (by omega) (by omega)) qB, q1⟩
theorem cc_cx_e {v x y : Nat} (h : cc_lo K N W P v x = cc_lo K N W P v y) (q : cc_cx K N W P G v x) : cc_cx K N W P G v y := by
  unfold cc_cx at q ⊢
  rw [← h]
  exact q
/-- a free name of x: the functions around x know how to get it -/
theorem cc_fr_ch (hn : n ≤ 24) (hU : ∀ x, x < n → cc_Up n W x) (hP : ∀ x, x < n → cc_Nd K N W P A B C z fr x) (hR : ∀ f, D f → ∃ e, cc_ca K N W P A B C cd ex D G (A f) e) {v : Nat} (hv : v < 4) : ∀ x, x < n → ∀ a, cc_ca K N W P A B C cd ex D G x a → fr x v = true → cc_cx K N W P G v x ∧ (K x = 7 → G x v) := by
  intro x
  induction x using Nat.strongRecOn with
  | ind x ih =>
    intro hx a hc hf
    rcases hP x hx with h | h | h | h | h | ⟨k, hk, h⟩
    · rw [h.2.2 v] at hf; exact absurd hf (by decide)
    · obtain ⟨h9, _, w, hw, hN, hfr⟩ := h
      rw [cc_ca9 h9, hN, nI_clamp (by omega)] at hc
      rw [hfr v] at hf
      have e : v = w := of_decide_eq_true hf
      rw [e]
      exact ⟨hc.2.2, fun q => absurd (h9.symm.trans q) (by decide)⟩
    · obtain ⟨h7, hA, hW, hp, hzx, f, w, hf4, hw4, hN, hfr⟩ := h
      rw [cc_ca7 h7] at hc
      obtain ⟨e, he⟩ := hR x hc.2.2
      rw [hfr v] at hf
      have e1 : fr (A x) v = true := by
        revert hf; cases fr (A x) v <;> simp
      have e2 : ¬ v = f := by
        intro q; rw [e1, q] at hf; simp at hf
      have e3 : ¬ v = w := by
        intro q; rw [e1, q] at hf; simp at hf
      have q := (ih (A x) hA (by omega) e he e1).1
      have el := cc_lo_7 (P := P) hW hA (by omega) h7 hf4 hw4 hv hN
      rw [if_neg e3, if_neg e2] at el
      unfold cc_cx at q
      rw [el] at q
      have q2 := q (nI_pos (by omega))
      rw [show ((14, nI v, nI x) : Int32 × Int32 × Int32).2.2 = nI x from rfl, nI_clamp (by omega), cc_ch] at q2
      refine ⟨?_, fun _ => q2.1⟩
      intro c
      have q3 := q2.2
      obtain ⟨w', w1, w2, w3, w4⟩ := cc_lo_c hn hU hv hx c
      rw [w4] at q3 ⊢
      rw [show ((14, nI v, nI w') : Int32 × Int32 × Int32).2.2 = nI w' from rfl, nI_clamp (by omega)] at q3 ⊢
      rwa [dif_pos ⟨nI_pos (by omega), w1, by omega⟩] at q3
    · obtain ⟨h6, hA, hB, hWA, hpA, hWB, hpB, hzx, w, hw, hN, hfr⟩ := h
      rw [cc_ca6 h6 hA hB] at hc
      refine ⟨?_, fun q => absurd (h6.symm.trans q) (by decide)⟩
      rw [hfr v] at hf
      by_cases e1 : fr (A x) v = true
      · exact cc_cx_e (cc_lo_p hWA hA (by omega) (by rw [h6]; decide) (by rw [hpA]; intro q; exact absurd q.2.1 (by decide))) (ih (A x) hA (by omega) _ hc.1 e1).1
      · have e0 : fr (A x) v = false := by revert e1; cases fr (A x) v <;> simp
        rw [e0, Bool.false_or] at hf
        have e2 : fr (B x) v = true := by revert hf; cases fr (B x) v <;> simp
        have e3 : ¬ v = w := by
          intro q; rw [e2, q] at hf; simp at hf
        exact cc_cx_e (cc_lo_p hWB hB (by omega) (by rw [h6]; decide) (by rw [hN]; intro q; exact e3 ((nI_eq (by omega) (by omega)).mp q.2.2).symm)) (ih (B x) hB (by omega) _ hc.2.2.2 e2).1
    · obtain ⟨h5, hA, hB, hC, hWA, hpA, hWB, hpB, hWC, hpC, hzx, hfr⟩ := h
      rw [cc_ca5 h5 hA hB hC] at hc
      have h57 : K x ≠ 7 := by rw [h5]; decide
      have h56 : ∀ q : Prop, ¬ (K x = 6 ∧ q) := fun q c => absurd (h5.symm.trans c.1) (by decide)
      refine ⟨?_, fun q => absurd q h57⟩
      rw [hfr v] at hf
      by_cases e1 : fr (A x) v = true
      · exact cc_cx_e (cc_lo_p hWA hA (by omega) h57 (h56 _)) (ih (A x) hA (by omega) _ hc.1 e1).1
      · by_cases e2 : fr (B x) v = true
        · exact cc_cx_e (cc_lo_p hWB hB (by omega) h57 (h56 _)) (ih (B x) hB (by omega) _ hc.2.2.2.1 e2).1
        · have e3 : fr (C x) v = true := by revert hf e1 e2; cases fr (A x) v <;> cases fr (B x) v <;> simp
          exact cc_cx_e (cc_lo_p hWC hC (by omega) h57 (h56 _)) (ih (C x) hC (by omega) _ hc.2.2.2.2.2.2 e3).1
    · obtain ⟨hkx, hA, hB, hWA, hpA, hWB, hpB, hzx, hfr⟩ := h
      rw [cc_ca0 hk hkx hA hB] at hc
      have ⟨a5, a6, a7, a8, a9⟩ := cc_k5 k hk
      have h57 : K x ≠ 7 := by rw [hkx]; exact a7
      have h56 : ∀ q : Prop, ¬ (K x = 6 ∧ q) := fun q c => a6 (hkx.symm.trans c.1)
      refine ⟨?_, fun q => absurd q h57⟩
      rw [hfr v] at hf
      by_cases e1 : fr (A x) v = true
      · exact cc_cx_e (cc_lo_p hWA hA (by omega) h57 (h56 _)) (ih (A x) hA (by omega) _ hc.1 e1).1
      · have e2 : fr (B x) v = true := by revert hf e1; cases fr (A x) v <;> simp
        exact cc_cx_e (cc_lo_p hWB hB (by omega) h57 (h56 _)) (ih (B x) hB (by omega) _ hc.2.1 e2).1
end
end
section
/-! the component's state in groups; its small methods -/
abbrev cc_TP : Type := Int32 × Int32 × (Nat → Int32) × (Nat → Int32) × (Nat → Int32) × (Nat → Int32) × (Nat → Int32) × (Nat → Int32) × (Nat → Int32) × (Nat → Int32)
abbrev cc_TC : Type := Int32 × Int32 × (Nat → Int32) × (Nat → Int32) × (Nat → Int32) × (Nat → Int32) × (Nat → Int32) × (Nat → Int32)
abbrev cc_TT : Type := Int32 × (Nat → Int32) × (Nat → Int32) × (Nat → Int32)
abbrev cc_TF : Type := Int32 × Int32 × Int32
abbrev cc_TR : Type := Int32 × Int32 × Int32 × Int32 × Int32 × (Nat → Int32) × (Nat → Int32) × (Nat → Int32) × (Nat → Int32) × (Nat → Int32) × (Nat → Int32) × (Nat → Int32) × (Nat → Int32) × (Nat → Int32) × (Nat → Int32) × (Nat → Int32)
abbrev cc_TQ : Type := Int32 × Int32 × (Nat → Int32) × (Nat → Int32) × (Nat → Int32) × (Nat → Int32) × (Nat → Int32)
abbrev cc_TS : Type := Int32 × Int32 × Int32 × Int32 × Int32 × Int32 × (Nat → Int32) × (Nat → Int32) × (Nat → Int32) × (Nat → Int32) × (Nat → Int32) × (Nat → Int32)
def cc_xs (p : cc_TP) (c : cc_TC) (t : cc_TT) (f : cc_TF) (r : cc_TR) : SX := (p.1, p.2.1, c.1, c.2.1, t.1, r.1, r.2.1, r.2.2.1, r.2.2.2.1, r.2.2.2.2.1, f.1, f.2.1, f.2.2, p.2.2.1, p.2.2.2.1, p.2.2.2.2.1, p.2.2.2.2.2.1, p.2.2.2.2.2.2.1, p.2.2.2.2.2.2.2.1, p.2.2.2.2.2.2.2.2.1, p.2.2.2.2.2.2.2.2.2, c.2.2.1, c.2.2.2.1, c.2.2.2.2.1, c.2.2.2.2.2.1, c.2.2.2.2.2.2.1, c.2.2.2.2.2.2.2, t.2.1, t.2.2.1, t.2.2.2, r.2.2.2.2.2.1, r.2.2.2.2.2.2.1, r.2.2.2.2.2.2.2.1, r.2.2.2.2.2.2.2.2.1, r.2.2.2.2.2.2.2.2.2.1, r.2.2.2.2.2.2.2.2.2.2.1, r.2.2.2.2.2.2.2.2.2.2.2.1, r.2.2.2.2.2.2.2.2.2.2.2.2.1, r.2.2.2.2.2.2.2.2.2.2.2.2.2.1, r.2.2.2.2.2.2.2.2.2.2.2.2.2.2.1, r.2.2.2.2.2.2.2.2.2.2.2.2.2.2.2)
def cc_ys (q : cc_TQ) (s : cc_TS) : SY := (q.1, q.2.1, s.1, s.2.1, s.2.2.1, s.2.2.2.1, s.2.2.2.2.1, s.2.2.2.2.2.1, q.2.2.1, q.2.2.2.1, q.2.2.2.2.1, q.2.2.2.2.2.1, q.2.2.2.2.2.2, s.2.2.2.2.2.2.1, s.2.2.2.2.2.2.2.1, s.2.2.2.2.2.2.2.2.1, s.2.2.2.2.2.2.2.2.2.1, s.2.2.2.2.2.2.2.2.2.2.1, s.2.2.2.2.2.2.2.2.2.2.2)
theorem cc_u (f : Nat → Int32) {k j : Nat} (e : k = j) (x : Int32) : upd f k x = upd f j x := by rw [e]
section
variable {post : SX → Prop} {p : cc_TP} {c : cc_TC} {t : cc_TT} {f : cc_TF} {r : cc_TR}
theorem cc_emit {pd w e : Int32} {cd ex en gc ge pf : Nat → Int32} {s : Nat} (hs : s < 128) (h : post (cc_xs p (nI (s + 1), pd, upd cd s w, upd ex s e, en, gc, ge, pf) t f r)) : wpX_emit post (cc_xs p (nI s, pd, cd, ex, en, gc, ge, pf) t f r) w e := by
  have i : vp_in (nI s) 128 := vp_in_nI hs (by omega)
  have e1 : (nI s).toNatClampNeg = s := nI_clamp (by omega)
  refine And.intro i (nm_r (cc_u cd e1 w) (And.intro i (nm_r (cc_u ex e1 e) (nm_r (e' := nI (s + 1)) (nI_1 s) h))))
theorem cc_begin {x : Int32} {tk ph ho : Nat → Int32} {k : Nat} (hk : k < 32) (h : post (cc_xs p c (nI (k + 1), upd tk k x, upd ph k 0, ho) f r)) : wpX_begin post (cc_xs p c (nI k, tk, ph, ho) f r) x := by
  have i : vp_in (nI k) 32 := vp_in_nI hk (by omega)
  have e1 : (nI k).toNatClampNeg = k := nI_clamp (by omega)
  refine And.intro i (nm_r (cc_u tk e1 x) (And.intro i (nm_r (cc_u ph e1 0) (nm_r (e' := nI (k + 1)) (nI_1 k) h))))
theorem cc_push {fr cl ca en a d : Int32} {tg dt : Nat → Int32} {q : (Nat → Int32) × (Nat → Int32) × (Nat → Int32) × (Nat → Int32) × (Nat → Int32) × (Nat → Int32) × (Nat → Int32) × (Nat → Int32) × (Nat → Int32)} {v : Nat} (hv : v < 1600) (h : post (cc_xs p c t f (nI (v + 1), fr, cl, ca, en, upd tg v a, upd dt v d, q))) : wpX_push post (cc_xs p c t f (nI v, fr, cl, ca, en, tg, dt, q)) a d := by
  have i : vp_in (nI v) 1600 := vp_in_nI hv (by omega)
  have e1 : (nI v).toNatClampNeg = v := nI_clamp (by omega)
  refine And.intro i (nm_r (cc_u tg e1 a) (And.intro i (nm_r (cc_u dt e1 d) (nm_r (e' := nI (v + 1)) (nI_1 v) h))))
end
section
variable {n : Nat} {K N W P : Nat → Int32} {cn hg : Int32} {PA PB PC sk : Nat → Int32} {c : cc_TC} {t : cc_TT} {f : cc_TF} {r : cc_TR}
section
variable {f_count f_height f_size f_pending f_tasks f_values f_frames f_closures f_called f_ended f_foundCode f_foundExtra f_crossed : Int32} {a_partA a_partB a_partC a_stack a_code a_extra a_entry a_getCode a_getExtra a_pendingFunction a_task a_phase a_hole a_tag a_datum a_back a_running a_argTag a_argDatum a_slotTag a_slotDatum a_closureOf a_keptTag a_keptDatum : Nat → Int32}
theorem cc_bl {post : Int32 → Prop} (hn : n ≤ 24) (hU : ∀ x, x < n → cc_Up n W x) : ∀ (d x a i : Nat), x < n → n ≤ x + d → i ≤ x → post (nI (a + cc_b K W P x)) → wX_bindsAround_7 post f_count f_height f_size f_pending f_tasks f_values f_frames f_closures f_called f_ended f_foundCode f_foundExtra f_crossed K a_partA a_partB a_partC N W P a_stack a_code a_extra a_entry a_getCode a_getExtra a_pendingFunction a_task a_phase a_hole a_tag a_datum a_back a_running a_argTag a_argDatum a_slotTag a_slotDatum a_closureOf a_keptTag a_keptDatum (d + 1) (nI a) (nI x) (nI i) := by
  intro d
  induction d with
  | zero => intro x a i hx hd; omega
  | succ d ih =>
    intro x a i hx hd hi hp
    have e1 : (nI x).toNatClampNeg = x := nI_clamp (by omega)
    have i1 : vp_in (nI x) 24 := vp_in_nI (by omega) (by omega)
    have n1 : ¬ (24 : Int32) ≤ nI i := nI_ge (b := 24) (by omega) (by omega)
    refine br_f n1 (And.intro i1 ?_)
    rw [e1]
    rcases hU x hx with h | ⟨w, h, h1, h2⟩
    · rw [cc_b_r h] at hp
      exact br_t (by rw [h]; decide) hp
    · have e2 : (nI w).toNatClampNeg = w := nI_clamp (by omega)
      have i2 : vp_in (nI w) 24 := vp_in_nI (by omega) (by omega)
      rw [h, e2]
      refine br_f (nI_pos (by omega)) (And.intro i1 (And.intro i2 ?_))
      rw [cc_b_w h h1 (by omega)] at hp
      by_cases k7 : K w = 7
      · rw [if_pos k7] at hp
        exact br_t k7 hp
      · rw [if_neg k7] at hp
        refine br_f k7 (And.intro i1 (And.intro i2 ?_))
        by_cases k6 : K w = 6
        · rw [if_pos k6] at hp
          refine br_t k6 (And.intro i1 ?_)
          by_cases p1 : P x = 1
          · rw [if_pos p1] at hp
            exact br_t p1 (nm_r (nI_1 a) (And.intro i1 (nm_e (nm_r (nI_1 i) (ih w (a + 1) (i + 1) h2 (by omega) (by omega) (by rw [Nat.add_assoc]; exact hp))))))
          · rw [if_neg p1, Nat.zero_add] at hp
            exact br_f p1 (And.intro i1 (nm_e (nm_r (nI_1 i) (ih w a (i + 1) h2 (by omega) (by omega) hp))))
        · rw [if_neg k6, Nat.zero_add] at hp
          exact br_f k6 (And.intro i1 (nm_e (nm_r (nI_1 i) (ih w a (i + 1) h2 (by omega) (by omega) hp))))
end
theorem cc_ba {post : Int32 → Prop} (hn : n ≤ 24) (hU : ∀ x, x < n → cc_Up n W x) {x : Nat} (hx : x < n) (h : post (nI (cc_b K W P x))) : wpX_bindsAround post (cc_xs (cn, hg, K, PA, PB, PC, N, W, P, sk) c t f r) (nI x) :=
  ⟨25, cc_bl hn hU 24 x 0 0 hx (by omega) (by omega) (by rw [Nat.zero_add]; exact h)⟩
section
variable {f_count f_height f_size f_pending f_tasks f_values f_frames f_closures f_called f_ended : Int32} {a_partA a_partB a_partC a_stack a_code a_extra a_entry a_getCode a_getExtra a_pendingFunction a_task a_phase a_hole a_tag a_datum a_back a_running a_argTag a_argDatum a_slotTag a_slotDatum a_closureOf a_keptTag a_keptDatum : Nat → Int32}
theorem cc_ll {post : SX → Prop} (hn : n ≤ 24) (hU : ∀ x, x < n → cc_Up n W x) {v : Nat} : ∀ (d x i : Nat), x < n → n ≤ x + d → i ≤ x → post (f_count, f_height, f_size, f_pending, f_tasks, f_values, f_frames, f_closures, f_called, f_ended, (cc_lo K N W P v x).1, (cc_lo K N W P v x).2.1, (cc_lo K N W P v x).2.2, K, a_partA, a_partB, a_partC, N, W, P, a_stack, a_code, a_extra, a_entry, a_getCode, a_getExtra, a_pendingFunction, a_task, a_phase, a_hole, a_tag, a_datum, a_back, a_running, a_argTag, a_argDatum, a_slotTag, a_slotDatum, a_closureOf, a_keptTag, a_keptDatum) → wX_lookOut_21 post (nI v) f_count f_height f_size f_pending f_tasks f_values f_frames f_closures f_called f_ended 15 0 (-1) K a_partA a_partB a_partC N W P a_stack a_code a_extra a_entry a_getCode a_getExtra a_pendingFunction a_task a_phase a_hole a_tag a_datum a_back a_running a_argTag a_argDatum a_slotTag a_slotDatum a_closureOf a_keptTag a_keptDatum (d + 1) (nI x) (nI i) := by
  intro d
  induction d with
  | zero => intro x i hx hd; omega
  | succ d ih =>
    intro x i hx hd hi hp
    have e1 : (nI x).toNatClampNeg = x := nI_clamp (by omega)
    have i1 : vp_in (nI x) 24 := vp_in_nI (by omega) (by omega)
    have n1 : ¬ (24 : Int32) ≤ nI i := nI_ge (b := 24) (by omega) (by omega)
    refine br_f n1 (And.intro i1 ?_)
    rw [e1]
    rcases hU x hx with h | ⟨w, h, h1, h2⟩
    · rw [cc_lo_r h] at hp
      exact br_t (by rw [h]; decide) hp
    · have e2 : (nI w).toNatClampNeg = w := nI_clamp (by omega)
      have i2 : vp_in (nI w) 24 := vp_in_nI (by omega) (by omega)
      rw [h]
      refine br_f (nI_pos (by omega)) (And.intro i1 (nm_e (And.intro i2 ?_)))
      rw [e2]
      rw [cc_lo_w h h1 (by omega)] at hp
      have tl : (¬ (K w = 6 ∧ P x = 1 ∧ N w = nI v)) → wX_lookOut_95 post (wX_lookOut_21 post (nI v) f_count f_height f_size f_pending f_tasks f_values f_frames f_closures f_called f_ended 15 0 (-1) K a_partA a_partB a_partC N W P a_stack a_code a_extra a_entry a_getCode a_getExtra a_pendingFunction a_task a_phase a_hole a_tag a_datum a_back a_running a_argTag a_argDatum a_slotTag a_slotDatum a_closureOf a_keptTag a_keptDatum (d + 1)) (nI v) (nI i) (nI w) f_count f_height f_size f_pending f_tasks f_values f_frames f_closures f_called f_ended 15 0 (-1) K a_partA a_partB a_partC N W P a_stack a_code a_extra a_entry a_getCode a_getExtra a_pendingFunction a_task a_phase a_hole a_tag a_datum a_back a_running a_argTag a_argDatum a_slotTag a_slotDatum a_closureOf a_keptTag a_keptDatum := by
        intro c6
        rw [if_neg c6] at hp
        refine And.intro i2 ?_
        rw [e2]
        by_cases k7 : K w = 7
        · rw [if_pos k7] at hp
          refine br_t k7 (And.intro i2 ?_)
          by_cases a1 : N w &&& 3 = nI v
          · rw [if_pos a1] at hp
            refine br_t a1 (And.intro i2 ?_)
            rw [e2]
            by_cases a2 : N w >>> ((2 : Int32) &&& 31) = nI v
            · exact br_t a2 (br_f (by decide) (br_f (by decide) hp))
            · exact br_f a2 (br_f (by decide) (br_f (by decide) hp))
          · rw [if_neg a1] at hp
            refine br_f a1 (And.intro i2 ?_)
            rw [e2]
            by_cases a2 : N w >>> ((2 : Int32) &&& 31) = nI v
            · rw [if_pos a2] at hp
              exact br_t a2 (br_t rfl (br_f (by decide) (br_t rfl (br_f (by decide) hp))))
            · rw [if_neg a2] at hp
              exact br_f a2 (br_t rfl (br_t rfl (br_t rfl (br_t rfl hp))))
        · rw [if_neg k7] at hp
          exact br_f k7 (nm_r (nI_1 i) (ih w (i + 1) h2 (by omega) (by omega) hp))
      by_cases k6 : K w = 6
      · refine br_t k6 (And.intro i1 ?_)
        by_cases p1 : P x = 1
        · refine br_t p1 (And.intro i2 ?_)
          by_cases nv : N w = nI v
          · rw [if_pos ⟨k6, p1, nv⟩] at hp
            exact br_t nv ⟨25, cc_bl hn hU 24 w 0 0 h2 (by omega) (by omega) (by rw [Nat.zero_add]; exact hp)⟩
          · exact br_f nv (tl (fun q => nv q.2.2))
        · exact br_f p1 (tl (fun q => p1 q.2.1))
      · exact br_f k6 (tl (fun q => k6 q.1))
end
theorem cc_lk {post : SX → Prop} (hn : n ≤ 24) (hU : ∀ x, x < n → cc_Up n W x) {x v : Nat} (hx : x < n) (h : post (cc_xs (cn, hg, K, PA, PB, PC, N, W, P, sk) c t (cc_lo K N W P v x) r)) : wpX_lookOut post (cc_xs (cn, hg, K, PA, PB, PC, N, W, P, sk) c t f r) (nI x) (nI v) :=
  ⟨25, cc_ll hn hU 24 x 0 hx (by omega) (by omega) h⟩
end
end
section
/-! the component's compiler: single steps -/
def cc_Gt (K N W P gc ge : Nat → Int32) (f v : Nat) : Prop := v < 4 ∧ gc (f * 4 + v) = (cc_lo K N W P v f).1 ∧ ge (f * 4 + v) = (cc_lo K N W P v f).2.1
/-- getCode and getExtra were written well or not at all -/
def cc_Gs (K N W P gc ge gc' ge' : Nat → Int32) : Prop := ∀ f v, v < 4 → (gc' (f * 4 + v) = gc (f * 4 + v) ∧ ge' (f * 4 + v) = ge (f * 4 + v)) ∨ cc_Gt K N W P gc' ge' f v
theorem cc_ix4 (f v : Nat) : nI f * 4 + nI v = nI (f * 4 + v) := by
  rw [show (4 : Int32) = nI 4 from rfl, pk_mul, nI_add]
def cc_LK (post : SX → Prop) (v c0 e0 : Int32) (n : Nat) (i : Int32) (u : SX) : Prop := wX_capture_23 post v c0 e0 n i u.1 u.2.1 u.2.2.1 u.2.2.2.1 u.2.2.2.2.1 u.2.2.2.2.2.1 u.2.2.2.2.2.2.1 u.2.2.2.2.2.2.2.1 u.2.2.2.2.2.2.2.2.1 u.2.2.2.2.2.2.2.2.2.1 u.2.2.2.2.2.2.2.2.2.2.1 u.2.2.2.2.2.2.2.2.2.2.2.1 u.2.2.2.2.2.2.2.2.2.2.2.2.1 u.2.2.2.2.2.2.2.2.2.2.2.2.2.1 u.2.2.2.2.2.2.2.2.2.2.2.2.2.2.1 u.2.2.2.2.2.2.2.2.2.2.2.2.2.2.2.1 u.2.2.2.2.2.2.2.2.2.2.2.2.2.2.2.2.1 u.2.2.2.2.2.2.2.2.2.2.2.2.2.2.2.2.2.1 u.2.2.2.2.2.2.2.2.2.2.2.2.2.2.2.2.2.2.1 u.2.2.2.2.2.2.2.2.2.2.2.2.2.2.2.2.2.2.2.1 u.2.2.2.2.2.2.2.2.2.2.2.2.2.2.2.2.2.2.2.2.1 u.2.2.2.2.2.2.2.2.2.2.2.2.2.2.2.2.2.2.2.2.2.1 u.2.2.2.2.2.2.2.2.2.2.2.2.2.2.2.2.2.2.2.2.2.2.1 u.2.2.2.2.2.2.2.2.2.2.2.2.2.2.2.2.2.2.2.2.2.2.2.1 u.2.2.2.2.2.2.2.2.2.2.2.2.2.2.2.2.2.2.2.2.2.2.2.2.1 u.2.2.2.2.2.2.2.2.2.2.2.2.2.2.2.2.2.2.2.2.2.2.2.2.2.1 u.2.2.2.2.2.2.2.2.2.2.2.2.2.2.2.2.2.2.2.2.2.2.2.2.2.2.1 u.2.2.2.2.2.2.2.2.2.2.2.2.2.2.2.2.2.2.2.2.2.2.2.2.2.2.2.1 u.2.2.2.2.2.2.2.2.2.2.2.2.2.2.2.2.2.2.2.2.2.2.2.2.2.2.2.2.1 u.2.2.2.2.2.2.2.2.2.2.2.2.2.2.2.2.2.2.2.2.2.2.2.2.2.2.2.2.2.1 u.2.2.2.2.2.2.2.2.2.2.2.2.2.2.2.2.2.2.2.2.2.2.2.2.2.2.2.2.2.2.1 u.2.2.2.2.2.2.2.2.2.2.2.2.2.2.2.2.2.2.2.2.2.2.2.2.2.2.2.2.2.2.2.1 u.2.2.2.2.2.2.2.2.2.2.2.2.2.2.2.2.2.2.2.2.2.2.2.2.2.2.2.2.2.2.2.2.1 u.2.2.2.2.2.2.2.2.2.2.2.2.2.2.2.2.2.2.2.2.2.2.2.2.2.2.2.2.2.2.2.2.2.1 u.2.2.2.2.2.2.2.2.2.2.2.2.2.2.2.2.2.2.2.2.2.2.2.2.2.2.2.2.2.2.2.2.2.2.1 u.2.2.2.2.2.2.2.2.2.2.2.2.2.2.2.2.2.2.2.2.2.2.2.2.2.2.2.2.2.2.2.2.2.2.2.1 u.2.2.2.2.2.2.2.2.2.2.2.2.2.2.2.2.2.2.2.2.2.2.2.2.2.2.2.2.2.2.2.2.2.2.2.2.1 u.2.2.2.2.2.2.2.2.2.2.2.2.2.2.2.2.2.2.2.2.2.2.2.2.2.2.2.2.2.2.2.2.2.2.2.2.2.1 u.2.2.2.2.2.2.2.2.2.2.2.2.2.2.2.2.2.2.2.2.2.2.2.2.2.2.2.2.2.2.2.2.2.2.2.2.2.2.1 u.2.2.2.2.2.2.2.2.2.2.2.2.2.2.2.2.2.2.2.2.2.2.2.2.2.2.2.2.2.2.2.2.2.2.2.2.2.2.2.1 u.2.2.2.2.2.2.2.2.2.2.2.2.2.2.2.2.2.2.2.2.2.2.2.2.2.2.2.2.2.2.2.2.2.2.2.2.2.2.2.2
section
variable {n : Nat} {K N W P : Nat → Int32} {A B C z : Nat → Nat} {fr : Nat → Nat → Bool} {cn hg : Int32} {PA PB PC sk : Nat → Int32} {c : cc_TC} {t : cc_TT} {f : cc_TF} {r : cc_TR} {sz pd : Int32} {cd ex en gc ge pf tk ph ho : Nat → Int32}
theorem cc_Gs_t {gc' ge' : Nat → Int32} (h : cc_Gs K N W P gc ge gc' ge') : ∀ f v, cc_Gt K N W P gc ge f v → cc_Gt K N W P gc' ge' f v := by
  intro f v g
  rcases h f v g.1 with q | q
  · exact ⟨g.1, by rw [q.1]; exact g.2.1, by rw [q.2]; exact g.2.2⟩
  · exact q
theorem cc_Gs_0 : cc_Gs K N W P gc ge gc ge := fun f v _ => Or.inl ⟨rfl, rfl⟩
theorem cc_Gs_c {gc' ge' gc2 ge2 : Nat → Int32} (h : cc_Gs K N W P gc ge gc' ge') (h2 : cc_Gs K N W P gc' ge' gc2 ge2) : cc_Gs K N W P gc ge gc2 ge2 := by
  intro f v hv
  rcases h f v hv with q | q
  · rcases h2 f v hv with q2 | q2
    · exact Or.inl ⟨q2.1.trans q.1, q2.2.trans q.2⟩
    · exact Or.inr q2
  · exact Or.inr (cc_Gs_t h2 f v q)
theorem cc_Gs_u {w v : Nat} (hv : v < 4) : cc_Gs K N W P gc ge (upd gc (w * 4 + v) (cc_lo K N W P v w).1) (upd ge (w * 4 + v) (cc_lo K N W P v w).2.1) := by
  intro f v' hv'
  by_cases q : f * 4 + v' = w * 4 + v
  · have q1 : f = w := by omega
    have q2 : v' = v := by omega
    rw [q1, q2]
    exact Or.inr ⟨hv, pk_us, pk_us⟩
  · exact Or.inl ⟨pk_un q, pk_un q⟩
theorem cc_cl (hn : n ≤ 24) (hU : ∀ x, x < n → cc_Up n W x) {v : Nat} (hv : v < 4) {c0 e0 : Int32} : ∀ (d i x : Nat) (gc ge : Nat → Int32) (fc fe : Int32), x < n → n ≤ x + d → i ≤ x → ∃ gc' ge' cr', (cc_cx K N W P (cc_Gt K N W P gc' ge') v x ∧ cc_Gs K N W P gc ge gc' ge') ∧ ∀ post : SX → Prop, post (cc_xs (cn, hg, K, PA, PB, PC, N, W, P, sk) (sz, pd, cd, ex, en, gc', ge', pf) t (c0, e0, cr') r) → cc_LK post (nI v) c0 e0 (d + 1) (nI i) (cc_xs (cn, hg, K, PA, PB, PC, N, W, P, sk) (sz, pd, cd, ex, en, gc, ge, pf) t (fc, fe, (cc_lo K N W P v x).2.2) r) := by
  intro d
  induction d with
  | zero => intro i x gc ge fc fe hx hd; omega
  | succ d ih =>
    intro i x gc ge fc fe hx hd hi
    have n1 : ¬ (24 : Int32) ≤ nI i := nI_ge (b := 24) (by omega) (by omega)
    by_cases hc : (cc_lo K N W P v x).2.2 < 0
    · exact ⟨gc, ge, _, ⟨fun q => absurd hc q, cc_Gs_0⟩, fun post hp => br_f n1 (br_t hc hp)⟩
    · obtain ⟨w, w1, w2, w3, w4⟩ := cc_lo_c hn hU hv hx hc
      have e3 : (cc_lo K N W P v x).2.2 = nI w := by rw [w4]
      have ix : vp_in (nI w * 4 + nI v) 96 := by rw [cc_ix4]; exact vp_in_nI (by omega) (by omega)
      have e4 : (nI w * 4 + nI v).toNatClampNeg = w * 4 + v := by rw [cc_ix4]; exact nI_clamp (by omega)
      obtain ⟨gc', ge', cr', ⟨f1, f2⟩, f3⟩ := ih (i + 1) w (upd gc (w * 4 + v) (cc_lo K N W P v w).1) (upd ge (w * 4 + v) (cc_lo K N W P v w).2.1) (cc_lo K N W P v w).1 (cc_lo K N W P v w).2.1 w2 (by omega) (by omega)
      have g1 : cc_Gt K N W P gc' ge' w v := cc_Gs_t f2 w v ⟨hv, pk_us, pk_us⟩
      refine ⟨gc', ge', cr', ⟨?_, cc_Gs_c (cc_Gs_u hv) f2⟩, fun post hp => br_f n1 (br_f hc ?_)⟩
      · intro _
        rw [e3, nI_clamp (by omega), cc_ch]
        refine ⟨g1, ?_⟩
        split
        · rename_i q
          exact f1 q.1
        · trivial
      · rw [e3]
        refine cc_lk (K := K) (N := N) (W := W) (P := P) (cn := cn) (hg := hg) (PA := PA) (PB := PB) (PC := PC) (sk := sk) (c := (sz, pd, cd, ex, en, gc, ge, pf)) (t := t) (f := (fc, fe, nI w)) (r := r) (v := v) hn hU w2 ?_
        exact And.intro ix (nm_r (cc_u gc e4 (cc_lo K N W P v w).1) (And.intro ix (nm_r (cc_u ge e4 (cc_lo K N W P v w).2.1) (nm_r (nI_1 i) (f3 post hp)))))
theorem cc_cap (hn : n ≤ 24) (hU : ∀ x, x < n → cc_Up n W x) {v : Nat} (hv : v < 4) {x : Nat} (hx : x < n) : ∃ gc' ge' cr', (cc_cx K N W P (cc_Gt K N W P gc' ge') v x ∧ cc_Gs K N W P gc ge gc' ge') ∧ ∀ post : SX → Prop, post (cc_xs (cn, hg, K, PA, PB, PC, N, W, P, sk) (sz, pd, cd, ex, en, gc', ge', pf) t ((cc_lo K N W P v x).1, (cc_lo K N W P v x).2.1, cr') r) → wpX_capture post (cc_xs (cn, hg, K, PA, PB, PC, N, W, P, sk) (sz, pd, cd, ex, en, gc, ge, pf) t f r) (nI x) (nI v) := by
  obtain ⟨gc', ge', cr', f1, f3⟩ := cc_cl (K := K) (N := N) (P := P) (cn := cn) (hg := hg) (PA := PA) (PB := PB) (PC := PC) (sk := sk) (t := t) (r := r) (sz := sz) (pd := pd) (cd := cd) (ex := ex) (en := en) (pf := pf) hn hU hv (c0 := (cc_lo K N W P v x).1) (e0 := (cc_lo K N W P v x).2.1) 24 0 x gc ge (cc_lo K N W P v x).1 (cc_lo K N W P v x).2.1 hx (by omega) (by omega)
  exact ⟨gc', ge', cr', f1, fun post hp => cc_lk (K := K) (N := N) (W := W) (P := P) (cn := cn) (hg := hg) (PA := PA) (PB := PB) (PC := PC) (sk := sk) (c := (sz, pd, cd, ex, en, gc, ge, pf)) (t := t) (f := f) (r := r) hn hU hx ⟨25, f3 post hp⟩⟩
theorem cc_l8 {post : SX → Prop} {x s : Nat} (hx : x < 24) (k8 : K x = 8) (hs : s < 128) (hp : post (cc_xs (cn, hg, K, PA, PB, PC, N, W, P, sk) (nI (s + 1), pd, upd cd s 10, upd ex s (N x), en, gc, ge, pf) t f r)) : wpX_compileLeaf post (cc_xs (cn, hg, K, PA, PB, PC, N, W, P, sk) (nI s, pd, cd, ex, en, gc, ge, pf) t f r) (nI x) := by
  have e1 : (nI x).toNatClampNeg = x := nI_clamp (by omega)
  have i1 : vp_in (nI x) 24 := vp_in_nI (by omega) (by omega)
  have kx : K (nI x).toNatClampNeg = 8 := by rw [e1]; exact k8
  exact And.intro i1 (br_t kx (And.intro i1 (cc_emit (p := (cn, hg, K, PA, PB, PC, N, W, P, sk)) (t := t) (f := f) (r := r) (w := 10) (e := N (nI x).toNatClampNeg) hs (by rw [e1]; exact hp))))
theorem cc_l7 {post : SX → Prop} {x s q : Nat} (hx : x < 24) (k7 : K x = 7) (hs : s < 128) (hq : q < 24) (hp : post (cc_xs (cn, hg, K, PA, PB, PC, N, W, P, sk) (nI (s + 1), nI (q + 1), upd cd s 17, upd ex s (nI x), en, gc, ge, upd pf q (nI x)) t f r)) : wpX_compileLeaf post (cc_xs (cn, hg, K, PA, PB, PC, N, W, P, sk) (nI s, nI q, cd, ex, en, gc, ge, pf) t f r) (nI x) := by
  have e1 : (nI x).toNatClampNeg = x := nI_clamp (by omega)
  have i1 : vp_in (nI x) 24 := vp_in_nI (by omega) (by omega)
  have e2 : (nI q).toNatClampNeg = q := nI_clamp (by omega)
  have kx : K (nI x).toNatClampNeg = 7 := by rw [e1]; exact k7
  have n8 : ¬ K (nI x).toNatClampNeg = 8 := by rw [kx]; decide
  have n9 : ¬ K (nI x).toNatClampNeg = 9 := by rw [kx]; decide
  refine And.intro i1 (br_f n8 (And.intro i1 (br_f n9 ?_)))
  refine cc_emit (p := (cn, hg, K, PA, PB, PC, N, W, P, sk)) (t := t) (f := f) (r := r) hs ?_
  exact And.intro (vp_in_nI hq (by omega)) (nm_r (cc_u pf e2 (nI x)) (nm_r (nI_1 q) hp))
theorem cc_l9 (hn : n ≤ 24) (hU : ∀ x, x < n → cc_Up n W x) {x s v : Nat} (hx : x < n) (k9 : K x = 9) (hv : v < 4) (hN : N x = nI v) (hs : s < 128) : ∃ gc' ge' cr', (cc_cx K N W P (cc_Gt K N W P gc' ge') v x ∧ cc_Gs K N W P gc ge gc' ge') ∧ ∀ post : SX → Prop, post (cc_xs (cn, hg, K, PA, PB, PC, N, W, P, sk) (nI (s + 1), pd, upd cd s (cc_lo K N W P v x).1, upd ex s (cc_lo K N W P v x).2.1, en, gc', ge', pf) t ((cc_lo K N W P v x).1, (cc_lo K N W P v x).2.1, cr') r) → wpX_compileLeaf post (cc_xs (cn, hg, K, PA, PB, PC, N, W, P, sk) (nI s, pd, cd, ex, en, gc, ge, pf) t f r) (nI x) := by
  obtain ⟨gc', ge', cr', f1, f3⟩ := cc_cap (K := K) (N := N) (P := P) (cn := cn) (hg := hg) (PA := PA) (PB := PB) (PC := PC) (sk := sk) (t := t) (f := f) (r := r) (sz := nI s) (pd := pd) (cd := cd) (ex := ex) (en := en) (gc := gc) (ge := ge) (pf := pf) hn hU hv hx
  have e1 : (nI x).toNatClampNeg = x := nI_clamp (by omega)
  have i1 : vp_in (nI x) 24 := vp_in_nI (by omega) (by omega)
  refine ⟨gc', ge', cr', f1, fun post hp => ?_⟩
  have kx : K (nI x).toNatClampNeg = 9 := by rw [e1]; exact k9
  have n8 : ¬ K (nI x).toNatClampNeg = 8 := by rw [kx]; decide
  have eN : N (nI x).toNatClampNeg = nI v := by rw [e1]; exact hN
  refine And.intro i1 (br_f n8 (And.intro i1 (br_t kx (And.intro i1 ?_))))
  show wpX_capture _ _ (nI x) (N (nI x).toNatClampNeg)
  rw [eN]
  exact f3 _ (cc_emit (p := (cn, hg, K, PA, PB, PC, N, W, P, sk)) (t := t) (r := r) hs hp)
end
end
section
/-! one step of the compiler, by kind and phase -/
section
variable {n : Nat} {K N W P : Nat → Int32} {cn hg : Int32} {PA PB PC sk : Nat → Int32} {c : cc_TC} {f : cc_TF} {r : cc_TR} {pd : Int32} {cd ex en gc ge pf tk ph ho : Nat → Int32} {post : SX → Prop} {x k s : Nat}
theorem cc_s0 (hx : x < 24) (hk : k + 1 < 32) (htk : tk k = nI x) (hph : ph k = 0) (h7 : K x < 7) (hp : post (cc_xs (cn, hg, K, PA, PB, PC, N, W, P, sk) c (nI (k + 2), upd tk (k + 1) (PA x), upd (upd ph k 1) (k + 1) 0, ho) f r)) : wpX_compileStep post (cc_xs (cn, hg, K, PA, PB, PC, N, W, P, sk) c (nI (k + 1), tk, ph, ho) f r) := by
  have ek : (nI k).toNatClampNeg = k := nI_clamp (by omega);  have ex1 : (nI x).toNatClampNeg = x := nI_clamp (by omega);  have ik : vp_in (nI k) 32 := vp_in_nI (by omega) (by omega);  have ix : vp_in (nI x) 24 := vp_in_nI (by omega) (by omega);  have etk : tk (nI k).toNatClampNeg = nI x := by rw [ek]; exact htk
  have eph : ph (nI k).toNatClampNeg = 0 := by rw [ek]; exact hph
  have eup : upd ph (nI k).toNatClampNeg ((0 : Int32) + 1) = upd ph k 1 := by rw [ek]; rfl
  have k7 : K (nI x).toNatClampNeg < 7 := by rw [ex1]; exact h7
  have B := cc_begin (post := post) (p := (cn, hg, K, PA, PB, PC, N, W, P, sk)) (c := c) (tk := tk) (ph := upd ph k 1) (ho := ho) (f := f) (r := r) (x := PA (nI x).toNatClampNeg) hk (by rw [ex1]; exact hp)
  refine nm_r (e' := nI k) (nI_pred k) (And.intro ik (nm_r (e' := nI x) etk (And.intro ik (nm_r eph (And.intro ik (nm_r eup (And.intro ix (br_t k7 (And.intro ix ?_)) )))))))
  by_cases h5 : K (nI x).toNatClampNeg = 5
  · exact br_t h5 (br_t rfl (And.intro ix B))
  · exact br_f h5 (br_t rfl (And.intro ix B))
theorem cc_s1o (hx : x < 24) (hk : k + 1 < 32) (htk : tk k = nI x) (hph : ph k = 1) (h7 : K x < 7) (h5 : K x ≠ 5) (h6 : K x ≠ 6) (hp : post (cc_xs (cn, hg, K, PA, PB, PC, N, W, P, sk) c (nI (k + 2), upd tk (k + 1) (PB x), upd (upd ph k 2) (k + 1) 0, ho) f r)) : wpX_compileStep post (cc_xs (cn, hg, K, PA, PB, PC, N, W, P, sk) c (nI (k + 1), tk, ph, ho) f r) := by
  have ek : (nI k).toNatClampNeg = k := nI_clamp (by omega);  have ex1 : (nI x).toNatClampNeg = x := nI_clamp (by omega);  have ik : vp_in (nI k) 32 := vp_in_nI (by omega) (by omega);  have ix : vp_in (nI x) 24 := vp_in_nI (by omega) (by omega);  have etk : tk (nI k).toNatClampNeg = nI x := by rw [ek]; exact htk
  have eph : ph (nI k).toNatClampNeg = 1 := by rw [ek]; exact hph
  have eup : upd ph (nI k).toNatClampNeg ((1 : Int32) + 1) = upd ph k 2 := by rw [ek]; rfl
  have k7 : K (nI x).toNatClampNeg < 7 := by rw [ex1]; exact h7
  have k5 : ¬ K (nI x).toNatClampNeg = 5 := by rw [ex1]; exact h5
  have k6 : ¬ K (nI x).toNatClampNeg = 6 := by rw [ex1]; exact h6
  have B := cc_begin (post := post) (p := (cn, hg, K, PA, PB, PC, N, W, P, sk)) (c := c) (tk := tk) (ph := upd ph k 2) (ho := ho) (f := f) (r := r) (x := PB (nI x).toNatClampNeg) hk (by rw [ex1]; exact hp)
  exact nm_r (e' := nI k) (nI_pred k) (And.intro ik (nm_r (e' := nI x) etk (And.intro ik (nm_r eph (And.intro ik (nm_r eup (And.intro ix (br_t k7 (And.intro ix (br_f k5 (br_f (by decide) (br_t rfl (And.intro ix (br_f k6 (And.intro ix B)))))))) )))))))
theorem cc_s1b (hn : n ≤ 24) (hU : ∀ x, x < n → cc_Up n W x) (hx : x < n) (hk : k + 1 < 32) (hs : s < 128) (htk : tk k = nI x) (hph : ph k = 1) (h6 : K x = 6) (hp : post (cc_xs (cn, hg, K, PA, PB, PC, N, W, P, sk) (nI (s + 1), pd, upd cd s 16, upd ex s (nI (cc_b K W P x)), en, gc, ge, pf) (nI (k + 2), upd tk (k + 1) (PB x), upd (upd ph k 2) (k + 1) 0, ho) f r)) : wpX_compileStep post (cc_xs (cn, hg, K, PA, PB, PC, N, W, P, sk) (nI s, pd, cd, ex, en, gc, ge, pf) (nI (k + 1), tk, ph, ho) f r) := by
  have ek : (nI k).toNatClampNeg = k := nI_clamp (by omega);  have ex1 : (nI x).toNatClampNeg = x := nI_clamp (by omega);  have ik : vp_in (nI k) 32 := vp_in_nI (by omega) (by omega);  have ix : vp_in (nI x) 24 := vp_in_nI (by omega) (by omega);  have etk : tk (nI k).toNatClampNeg = nI x := by rw [ek]; exact htk
  have eph : ph (nI k).toNatClampNeg = 1 := by rw [ek]; exact hph
  have eup : upd ph (nI k).toNatClampNeg ((1 : Int32) + 1) = upd ph k 2 := by rw [ek]; rfl
  have k6 : K (nI x).toNatClampNeg = 6 := by rw [ex1]; exact h6
  have k7 : K (nI x).toNatClampNeg < 7 := by rw [k6]; decide
  have k5 : ¬ K (nI x).toNatClampNeg = 5 := by rw [k6]; decide
  have B := cc_begin (post := post) (p := (cn, hg, K, PA, PB, PC, N, W, P, sk)) (c := (nI (s + 1), pd, upd cd s 16, upd ex s (nI (cc_b K W P x)), en, gc, ge, pf)) (tk := tk) (ph := upd ph k 2) (ho := ho) (f := f) (r := r) (x := PB (nI x).toNatClampNeg) hk (by rw [ex1]; exact hp)
  refine nm_r (e' := nI k) (nI_pred k) (And.intro ik (nm_r (e' := nI x) etk (And.intro ik (nm_r eph (And.intro ik (nm_r eup (And.intro ix (br_t k7 (And.intro ix (br_f k5 (br_f (by decide) (br_t rfl (And.intro ix (br_t k6 ?_))))))) )))))))
  refine cc_ba (K := K) (N := N) (W := W) (P := P) (cn := cn) (hg := hg) (PA := PA) (PB := PB) (PC := PC) (sk := sk) (c := (nI s, pd, cd, ex, en, gc, ge, pf)) (t := (nI (k + 1), tk, upd ph k 2, ho)) (f := f) (r := r) hn hU hx ?_
  exact cc_emit (p := (cn, hg, K, PA, PB, PC, N, W, P, sk)) (t := (nI (k + 1), tk, upd ph k 2, ho)) (f := f) (r := r) hs (And.intro ix B)
theorem cc_s2o (hx : x < 24) (hk : k < 32) (hs : s < 128) (htk : tk k = nI x) (hph : ph k = 2) (h7 : K x < 7) (h5 : K x ≠ 5) (h6 : K x ≠ 6) (hp : post (cc_xs (cn, hg, K, PA, PB, PC, N, W, P, sk) (nI (s + 1), pd, upd cd s (K x), upd ex s 0, en, gc, ge, pf) (nI k, tk, upd ph k 3, ho) f r)) : wpX_compileStep post (cc_xs (cn, hg, K, PA, PB, PC, N, W, P, sk) (nI s, pd, cd, ex, en, gc, ge, pf) (nI (k + 1), tk, ph, ho) f r) := by
  have ek : (nI k).toNatClampNeg = k := nI_clamp (by omega);  have ex1 : (nI x).toNatClampNeg = x := nI_clamp (by omega);  have ik : vp_in (nI k) 32 := vp_in_nI (by omega) (by omega);  have ix : vp_in (nI x) 24 := vp_in_nI (by omega) (by omega);  have etk : tk (nI k).toNatClampNeg = nI x := by rw [ek]; exact htk
  have eph : ph (nI k).toNatClampNeg = 2 := by rw [ek]; exact hph
  have eup : upd ph (nI k).toNatClampNeg ((2 : Int32) + 1) = upd ph k 3 := by rw [ek]; rfl
  have k7 : K (nI x).toNatClampNeg < 7 := by rw [ex1]; exact h7
  have k5 : ¬ K (nI x).toNatClampNeg = 5 := by rw [ex1]; exact h5
  have k6 : ¬ K (nI x).toNatClampNeg = 6 := by rw [ex1]; exact h6
  refine nm_r (e' := nI k) (nI_pred k) (And.intro ik (nm_r (e' := nI x) etk (And.intro ik (nm_r eph (And.intro ik (nm_r eup (And.intro ix (br_t k7 (And.intro ix (br_f k5 (br_f (by decide) (br_f (by decide) (And.intro ix (br_f k6 (And.intro ix ?_)))))))) )))))))
  exact cc_emit (p := (cn, hg, K, PA, PB, PC, N, W, P, sk)) (t := (nI (k + 1), tk, upd ph k 3, ho)) (f := f) (r := r) (w := K (nI x).toNatClampNeg) (e := 0) hs (by rw [ex1]; exact hp)
theorem cc_s2b (hx : x < 24) (hk : k < 32) (htk : tk k = nI x) (hph : ph k = 2) (h6 : K x = 6) (hp : post (cc_xs (cn, hg, K, PA, PB, PC, N, W, P, sk) c (nI k, tk, upd ph k 3, ho) f r)) : wpX_compileStep post (cc_xs (cn, hg, K, PA, PB, PC, N, W, P, sk) c (nI (k + 1), tk, ph, ho) f r) := by
  have ek : (nI k).toNatClampNeg = k := nI_clamp (by omega);  have ex1 : (nI x).toNatClampNeg = x := nI_clamp (by omega);  have ik : vp_in (nI k) 32 := vp_in_nI (by omega) (by omega);  have ix : vp_in (nI x) 24 := vp_in_nI (by omega) (by omega);  have etk : tk (nI k).toNatClampNeg = nI x := by rw [ek]; exact htk
  have eph : ph (nI k).toNatClampNeg = 2 := by rw [ek]; exact hph
  have eup : upd ph (nI k).toNatClampNeg ((2 : Int32) + 1) = upd ph k 3 := by rw [ek]; rfl
  have k6 : K (nI x).toNatClampNeg = 6 := by rw [ex1]; exact h6
  have k7 : K (nI x).toNatClampNeg < 7 := by rw [k6]; decide
  have k5 : ¬ K (nI x).toNatClampNeg = 5 := by rw [k6]; decide
  exact nm_r (e' := nI k) (nI_pred k) (And.intro ik (nm_r (e' := nI x) etk (And.intro ik (nm_r eph (And.intro ik (nm_r eup (And.intro ix (br_t k7 (And.intro ix (br_f k5 (br_f (by decide) (br_f (by decide) (And.intro ix (br_t k6 hp))))))) )))))))
theorem cc_s1c (hx : x < 24) (hk : k + 1 < 32) (hs : s < 128) (htk : tk k = nI x) (hph : ph k = 1) (h5 : K x = 5) (hp : post (cc_xs (cn, hg, K, PA, PB, PC, N, W, P, sk) (nI (s + 1), pd, upd cd s 18, upd ex s 0, en, gc, ge, pf) (nI (k + 2), upd tk (k + 1) (PB x), upd (upd ph k 2) (k + 1) 0, upd ho k (nI s)) f r)) : wpX_compileStep post (cc_xs (cn, hg, K, PA, PB, PC, N, W, P, sk) (nI s, pd, cd, ex, en, gc, ge, pf) (nI (k + 1), tk, ph, ho) f r) := by
  have ek : (nI k).toNatClampNeg = k := nI_clamp (by omega);  have ex1 : (nI x).toNatClampNeg = x := nI_clamp (by omega);  have ik : vp_in (nI k) 32 := vp_in_nI (by omega) (by omega);  have ix : vp_in (nI x) 24 := vp_in_nI (by omega) (by omega);  have etk : tk (nI k).toNatClampNeg = nI x := by rw [ek]; exact htk
  have eph : ph (nI k).toNatClampNeg = 1 := by rw [ek]; exact hph
  have eup : upd ph (nI k).toNatClampNeg ((1 : Int32) + 1) = upd ph k 2 := by rw [ek]; rfl
  have k5 : K (nI x).toNatClampNeg = 5 := by rw [ex1]; exact h5
  have k7 : K (nI x).toNatClampNeg < 7 := by rw [k5]; decide
  have B := cc_begin (post := post) (p := (cn, hg, K, PA, PB, PC, N, W, P, sk)) (c := (nI (s + 1), pd, upd cd s 18, upd ex s 0, en, gc, ge, pf)) (tk := tk) (ph := upd ph k 2) (ho := upd ho k (nI s)) (f := f) (r := r) (x := PB (nI x).toNatClampNeg) hk (by rw [ex1]; exact hp)
  refine nm_r (e' := nI k) (nI_pred k) (And.intro ik (nm_r (e' := nI x) etk (And.intro ik (nm_r eph (And.intro ik (nm_r eup (And.intro ix (br_t k7 (And.intro ix (br_t k5 (br_f (by decide) (br_t rfl (And.intro ik (nm_r (cc_u ho ek (nI s)) ?_))))))) )))))))
  exact cc_emit (p := (cn, hg, K, PA, PB, PC, N, W, P, sk)) (t := (nI (k + 1), tk, upd ph k 2, upd ho k (nI s))) (f := f) (r := r) hs (And.intro ix B)
theorem cc_s2c {y : Nat} (hx : x < 24) (hk : k + 1 < 32) (hs : s < 128) (hy : y < 128) (hho : ho k = nI y) (htk : tk k = nI x) (hph : ph k = 2) (h5 : K x = 5) (hp : post (cc_xs (cn, hg, K, PA, PB, PC, N, W, P, sk) (nI (s + 1), pd, upd cd s 19, upd (upd ex y (nI (s + 1))) s 0, en, gc, ge, pf) (nI (k + 2), upd tk (k + 1) (PC x), upd (upd ph k 3) (k + 1) 0, upd ho k (nI s)) f r)) : wpX_compileStep post (cc_xs (cn, hg, K, PA, PB, PC, N, W, P, sk) (nI s, pd, cd, ex, en, gc, ge, pf) (nI (k + 1), tk, ph, ho) f r) := by
  have ek : (nI k).toNatClampNeg = k := nI_clamp (by omega);  have ex1 : (nI x).toNatClampNeg = x := nI_clamp (by omega);  have ik : vp_in (nI k) 32 := vp_in_nI (by omega) (by omega);  have ix : vp_in (nI x) 24 := vp_in_nI (by omega) (by omega);  have etk : tk (nI k).toNatClampNeg = nI x := by rw [ek]; exact htk
  have eph : ph (nI k).toNatClampNeg = 2 := by rw [ek]; exact hph
  have eup : upd ph (nI k).toNatClampNeg ((2 : Int32) + 1) = upd ph k 3 := by rw [ek]; rfl
  have k5 : K (nI x).toNatClampNeg = 5 := by rw [ex1]; exact h5
  have k7 : K (nI x).toNatClampNeg < 7 := by rw [k5]; decide
  have eho : ho (nI k).toNatClampNeg = nI y := by rw [ek]; exact hho
  have iho : vp_in (ho (nI k).toNatClampNeg) 128 := by rw [eho]; exact vp_in_nI hy (by omega)
  have eex : upd ex (ho (nI k).toNatClampNeg).toNatClampNeg (nI s + 1) = upd ex y (nI (s + 1)) := by rw [eho, nI_clamp (by omega), nI_1]
  have B := cc_begin (post := post) (p := (cn, hg, K, PA, PB, PC, N, W, P, sk)) (c := (nI (s + 1), pd, upd cd s 19, upd (upd ex y (nI (s + 1))) s 0, en, gc, ge, pf)) (tk := tk) (ph := upd ph k 3) (ho := upd ho k (nI s)) (f := f) (r := r) (x := PC (nI x).toNatClampNeg) hk (by rw [ex1]; exact hp)
  refine nm_r (e' := nI k) (nI_pred k) (And.intro ik (nm_r (e' := nI x) etk (And.intro ik (nm_r eph (And.intro ik (nm_r eup (And.intro ix (br_t k7 (And.intro ix (br_t k5 (br_f (by decide) (br_f (by decide) (br_t rfl (And.intro ik (And.intro iho (nm_r eex (And.intro ik (nm_r (cc_u ho ek (nI s)) ?_))))))))))) )))))))
  refine cc_emit (p := (cn, hg, K, PA, PB, PC, N, W, P, sk)) (pd := pd) (cd := cd) (ex := upd ex y (nI (s + 1))) (en := en) (gc := gc) (ge := ge) (pf := pf) (t := (nI (k + 1), tk, upd ph k 3, upd ho k (nI s))) (f := f) (r := r) hs ?_
  exact And.intro ix B
theorem cc_s3c {y : Nat} (hx : x < 24) (hk : k < 32) (hy : y < 128) (hho : ho k = nI y) (htk : tk k = nI x) (hph : ph k = 3) (h5 : K x = 5) (hp : post (cc_xs (cn, hg, K, PA, PB, PC, N, W, P, sk) (nI s, pd, cd, upd ex y (nI s), en, gc, ge, pf) (nI k, tk, upd ph k 4, ho) f r)) : wpX_compileStep post (cc_xs (cn, hg, K, PA, PB, PC, N, W, P, sk) (nI s, pd, cd, ex, en, gc, ge, pf) (nI (k + 1), tk, ph, ho) f r) := by
  have ek : (nI k).toNatClampNeg = k := nI_clamp (by omega);  have ex1 : (nI x).toNatClampNeg = x := nI_clamp (by omega);  have ik : vp_in (nI k) 32 := vp_in_nI (by omega) (by omega);  have ix : vp_in (nI x) 24 := vp_in_nI (by omega) (by omega);  have etk : tk (nI k).toNatClampNeg = nI x := by rw [ek]; exact htk
  have eph : ph (nI k).toNatClampNeg = 3 := by rw [ek]; exact hph
  have eup : upd ph (nI k).toNatClampNeg ((3 : Int32) + 1) = upd ph k 4 := by rw [ek]; rfl
  have k5 : K (nI x).toNatClampNeg = 5 := by rw [ex1]; exact h5
  have k7 : K (nI x).toNatClampNeg < 7 := by rw [k5]; decide
  have eho : ho (nI k).toNatClampNeg = nI y := by rw [ek]; exact hho
  have iho : vp_in (ho (nI k).toNatClampNeg) 128 := by rw [eho]; exact vp_in_nI hy (by omega)
  have eex : upd ex (ho (nI k).toNatClampNeg).toNatClampNeg (nI s) = upd ex y (nI s) := by rw [eho, nI_clamp (by omega)]
  exact nm_r (e' := nI k) (nI_pred k) (And.intro ik (nm_r (e' := nI x) etk (And.intro ik (nm_r eph (And.intro ik (nm_r eup (And.intro ix (br_t k7 (And.intro ix (br_t k5 (br_f (by decide) (br_f (by decide) (br_f (by decide) (And.intro ik (And.intro iho (nm_r eex hp))))))))) )))))))
theorem cc_s8 (hx : x < 24) (hk : k < 32) (hs : s < 128) (htk : tk k = nI x) (hph : ph k = 0) (h8 : K x = 8) (hp : post (cc_xs (cn, hg, K, PA, PB, PC, N, W, P, sk) (nI (s + 1), pd, upd cd s 10, upd ex s (N x), en, gc, ge, pf) (nI k, tk, upd ph k 1, ho) f r)) : wpX_compileStep post (cc_xs (cn, hg, K, PA, PB, PC, N, W, P, sk) (nI s, pd, cd, ex, en, gc, ge, pf) (nI (k + 1), tk, ph, ho) f r) := by
  have ek : (nI k).toNatClampNeg = k := nI_clamp (by omega);  have ex1 : (nI x).toNatClampNeg = x := nI_clamp (by omega);  have ik : vp_in (nI k) 32 := vp_in_nI (by omega) (by omega);  have ix : vp_in (nI x) 24 := vp_in_nI (by omega) (by omega);  have etk : tk (nI k).toNatClampNeg = nI x := by rw [ek]; exact htk
  have eph : ph (nI k).toNatClampNeg = 0 := by rw [ek]; exact hph
  have eup : upd ph (nI k).toNatClampNeg ((0 : Int32) + 1) = upd ph k 1 := by rw [ek]; rfl
  have k7 : ¬ K (nI x).toNatClampNeg < 7 := by rw [ex1, h8]; decide
  exact nm_r (e' := nI k) (nI_pred k) (And.intro ik (nm_r (e' := nI x) etk (And.intro ik (nm_r eph (And.intro ik (nm_r eup (And.intro ix (br_f k7 (cc_l8 (K := K) (N := N) (W := W) (P := P) (cn := cn) (hg := hg) (PA := PA) (PB := PB) (PC := PC) (sk := sk) (t := (nI (k + 1), tk, upd ph k 1, ho)) (f := f) (r := r) hx h8 hs hp)) )))))))
theorem cc_s7 {q : Nat} (hx : x < 24) (hk : k < 32) (hs : s < 128) (hq : q < 24) (htk : tk k = nI x) (hph : ph k = 0) (h7 : K x = 7) (hp : post (cc_xs (cn, hg, K, PA, PB, PC, N, W, P, sk) (nI (s + 1), nI (q + 1), upd cd s 17, upd ex s (nI x), en, gc, ge, upd pf q (nI x)) (nI k, tk, upd ph k 1, ho) f r)) : wpX_compileStep post (cc_xs (cn, hg, K, PA, PB, PC, N, W, P, sk) (nI s, nI q, cd, ex, en, gc, ge, pf) (nI (k + 1), tk, ph, ho) f r) := by
  have ek : (nI k).toNatClampNeg = k := nI_clamp (by omega);  have ex1 : (nI x).toNatClampNeg = x := nI_clamp (by omega);  have ik : vp_in (nI k) 32 := vp_in_nI (by omega) (by omega);  have ix : vp_in (nI x) 24 := vp_in_nI (by omega) (by omega);  have etk : tk (nI k).toNatClampNeg = nI x := by rw [ek]; exact htk
  have eph : ph (nI k).toNatClampNeg = 0 := by rw [ek]; exact hph
  have eup : upd ph (nI k).toNatClampNeg ((0 : Int32) + 1) = upd ph k 1 := by rw [ek]; rfl
  have k7 : ¬ K (nI x).toNatClampNeg < 7 := by rw [ex1, h7]; decide
  exact nm_r (e' := nI k) (nI_pred k) (And.intro ik (nm_r (e' := nI x) etk (And.intro ik (nm_r eph (And.intro ik (nm_r eup (And.intro ix (br_f k7 (cc_l7 (K := K) (N := N) (W := W) (P := P) (cn := cn) (hg := hg) (PA := PA) (PB := PB) (PC := PC) (sk := sk) (t := (nI (k + 1), tk, upd ph k 1, ho)) (f := f) (r := r) hx h7 hs hq hp)) )))))))
theorem cc_s9 (hn : n ≤ 24) (hU : ∀ x, x < n → cc_Up n W x) {v : Nat} (hx : x < n) (hk : k < 32) (hs : s < 128) (htk : tk k = nI x) (hph : ph k = 0) (h9 : K x = 9) (hv : v < 4) (hN : N x = nI v) : ∃ gc' ge' cr', (cc_cx K N W P (cc_Gt K N W P gc' ge') v x ∧ cc_Gs K N W P gc ge gc' ge') ∧ ∀ post : SX → Prop, post (cc_xs (cn, hg, K, PA, PB, PC, N, W, P, sk) (nI (s + 1), pd, upd cd s (cc_lo K N W P v x).1, upd ex s (cc_lo K N W P v x).2.1, en, gc', ge', pf) (nI k, tk, upd ph k 1, ho) ((cc_lo K N W P v x).1, (cc_lo K N W P v x).2.1, cr') r) → wpX_compileStep post (cc_xs (cn, hg, K, PA, PB, PC, N, W, P, sk) (nI s, pd, cd, ex, en, gc, ge, pf) (nI (k + 1), tk, ph, ho) f r) := by
  have ek : (nI k).toNatClampNeg = k := nI_clamp (by omega);  have ex1 : (nI x).toNatClampNeg = x := nI_clamp (by omega);  have ik : vp_in (nI k) 32 := vp_in_nI (by omega) (by omega);  have ix : vp_in (nI x) 24 := vp_in_nI (by omega) (by omega);  have etk : tk (nI k).toNatClampNeg = nI x := by rw [ek]; exact htk
  have eph : ph (nI k).toNatClampNeg = 0 := by rw [ek]; exact hph
  have eup : upd ph (nI k).toNatClampNeg ((0 : Int32) + 1) = upd ph k 1 := by rw [ek]; rfl
  have k7 : ¬ K (nI x).toNatClampNeg < 7 := by rw [ex1, h9]; decide
  obtain ⟨gc', ge', cr', f1, f2⟩ := cc_l9 (K := K) (N := N) (W := W) (P := P) (cn := cn) (hg := hg) (PA := PA) (PB := PB) (PC := PC) (sk := sk) (pd := pd) (cd := cd) (ex := ex) (en := en) (gc := gc) (ge := ge) (pf := pf) (t := (nI (k + 1), tk, upd ph k 1, ho)) (f := f) (r := r) hn hU hx h9 hv hN hs
  refine ⟨gc', ge', cr', f1, fun post hp => ?_⟩
  exact nm_r (e' := nI k) (nI_pred k) (And.intro ik (nm_r (e' := nI x) etk (And.intro ik (nm_r eph (And.intro ik (nm_r eup (And.intro ix (br_f k7 (f2 _ hp)) )))))))
end
end
section
/-! the compiler's loop: the code of x comes to lie at s -/
def cc_fl (K : Nat → Int32) (A B C : Nat → Nat) (x : Nat) : List Nat :=
  if K x = 7 then [x] else if K x = 8 ∨ K x = 9 then []
  else if h : A x < x ∧ B x < x then
    (if K x = 5 then (if h2 : C x < x then cc_fl K A B C (A x) ++ cc_fl K A B C (B x) ++ cc_fl K A B C (C x) else [])
    else cc_fl K A B C (A x) ++ cc_fl K A B C (B x))
  else []
termination_by x
decreasing_by all_goals omega
def cc_ws (z : Nat → Nat) : List Nat → Nat
  | [] => 0
  | f :: l => z f + cc_ws z l
theorem cc_ws_a (z : Nat → Nat) (l m : List Nat) : cc_ws z (l ++ m) = cc_ws z l + cc_ws z m := by
  induction l with
  | nil => rw [List.nil_append, cc_ws, Nat.zero_add]
  | cons a l ih => rw [List.cons_append, cc_ws, cc_ws, ih, Nat.add_assoc]
def cc_PF (L : List Nat) (pf : Nat → Int32) : Prop := ∀ k f, L[k]? = some f → pf k = nI f
theorem cc_PF_1 {L : List Nat} {pf : Nat → Int32} (h : cc_PF L pf) (x : Nat) : cc_PF (L ++ [x]) (upd pf L.length (nI x)) := by
  intro k f e
  by_cases q : k < L.length
  · rw [List.getElem?_append_left q] at e
    rw [pk_un (by omega)]
    exact h k f e
  · by_cases q2 : k = L.length
    · rw [q2, List.getElem?_concat_length] at e
      rw [q2, pk_us]
      injection e with e
      rw [e]
    · rw [List.getElem?_eq_none (by rw [List.length_append, List.length_singleton]; omega)] at e
      exact absurd e (by simp)
def cc_LC (post : SX → Prop) (n : Nat) (i : Int32) (u : SX) : Prop := wX_compile_12 post n i u.1 u.2.1 u.2.2.1 u.2.2.2.1 u.2.2.2.2.1 u.2.2.2.2.2.1 u.2.2.2.2.2.2.1 u.2.2.2.2.2.2.2.1 u.2.2.2.2.2.2.2.2.1 u.2.2.2.2.2.2.2.2.2.1 u.2.2.2.2.2.2.2.2.2.2.1 u.2.2.2.2.2.2.2.2.2.2.2.1 u.2.2.2.2.2.2.2.2.2.2.2.2.1 u.2.2.2.2.2.2.2.2.2.2.2.2.2.1 u.2.2.2.2.2.2.2.2.2.2.2.2.2.2.1 u.2.2.2.2.2.2.2.2.2.2.2.2.2.2.2.1 u.2.2.2.2.2.2.2.2.2.2.2.2.2.2.2.2.1 u.2.2.2.2.2.2.2.2.2.2.2.2.2.2.2.2.2.1 u.2.2.2.2.2.2.2.2.2.2.2.2.2.2.2.2.2.2.1 u.2.2.2.2.2.2.2.2.2.2.2.2.2.2.2.2.2.2.2.1 u.2.2.2.2.2.2.2.2.2.2.2.2.2.2.2.2.2.2.2.2.1 u.2.2.2.2.2.2.2.2.2.2.2.2.2.2.2.2.2.2.2.2.2.1 u.2.2.2.2.2.2.2.2.2.2.2.2.2.2.2.2.2.2.2.2.2.2.1 u.2.2.2.2.2.2.2.2.2.2.2.2.2.2.2.2.2.2.2.2.2.2.2.1 u.2.2.2.2.2.2.2.2.2.2.2.2.2.2.2.2.2.2.2.2.2.2.2.2.1 u.2.2.2.2.2.2.2.2.2.2.2.2.2.2.2.2.2.2.2.2.2.2.2.2.2.1 u.2.2.2.2.2.2.2.2.2.2.2.2.2.2.2.2.2.2.2.2.2.2.2.2.2.2.1 u.2.2.2.2.2.2.2.2.2.2.2.2.2.2.2.2.2.2.2.2.2.2.2.2.2.2.2.1 u.2.2.2.2.2.2.2.2.2.2.2.2.2.2.2.2.2.2.2.2.2.2.2.2.2.2.2.2.1 u.2.2.2.2.2.2.2.2.2.2.2.2.2.2.2.2.2.2.2.2.2.2.2.2.2.2.2.2.2.1 u.2.2.2.2.2.2.2.2.2.2.2.2.2.2.2.2.2.2.2.2.2.2.2.2.2.2.2.2.2.2.1 u.2.2.2.2.2.2.2.2.2.2.2.2.2.2.2.2.2.2.2.2.2.2.2.2.2.2.2.2.2.2.2.1 u.2.2.2.2.2.2.2.2.2.2.2.2.2.2.2.2.2.2.2.2.2.2.2.2.2.2.2.2.2.2.2.2.1 u.2.2.2.2.2.2.2.2.2.2.2.2.2.2.2.2.2.2.2.2.2.2.2.2.2.2.2.2.2.2.2.2.2.1 u.2.2.2.2.2.2.2.2.2.2.2.2.2.2.2.2.2.2.2.2.2.2.2.2.2.2.2.2.2.2.2.2.2.2.1 u.2.2.2.2.2.2.2.2.2.2.2.2.2.2.2.2.2.2.2.2.2.2.2.2.2.2.2.2.2.2.2.2.2.2.2.1 u.2.2.2.2.2.2.2.2.2.2.2.2.2.2.2.2.2.2.2.2.2.2.2.2.2.2.2.2.2.2.2.2.2.2.2.2.1 u.2.2.2.2.2.2.2.2.2.2.2.2.2.2.2.2.2.2.2.2.2.2.2.2.2.2.2.2.2.2.2.2.2.2.2.2.2.1 u.2.2.2.2.2.2.2.2.2.2.2.2.2.2.2.2.2.2.2.2.2.2.2.2.2.2.2.2.2.2.2.2.2.2.2.2.2.2.1 u.2.2.2.2.2.2.2.2.2.2.2.2.2.2.2.2.2.2.2.2.2.2.2.2.2.2.2.2.2.2.2.2.2.2.2.2.2.2.2.1 u.2.2.2.2.2.2.2.2.2.2.2.2.2.2.2.2.2.2.2.2.2.2.2.2.2.2.2.2.2.2.2.2.2.2.2.2.2.2.2.2
def cc_RC (i : Nat) (u : SX) (i' : Nat) (u' : SX) : Prop := ∃ k, i' = i + k ∧ ∀ (post : SX → Prop) (n : Nat), cc_LC post n (nI i') u' → cc_LC post (n + k) (nI i) u
theorem cc_RC_t {i i1 i2 : Nat} {u u1 u2 : SX} (h : cc_RC i u i1 u1) (h' : cc_RC i1 u1 i2 u2) : cc_RC i u i2 u2 := by
  obtain ⟨k, e, f⟩ := h
  obtain ⟨k', e', f'⟩ := h'
  refine ⟨k' + k, by omega, fun post n q => ?_⟩
  rw [← Nat.add_assoc]
  exact f post (n + k') (f' post n q)
theorem cc_RC_1 {i k : Nat} {p p' : cc_TP} {c c' : cc_TC} {t' : cc_TT} {f f' : cc_TF} {r r' : cc_TR} {tk ph ho : Nat → Int32} (hi : i < 200) (hk : k < 32) (h : ∀ post : SX → Prop, post (cc_xs p' c' t' f' r') → wpX_compileStep post (cc_xs p c (nI (k + 1), tk, ph, ho) f r)) : cc_RC i (cc_xs p c (nI (k + 1), tk, ph, ho) f r) (i + 1) (cc_xs p' c' t' f' r') := by
  refine ⟨1, rfl, fun post n hL => br_f (nI_ge (b := 200) (by omega) (by omega)) (br_f (nI_nle (n := k + 1) (by omega) (by omega)) (h _ ?_))⟩
  exact nm_r (nI_1 i) hL
/-- the parts in the component's arrays -/
def cc_XP (K PA PB PC : Nat → Int32) (A B C : Nat → Nat) (x : Nat) : Prop := (K x ≠ 8 → K x ≠ 9 → PA x = nI (A x)) ∧ (K x ≠ 7 → K x ≠ 8 → K x ≠ 9 → PB x = nI (B x)) ∧ (K x = 5 → PC x = nI (C x))
section
variable {n : Nat} {K N W P : Nat → Int32} {A B C z : Nat → Nat} {fr : Nat → Nat → Bool} {cn hg : Int32} {PA PB PC sk : Nat → Int32} {f : cc_TF} {r : cc_TR} {en : Nat → Int32}
theorem cc_fl7 {x : Nat} (h : K x = 7) : cc_fl K A B C x = [x] := by rw [cc_fl, if_pos h]
theorem cc_fl8 {x : Nat} (h : K x = 8 ∨ K x = 9) : cc_fl K A B C x = [] := by
  rw [cc_fl, if_neg (by rcases h with h | h <;> rw [h] <;> decide), if_pos h]
theorem cc_fl5 {x : Nat} (h : K x = 5) (hA : A x < x) (hB : B x < x) (hC : C x < x) : cc_fl K A B C x = cc_fl K A B C (A x) ++ cc_fl K A B C (B x) ++ cc_fl K A B C (C x) := by
  rw [cc_fl, if_neg (by rw [h]; decide), if_neg (by rw [h]; decide), dif_pos ⟨hA, hB⟩, if_pos h, dif_pos hC]
theorem cc_fl2 {x : Nat} (h7 : K x ≠ 7) (h8 : K x ≠ 8) (h9 : K x ≠ 9) (h5 : K x ≠ 5) (hA : A x < x) (hB : B x < x) : cc_fl K A B C x = cc_fl K A B C (A x) ++ cc_fl K A B C (B x) := by
  rw [cc_fl, if_neg h7, if_neg (fun q => q.elim h8 h9), dif_pos ⟨hA, hB⟩, if_neg h5]
theorem cc_fl0 {x k : Nat} (hk : k < 5) (h : K x = nI k) (hA : A x < x) (hB : B x < x) : cc_fl K A B C x = cc_fl K A B C (A x) ++ cc_fl K A B C (B x) := by
  have ⟨a5, a6, a7, a8, a9⟩ := cc_k5 k hk
  exact cc_fl2 (by rw [h]; exact a7) (by rw [h]; exact a8) (by rw [h]; exact a9) (by rw [h]; exact a5) hA hB
theorem cc_fl6 {x : Nat} (h : K x = 6) (hA : A x < x) (hB : B x < x) : cc_fl K A B C x = cc_fl K A B C (A x) ++ cc_fl K A B C (B x) :=
  cc_fl2 (by rw [h]; decide) (by rw [h]; decide) (by rw [h]; decide) (by rw [h]; decide) hA hB
theorem cc_fl_s (hP : ∀ x, x < n → cc_Nd K N W P A B C z fr x) : ∀ x, x < n → cc_ws z (cc_fl K A B C x) ≤ z x ∧ cc_len K A B C x + 2 * cc_ws z (cc_fl K A B C x) ≤ 2 * z x + (cc_fl K A B C x).length ∧ ∀ f, f ∈ cc_fl K A B C x → f < n ∧ K f = 7 := by
  intro x
  induction x using Nat.strongRecOn with
  | ind x ih =>
    intro hx
    rcases hP x hx with h | h | h | h | h | ⟨k, hk, h⟩
    · rw [cc_len1 (Or.inr (Or.inl h.1)), cc_fl8 (Or.inl h.1), cc_ws, List.length_nil]
      exact ⟨by omega, by omega, fun f q => absurd q (by simp)⟩
    · rw [cc_len1 (Or.inr (Or.inr h.1)), cc_fl8 (Or.inr h.1), cc_ws, List.length_nil]
      exact ⟨by omega, by omega, fun f q => absurd q (by simp)⟩
    · rw [cc_len1 (Or.inl h.1), cc_fl7 h.1, cc_ws, cc_ws, List.length_singleton]
      refine ⟨by omega, by omega, fun f q => ?_⟩
      rw [List.mem_singleton] at q
      rw [q]; exact ⟨hx, h.1⟩
    · obtain ⟨h6, hA, hB, _, _, _, _, hzx, _⟩ := h
      obtain ⟨a1, a2, a3⟩ := ih _ hA (by omega)
      obtain ⟨b1, b2, b3⟩ := ih _ hB (by omega)
      rw [cc_len6 h6 hA hB, cc_fl6 h6 hA hB, cc_ws_a, List.length_append]
      refine ⟨by omega, by omega, fun f q => ?_⟩
      rcases List.mem_append.mp q with q | q
      · exact a3 f q
      · exact b3 f q
    · obtain ⟨h5, hA, hB, hC, _, _, _, _, _, _, hzx, _⟩ := h
      obtain ⟨a1, a2, a3⟩ := ih _ hA (by omega)
      obtain ⟨b1, b2, b3⟩ := ih _ hB (by omega)
      obtain ⟨c1, c2, c3⟩ := ih _ hC (by omega)
      rw [cc_len5 h5 hA hB hC, cc_fl5 h5 hA hB hC, cc_ws_a, cc_ws_a, List.length_append, List.length_append]
      refine ⟨by omega, by omega, fun f q => ?_⟩
      rcases List.mem_append.mp q with q | q
      · rcases List.mem_append.mp q with q | q
        · exact a3 f q
        · exact b3 f q
      · exact c3 f q
    · obtain ⟨hkx, hA, hB, _, _, _, _, hzx, _⟩ := h
      obtain ⟨a1, a2, a3⟩ := ih _ hA (by omega)
      obtain ⟨b1, b2, b3⟩ := ih _ hB (by omega)
      rw [cc_len0 hk hkx hA hB, cc_fl0 hk hkx hA hB, cc_ws_a, List.length_append]
      refine ⟨by omega, by omega, fun f q => ?_⟩
      rcases List.mem_append.mp q with q | q
      · exact a3 f q
      · exact b3 f q
/-- what the compiler's loop does with x on top, from place k of the tasks on -/
def cc_CM (n : Nat) (K N W P : Nat → Int32) (A B C z : Nat → Nat) (cn hg : Int32) (PA PB PC sk : Nat → Int32) (r : cc_TR) (en : Nat → Int32) (x : Nat) : Prop :=
  ∀ (k i s : Nat) (L : List Nat) (cd ex gc ge pf tk ph ho : Nat → Int32) (f : cc_TF), tk k = nI x → ph k = 0 → k + x + 1 ≤ 31 → i + 4 * z x ≤ 200 → s + cc_len K A B C x ≤ 128 → L.length + (cc_fl K A B C x).length ≤ 24 → cc_PF L pf →
  ∃ (i' : Nat) (cd' ex' gc' ge' pf' tk' ph' ho' : Nat → Int32) (f' : cc_TF),
    cc_RC i (cc_xs (cn, hg, K, PA, PB, PC, N, W, P, sk) (nI s, nI L.length, cd, ex, en, gc, ge, pf) (nI (k + 1), tk, ph, ho) f r) i' (cc_xs (cn, hg, K, PA, PB, PC, N, W, P, sk) (nI (s + cc_len K A B C x), nI (L ++ cc_fl K A B C x).length, cd', ex', en, gc', ge', pf') (nI k, tk', ph', ho') f' r) ∧ i' ≤ i + 4 * z x ∧
    cc_ca K N W P A B C cd' ex' (fun y => y ∈ L ++ cc_fl K A B C x) (cc_Gt K N W P gc' ge') x s ∧ (∀ j, j < s → cd' j = cd j ∧ ex' j = ex j) ∧ (∀ j, j < k → tk' j = tk j ∧ ph' j = ph j ∧ ho' j = ho j) ∧ cc_PF (L ++ cc_fl K A B C x) pf' ∧ cc_Gs K N W P gc ge gc' ge'
theorem cc_cm8 {x : Nat} (hx : x < 24) (h : K x = 8) (hz : z x = 1) : cc_CM n K N W P A B C z cn hg PA PB PC sk r en x := by
  intro k i s L cd ex gc ge pf tk ph ho f htk hph hk hi hs hL hF
  rw [cc_len1 (Or.inr (Or.inl h))] at hs
  rw [cc_len1 (Or.inr (Or.inl h)), cc_fl8 (Or.inl h), List.append_nil]
  refine ⟨i + 1, _, _, _, _, _, _, _, _, _, cc_RC_1 (by omega) (by omega) (fun post hp => cc_s8 hx (by omega) (by omega) htk hph h hp), by omega, by rw [cc_ca8 h]; exact ⟨pk_us, pk_us⟩, fun j hj => ⟨pk_un (by omega), pk_un (by omega)⟩, fun j hj => ⟨rfl, pk_un (by omega), rfl⟩, hF, cc_Gs_0⟩
theorem cc_cm7 {x : Nat} (hx : x < 24) (h : K x = 7) (hz : 1 ≤ z x) : cc_CM n K N W P A B C z cn hg PA PB PC sk r en x := by
  intro k i s L cd ex gc ge pf tk ph ho f htk hph hk hi hs hL hF
  rw [cc_len1 (Or.inl h)] at hs
  rw [cc_fl7 h, List.length_singleton] at hL
  rw [cc_len1 (Or.inl h), cc_fl7 h, List.length_append, List.length_singleton]
  refine ⟨i + 1, _, _, _, _, _, _, _, _, _, cc_RC_1 (by omega) (by omega) (fun post hp => cc_s7 hx (by omega) (by omega) (by omega) htk hph h hp), by omega, by rw [cc_ca7 h]; exact ⟨pk_us, pk_us, by simp⟩, fun j hj => ⟨pk_un (by omega), pk_un (by omega)⟩, fun j hj => ⟨rfl, pk_un (by omega), rfl⟩, cc_PF_1 hF x, cc_Gs_0⟩
theorem cc_cm9 {x v : Nat} (hn : n ≤ 24) (hU : ∀ x, x < n → cc_Up n W x) (hx : x < n) (h : K x = 9) (hz : z x = 1) (hv : v < 4) (hN : N x = nI v) : cc_CM n K N W P A B C z cn hg PA PB PC sk r en x := by
  intro k i s L cd ex gc ge pf tk ph ho f htk hph hk hi hs hL hF
  rw [cc_len1 (Or.inr (Or.inr h))] at hs
  rw [cc_len1 (Or.inr (Or.inr h)), cc_fl8 (Or.inr h), List.append_nil]
  obtain ⟨gc', ge', cr', ⟨f1, f2⟩, f3⟩ := cc_s9 (n := n) (K := K) (N := N) (W := W) (P := P) (cn := cn) (hg := hg) (PA := PA) (PB := PB) (PC := PC) (sk := sk) (f := f) (r := r) (pd := nI L.length) (cd := cd) (ex := ex) (en := en) (gc := gc) (ge := ge) (pf := pf) (tk := tk) (ph := ph) (ho := ho) (x := x) (k := k) (s := s) hn hU hx (by omega) (by omega) htk hph h hv hN
  refine ⟨i + 1, _, _, gc', ge', _, _, _, _, _, cc_RC_1 (by omega) (by omega) f3, by omega, by rw [cc_ca9 h, hN, nI_clamp (by omega)]; exact ⟨pk_us, pk_us, f1⟩, fun j hj => ⟨pk_un (by omega), pk_un (by omega)⟩, fun j hj => ⟨rfl, pk_un (by omega), rfl⟩, hF, f2⟩
end
end
section
/-! the compiler's loop: programs with parts -/
section
variable {n : Nat} {K N W P : Nat → Int32} {A B C z : Nat → Nat} {fr : Nat → Nat → Bool} {cn hg : Int32} {PA PB PC sk : Nat → Int32} {f : cc_TF} {r : cc_TR} {en : Nat → Int32}
theorem cc_ml {L M : List Nat} : ∀ y, (fun y => y ∈ L) y → (fun y => y ∈ L ++ M) y := fun _ h => List.mem_append_left _ h
theorem cc_cm0 (hn : n ≤ 24) (hP : ∀ x, x < n → cc_Nd K N W P A B C z fr x) {x q : Nat} (hx : x < n) (hq : q < 5) (hK : K x = nI q) (hA : A x < x) (hB : B x < x) (hz : z x = 1 + z (A x) + z (B x)) (eA : PA x = nI (A x)) (eB : PB x = nI (B x)) (IA : cc_CM n K N W P A B C z cn hg PA PB PC sk r en (A x)) (IB : cc_CM n K N W P A B C z cn hg PA PB PC sk r en (B x)) : cc_CM n K N W P A B C z cn hg PA PB PC sk r en x := by
  intro k i s L cd ex gc ge pf tk ph ho f htk hph hk hi hs hL hF
  have el := cc_len0 (C := C) hq hK hA hB
  have ef := cc_fl0 (C := C) hq hK hA hB
  have ⟨a5, a6, a7, a8, a9⟩ := cc_k5 q hq
  have h7 : K x < 7 := by rw [hK]; exact cc_klt q hq
  rw [el] at hs
  rw [ef, List.length_append] at hL
  have e1 : s + cc_len K A B C x = s + cc_len K A B C (A x) + cc_len K A B C (B x) + 1 := by omega
  obtain ⟨i1, cd1, ex1, gc1, ge1, pf1, tk1, ph1, ho1, f1, R1, l1, c1, k1, t1, F1, G1⟩ := IA (k + 1) (i + 1) s L cd ex gc ge pf (upd tk (k + 1) (PA x)) (upd (upd ph k 1) (k + 1) 0) ho f (by rw [pk_us, eA]) pk_us (by omega) (by omega) (by omega) (by omega) hF
  have tk1k : tk1 k = nI x := by rw [(t1 k (by omega)).1, pk_un (by omega)]; exact htk
  have ph1k : ph1 k = 1 := by rw [(t1 k (by omega)).2.1, pk_un (by omega), pk_us]
  obtain ⟨i2, cd2, ex2, gc2, ge2, pf2, tk2, ph2, ho2, f2, R2, l2, c2, k2, t2, F2, G2⟩ := IB (k + 1) (i1 + 1) (s + cc_len K A B C (A x)) (L ++ cc_fl K A B C (A x)) cd1 ex1 gc1 ge1 pf1 (upd tk1 (k + 1) (PB x)) (upd (upd ph1 k 2) (k + 1) 0) ho1 f1 (by rw [pk_us, eB]) pk_us (by omega) (by omega) (by omega) (by rw [List.length_append]; omega) F1
  have tk2k : tk2 k = nI x := by rw [(t2 k (by omega)).1, pk_un (by omega)]; exact tk1k
  have ph2k : ph2 k = 2 := by rw [(t2 k (by omega)).2.1, pk_un (by omega), pk_us]
  rw [e1, ef, ← List.append_assoc]
  refine ⟨i2 + 1, upd cd2 (s + cc_len K A B C (A x) + cc_len K A B C (B x)) (K x), upd ex2 (s + cc_len K A B C (A x) + cc_len K A B C (B x)) 0, gc2, ge2, pf2, tk2, upd ph2 k 3, ho2, f2, ?_, by omega, ?_, ?_, ?_, F2, cc_Gs_c G1 G2⟩
  · exact cc_RC_t (cc_RC_1 (by omega) (by omega) (fun post hp => cc_s0 (by omega) (by omega) htk hph h7 hp)) (cc_RC_t R1 (cc_RC_t (cc_RC_1 (by omega) (by omega) (fun post hp => cc_s1o (by omega) (by omega) tk1k ph1k h7 (by rw [hK]; exact a5) (by rw [hK]; exact a6) hp)) (cc_RC_t R2 (cc_RC_1 (by omega) (by omega) (fun post hp => cc_s2o (by omega) (by omega) (by omega) tk2k ph2k h7 (by rw [hK]; exact a5) (by rw [hK]; exact a6) hp)))))
  · rw [cc_ca0 hq hK hA hB]
    refine ⟨cc_ca_m hP cc_ml (cc_Gs_t G2) (A x) (by omega) s (fun j j1 j2 => ?_) c1, cc_ca_m hP (fun _ h => h) (fun _ _ h => h) (B x) (by omega) _ (fun j j1 j2 => ?_) c2, pk_us⟩
    · rw [pk_un (by omega), pk_un (by omega)]; exact k2 j (by omega)
    · rw [pk_un (by omega), pk_un (by omega)]; exact ⟨rfl, rfl⟩
  · intro j hj
    rw [pk_un (by omega), pk_un (by omega), (k2 j (by omega)).1, (k2 j (by omega)).2]
    exact k1 j hj
  · intro j hj
    obtain ⟨u1, u2, u3⟩ := t2 j (by omega)
    obtain ⟨w1, w2, w3⟩ := t1 j (by omega)
    rw [pk_un (by omega), u1, u2, u3, pk_un (by omega), pk_un (by omega), pk_un (by omega), w1, w2, w3, pk_un (by omega), pk_un (by omega), pk_un (by omega)]
    exact ⟨rfl, rfl, rfl⟩
theorem cc_cm6 (hn : n ≤ 24) (hU : ∀ x, x < n → cc_Up n W x) (hP : ∀ x, x < n → cc_Nd K N W P A B C z fr x) {x : Nat} (hx : x < n) (hK : K x = 6) (hA : A x < x) (hB : B x < x) (hz : z x = 1 + z (A x) + z (B x)) (eA : PA x = nI (A x)) (eB : PB x = nI (B x)) (IA : cc_CM n K N W P A B C z cn hg PA PB PC sk r en (A x)) (IB : cc_CM n K N W P A B C z cn hg PA PB PC sk r en (B x)) : cc_CM n K N W P A B C z cn hg PA PB PC sk r en x := by
  intro k i s L cd ex gc ge pf tk ph ho f htk hph hk hi hs hL hF
  have el := cc_len6 (C := C) hK hA hB
  have ef := cc_fl6 (C := C) hK hA hB
  have h7 : K x < 7 := by rw [hK]; decide
  rw [el] at hs
  rw [ef, List.length_append] at hL
  have e1 : s + cc_len K A B C x = s + cc_len K A B C (A x) + 1 + cc_len K A B C (B x) := by omega
  obtain ⟨i1, cd1, ex1, gc1, ge1, pf1, tk1, ph1, ho1, f1, R1, l1, c1, k1, t1, F1, G1⟩ := IA (k + 1) (i + 1) s L cd ex gc ge pf (upd tk (k + 1) (PA x)) (upd (upd ph k 1) (k + 1) 0) ho f (by rw [pk_us, eA]) pk_us (by omega) (by omega) (by omega) (by omega) hF
  have tk1k : tk1 k = nI x := by rw [(t1 k (by omega)).1, pk_un (by omega)]; exact htk
  have ph1k : ph1 k = 1 := by rw [(t1 k (by omega)).2.1, pk_un (by omega), pk_us]
  obtain ⟨i2, cd2, ex2, gc2, ge2, pf2, tk2, ph2, ho2, f2, R2, l2, c2, k2, t2, F2, G2⟩ := IB (k + 1) (i1 + 1) (s + cc_len K A B C (A x) + 1) (L ++ cc_fl K A B C (A x)) (upd cd1 (s + cc_len K A B C (A x)) 16) (upd ex1 (s + cc_len K A B C (A x)) (nI (cc_b K W P x))) gc1 ge1 pf1 (upd tk1 (k + 1) (PB x)) (upd (upd ph1 k 2) (k + 1) 0) ho1 f1 (by rw [pk_us, eB]) pk_us (by omega) (by omega) (by omega) (by rw [List.length_append]; omega) F1
  have tk2k : tk2 k = nI x := by rw [(t2 k (by omega)).1, pk_un (by omega)]; exact tk1k
  have ph2k : ph2 k = 2 := by rw [(t2 k (by omega)).2.1, pk_un (by omega), pk_us]
  rw [e1, ef, ← List.append_assoc]
  refine ⟨i2 + 1, cd2, ex2, gc2, ge2, pf2, tk2, upd ph2 k 3, ho2, f2, ?_, by omega, ?_, ?_, ?_, F2, cc_Gs_c G1 G2⟩
  · exact cc_RC_t (cc_RC_1 (by omega) (by omega) (fun post hp => cc_s0 (by omega) (by omega) htk hph h7 hp)) (cc_RC_t R1 (cc_RC_t (cc_RC_1 (by omega) (by omega) (fun post hp => cc_s1b hn hU hx (by omega) (by omega) tk1k ph1k hK hp)) (cc_RC_t R2 (cc_RC_1 (by omega) (by omega) (fun post hp => cc_s2b (by omega) (by omega) tk2k ph2k hK hp)))))
  · rw [cc_ca6 hK hA hB]
    refine ⟨cc_ca_m hP cc_ml (cc_Gs_t G2) (A x) (by omega) s (fun j j1 j2 => ?_) c1, ?_, ?_, c2⟩
    · rw [(k2 j (by omega)).1, (k2 j (by omega)).2, pk_un (by omega), pk_un (by omega)]; exact ⟨rfl, rfl⟩
    · rw [(k2 _ (by omega)).1, pk_us]
    · rw [(k2 _ (by omega)).2, pk_us]
  · intro j hj
    rw [(k2 j (by omega)).1, (k2 j (by omega)).2, pk_un (by omega), pk_un (by omega)]
    exact k1 j hj
  · intro j hj
    obtain ⟨u1, u2, u3⟩ := t2 j (by omega)
    obtain ⟨w1, w2, w3⟩ := t1 j (by omega)
    rw [pk_un (by omega), u1, u2, u3, pk_un (by omega), pk_un (by omega), pk_un (by omega), w1, w2, w3, pk_un (by omega), pk_un (by omega), pk_un (by omega)]
    exact ⟨rfl, rfl, rfl⟩
theorem cc_cm5 (hn : n ≤ 24) (hP : ∀ x, x < n → cc_Nd K N W P A B C z fr x) {x : Nat} (hx : x < n) (hK : K x = 5) (hA : A x < x) (hB : B x < x) (hC : C x < x) (hz : z x = 1 + z (A x) + z (B x) + z (C x)) (eA : PA x = nI (A x)) (eB : PB x = nI (B x)) (eC : PC x = nI (C x)) (IA : cc_CM n K N W P A B C z cn hg PA PB PC sk r en (A x)) (IB : cc_CM n K N W P A B C z cn hg PA PB PC sk r en (B x)) (IC : cc_CM n K N W P A B C z cn hg PA PB PC sk r en (C x)) : cc_CM n K N W P A B C z cn hg PA PB PC sk r en x := by
  intro k i s L cd ex gc ge pf tk ph ho f htk hph hk hi hs hL hF
  have el := cc_len5 hK hA hB hC
  have ef := cc_fl5 hK hA hB hC
  have h7 : K x < 7 := by rw [hK]; decide
  rw [el] at hs
  rw [ef, List.length_append, List.length_append] at hL
  obtain ⟨i1, cd1, ex1, gc1, ge1, pf1, tk1, ph1, ho1, f1, R1, l1, c1, k1, t1, F1, G1⟩ := IA (k + 1) (i + 1) s L cd ex gc ge pf (upd tk (k + 1) (PA x)) (upd (upd ph k 1) (k + 1) 0) ho f (by rw [pk_us, eA]) pk_us (by omega) (by omega) (by omega) (by omega) hF
  have tk1k : tk1 k = nI x := by rw [(t1 k (by omega)).1, pk_un (by omega)]; exact htk
  have ph1k : ph1 k = 1 := by rw [(t1 k (by omega)).2.1, pk_un (by omega), pk_us]
  obtain ⟨y1, e1⟩ : ∃ y1, y1 = s + cc_len K A B C (A x) := ⟨_, rfl⟩
  rw [← e1] at R1
  obtain ⟨i2, cd2, ex2, gc2, ge2, pf2, tk2, ph2, ho2, f2, R2, l2, c2, k2, t2, F2, G2⟩ := IB (k + 1) (i1 + 1) (y1 + 1) (L ++ cc_fl K A B C (A x)) (upd cd1 y1 18) (upd ex1 y1 0) gc1 ge1 pf1 (upd tk1 (k + 1) (PB x)) (upd (upd ph1 k 2) (k + 1) 0) (upd ho1 k (nI y1)) f1 (by rw [pk_us, eB]) pk_us (by omega) (by omega) (by omega) (by rw [List.length_append]; omega) F1
  have tk2k : tk2 k = nI x := by rw [(t2 k (by omega)).1, pk_un (by omega)]; exact tk1k
  have ph2k : ph2 k = 2 := by rw [(t2 k (by omega)).2.1, pk_un (by omega), pk_us]
  have ho2k : ho2 k = nI y1 := by rw [(t2 k (by omega)).2.2, pk_us]
  obtain ⟨y2, e2⟩ : ∃ y2, y2 = y1 + 1 + cc_len K A B C (B x) := ⟨_, rfl⟩
  rw [← e2] at R2
  obtain ⟨i3, cd3, ex3, gc3, ge3, pf3, tk3, ph3, ho3, f3, R3, l3, c3, k3, t3, F3, G3⟩ := IC (k + 1) (i2 + 1) (y2 + 1) (L ++ cc_fl K A B C (A x) ++ cc_fl K A B C (B x)) (upd cd2 y2 19) (upd (upd ex2 y1 (nI (y2 + 1))) y2 0) gc2 ge2 pf2 (upd tk2 (k + 1) (PC x)) (upd (upd ph2 k 3) (k + 1) 0) (upd ho2 k (nI y2)) f2 (by rw [pk_us, eC]) pk_us (by omega) (by omega) (by omega) (by rw [List.length_append, List.length_append]; omega) F2
  have tk3k : tk3 k = nI x := by rw [(t3 k (by omega)).1, pk_un (by omega)]; exact tk2k
  have ph3k : ph3 k = 3 := by rw [(t3 k (by omega)).2.1, pk_un (by omega), pk_us]
  have ho3k : ho3 k = nI y2 := by rw [(t3 k (by omega)).2.2, pk_us]
  have e3 : s + cc_len K A B C x = y2 + 1 + cc_len K A B C (C x) := by omega
  rw [e3, ef, ← List.append_assoc, ← List.append_assoc]
  refine ⟨i3 + 1, cd3, upd ex3 y2 (nI (y2 + 1 + cc_len K A B C (C x))), gc3, ge3, pf3, tk3, upd ph3 k 4, ho3, f3, ?_, by omega, ?_, ?_, ?_, F3, cc_Gs_c G1 (cc_Gs_c G2 G3)⟩
  · exact cc_RC_t (cc_RC_1 (by omega) (by omega) (fun post hp => cc_s0 (by omega) (by omega) htk hph h7 hp)) (cc_RC_t R1 (cc_RC_t (cc_RC_1 (by omega) (by omega) (fun post hp => cc_s1c (by omega) (by omega) (by omega) tk1k ph1k hK hp)) (cc_RC_t R2 (cc_RC_t (cc_RC_1 (by omega) (by omega) (fun post hp => cc_s2c (by omega) (by omega) (by omega) (by omega) ho2k tk2k ph2k hK hp)) (cc_RC_t R3 (cc_RC_1 (by omega) (by omega) (fun post hp => cc_s3c (by omega) (by omega) (by omega) ho3k tk3k ph3k hK hp)))))))
  · rw [cc_ca5 hK hA hB hC, ← e1]
    refine ⟨cc_ca_m hP (fun y h => cc_ml _ (cc_ml _ h)) (fun f v h => cc_Gs_t G3 f v (cc_Gs_t G2 f v h)) (A x) (by omega) s (fun j j1 j2 => ?_) c1, ?_, ?_, cc_ca_m hP cc_ml (cc_Gs_t G3) (B x) (by omega) _ (fun j j1 j2 => ?_) c2, ?_, ?_, ?_⟩
    · rw [pk_un (by omega), (k3 j (by omega)).1, (k3 j (by omega)).2, pk_un (by omega), pk_un (by omega), pk_un (by omega), (k2 j (by omega)).1, (k2 j (by omega)).2, pk_un (by omega), pk_un (by omega)]; exact ⟨rfl, rfl⟩
    · rw [(k3 _ (by omega)).1, pk_un (by omega), (k2 _ (by omega)).1, pk_us]
    · rw [pk_un (by omega), (k3 _ (by omega)).2, pk_un (by omega), pk_us]
      exact congrArg nI (by omega)
    · rw [pk_un (by omega), (k3 j (by omega)).1, (k3 j (by omega)).2, pk_un (by omega), pk_un (by omega), pk_un (by omega)]; exact ⟨rfl, rfl⟩
    · rw [← e2, (k3 _ (by omega)).1, pk_us]
    · rw [← e2, pk_us]
      exact congrArg nI (by omega)
    · have e4 : y1 + cc_len K A B C (B x) + 2 = y2 + 1 := by omega
      rw [e4]
      exact cc_ca_m hP (fun _ h => h) (fun _ _ h => h) (C x) (by omega) _ (fun j j1 j2 => by rw [pk_un (by omega)]; exact ⟨rfl, rfl⟩) c3
  · intro j hj
    rw [pk_un (by omega), (k3 j (by omega)).1, (k3 j (by omega)).2, pk_un (by omega), pk_un (by omega), pk_un (by omega), (k2 j (by omega)).1, (k2 j (by omega)).2, pk_un (by omega), pk_un (by omega)]
    exact k1 j hj
  · intro j hj
    obtain ⟨u1, u2, u3⟩ := t3 j (by omega)
    obtain ⟨v1, v2, v3⟩ := t2 j (by omega)
    obtain ⟨w1, w2, w3⟩ := t1 j (by omega)
    rw [pk_un (by omega), u1, u2, u3, pk_un (by omega), pk_un (by omega), pk_un (by omega), pk_un (by omega), v1, v2, v3, pk_un (by omega), pk_un (by omega), pk_un (by omega), pk_un (by omega), w1, w2, w3, pk_un (by omega), pk_un (by omega), pk_un (by omega)]
    exact ⟨rfl, rfl, rfl⟩
theorem cc_cm (hn : n ≤ 24) (hU : ∀ x, x < n → cc_Up n W x) (hP : ∀ x, x < n → cc_Nd K N W P A B C z fr x) (hX : ∀ x, x < n → cc_XP K PA PB PC A B C x) : ∀ x, x < n → cc_CM n K N W P A B C z cn hg PA PB PC sk r en x := by
  intro x
  induction x using Nat.strongRecOn with
  | ind x ih =>
    intro hx
    obtain ⟨xa, xb, xc⟩ := hX x hx
    have z1 := cc_z1 (hP x hx)
    rcases hP x hx with h | h | h | h | h | ⟨k, hk, h⟩
    · exact cc_cm8 (by omega) h.1 h.2.1
    · obtain ⟨h9, hz, w, hw, hN, _⟩ := h
      exact cc_cm9 hn hU hx h9 hz hw hN
    · exact cc_cm7 (by omega) h.1 z1
    · obtain ⟨h6, hA, hB, _, _, _, _, hzx, _⟩ := h
      exact cc_cm6 hn hU hP hx h6 hA hB hzx (xa (by rw [h6]; decide) (by rw [h6]; decide)) (xb (by rw [h6]; decide) (by rw [h6]; decide) (by rw [h6]; decide)) (ih _ hA (by omega)) (ih _ hB (by omega))
    · obtain ⟨h5, hA, hB, hC, _, _, _, _, _, _, hzx, _⟩ := h
      exact cc_cm5 hn hP hx h5 hA hB hC hzx (xa (by rw [h5]; decide) (by rw [h5]; decide)) (xb (by rw [h5]; decide) (by rw [h5]; decide) (by rw [h5]; decide)) (xc h5) (ih _ hA (by omega)) (ih _ hB (by omega)) (ih _ hC (by omega))
    · obtain ⟨hkx, hA, hB, _, _, _, _, hzx, _⟩ := h
      have ⟨a5, a6, a7, a8, a9⟩ := cc_k5 k hk
      exact cc_cm0 hn hP hx hk hkx hA hB hzx (xa (by rw [hkx]; exact a8) (by rw [hkx]; exact a9)) (xb (by rw [hkx]; exact a7) (by rw [hkx]; exact a8) (by rw [hkx]; exact a9)) (ih _ hA (by omega)) (ih _ hB (by omega))
end
end
section
/-! compile and compileAll -/
def cc_LA (post : SX → Prop) (n : Nat) (i : Int32) (u : SX) : Prop := wX_compileAll_38 post n i u.1 u.2.1 u.2.2.1 u.2.2.2.1 u.2.2.2.2.1 u.2.2.2.2.2.1 u.2.2.2.2.2.2.1 u.2.2.2.2.2.2.2.1 u.2.2.2.2.2.2.2.2.1 u.2.2.2.2.2.2.2.2.2.1 u.2.2.2.2.2.2.2.2.2.2.1 u.2.2.2.2.2.2.2.2.2.2.2.1 u.2.2.2.2.2.2.2.2.2.2.2.2.1 u.2.2.2.2.2.2.2.2.2.2.2.2.2.1 u.2.2.2.2.2.2.2.2.2.2.2.2.2.2.1 u.2.2.2.2.2.2.2.2.2.2.2.2.2.2.2.1 u.2.2.2.2.2.2.2.2.2.2.2.2.2.2.2.2.1 u.2.2.2.2.2.2.2.2.2.2.2.2.2.2.2.2.2.1 u.2.2.2.2.2.2.2.2.2.2.2.2.2.2.2.2.2.2.1 u.2.2.2.2.2.2.2.2.2.2.2.2.2.2.2.2.2.2.2.1 u.2.2.2.2.2.2.2.2.2.2.2.2.2.2.2.2.2.2.2.2.1 u.2.2.2.2.2.2.2.2.2.2.2.2.2.2.2.2.2.2.2.2.2.1 u.2.2.2.2.2.2.2.2.2.2.2.2.2.2.2.2.2.2.2.2.2.2.1 u.2.2.2.2.2.2.2.2.2.2.2.2.2.2.2.2.2.2.2.2.2.2.2.1 u.2.2.2.2.2.2.2.2.2.2.2.2.2.2.2.2.2.2.2.2.2.2.2.2.1 u.2.2.2.2.2.2.2.2.2.2.2.2.2.2.2.2.2.2.2.2.2.2.2.2.2.1 u.2.2.2.2.2.2.2.2.2.2.2.2.2.2.2.2.2.2.2.2.2.2.2.2.2.2.1 u.2.2.2.2.2.2.2.2.2.2.2.2.2.2.2.2.2.2.2.2.2.2.2.2.2.2.2.1 u.2.2.2.2.2.2.2.2.2.2.2.2.2.2.2.2.2.2.2.2.2.2.2.2.2.2.2.2.1 u.2.2.2.2.2.2.2.2.2.2.2.2.2.2.2.2.2.2.2.2.2.2.2.2.2.2.2.2.2.1 u.2.2.2.2.2.2.2.2.2.2.2.2.2.2.2.2.2.2.2.2.2.2.2.2.2.2.2.2.2.2.1 u.2.2.2.2.2.2.2.2.2.2.2.2.2.2.2.2.2.2.2.2.2.2.2.2.2.2.2.2.2.2.2.1 u.2.2.2.2.2.2.2.2.2.2.2.2.2.2.2.2.2.2.2.2.2.2.2.2.2.2.2.2.2.2.2.2.1 u.2.2.2.2.2.2.2.2.2.2.2.2.2.2.2.2.2.2.2.2.2.2.2.2.2.2.2.2.2.2.2.2.2.1 u.2.2.2.2.2.2.2.2.2.2.2.2.2.2.2.2.2.2.2.2.2.2.2.2.2.2.2.2.2.2.2.2.2.2.1 u.2.2.2.2.2.2.2.2.2.2.2.2.2.2.2.2.2.2.2.2.2.2.2.2.2.2.2.2.2.2.2.2.2.2.2.1 u.2.2.2.2.2.2.2.2.2.2.2.2.2.2.2.2.2.2.2.2.2.2.2.2.2.2.2.2.2.2.2.2.2.2.2.2.1 u.2.2.2.2.2.2.2.2.2.2.2.2.2.2.2.2.2.2.2.2.2.2.2.2.2.2.2.2.2.2.2.2.2.2.2.2.2.1 u.2.2.2.2.2.2.2.2.2.2.2.2.2.2.2.2.2.2.2.2.2.2.2.2.2.2.2.2.2.2.2.2.2.2.2.2.2.2.1 u.2.2.2.2.2.2.2.2.2.2.2.2.2.2.2.2.2.2.2.2.2.2.2.2.2.2.2.2.2.2.2.2.2.2.2.2.2.2.2.1 u.2.2.2.2.2.2.2.2.2.2.2.2.2.2.2.2.2.2.2.2.2.2.2.2.2.2.2.2.2.2.2.2.2.2.2.2.2.2.2.2
section
variable {n : Nat} {K N W P : Nat → Int32} {A B C z : Nat → Nat} {fr : Nat → Nat → Bool} {cn hg : Int32} {PA PB PC sk : Nat → Int32} {t : cc_TT} {f : cc_TF} {r : cc_TR} {cd ex en gc ge pf : Nat → Int32}
theorem cc_nd7 {x : Nat} (h : cc_Nd K N W P A B C z fr x) (h7 : K x = 7) : A x < x ∧ W (A x) = nI x ∧ P (A x) = 0 ∧ z x = 1 + z (A x) ∧ ∃ f w, f < 4 ∧ w < 4 ∧ N x = nI (4 * f + w) ∧ ∀ v, fr x v = (fr (A x) v && !decide (v = f) && !decide (v = w)) := by
  rcases h with w | w | w | w | w | ⟨k', hk', w⟩
  · exact absurd (h7.symm.trans w.1) (by decide)
  · exact absurd (h7.symm.trans w.1) (by decide)
  · exact w.2
  · exact absurd (h7.symm.trans w.1) (by decide)
  · exact absurd (h7.symm.trans w.1) (by decide)
  · exact absurd (w.1.symm.trans h7) (cc_k5 k' hk').2.2.1
theorem cc_compile {x s : Nat} {L : List Nat} (hP : ∀ x, x < n → cc_Nd K N W P A B C z fr x) (hx : x < n) (hn : n ≤ 24) (hz : z x ≤ 24) (hC : cc_CM n K N W P A B C z cn hg PA PB PC sk r en x) (hs : s + cc_len K A B C x + 1 ≤ 128) (hL : L.length + (cc_fl K A B C x).length ≤ 24) (hF : cc_PF L pf) :
    ∃ (cd' ex' gc' ge' pf' : Nat → Int32) (t' : cc_TT) (f' : cc_TF), (cc_ca K N W P A B C cd' ex' (fun y => y ∈ L ++ cc_fl K A B C x) (cc_Gt K N W P gc' ge') x s ∧ cd' (s + cc_len K A B C x) = 20 ∧ (∀ j, j < s → cd' j = cd j ∧ ex' j = ex j) ∧ cc_PF (L ++ cc_fl K A B C x) pf' ∧ cc_Gs K N W P gc ge gc' ge') ∧
      ∀ post : SX → Prop, post (cc_xs (cn, hg, K, PA, PB, PC, N, W, P, sk) (nI (s + cc_len K A B C x + 1), nI (L ++ cc_fl K A B C x).length, cd', ex', en, gc', ge', pf') t' f' r) → wpX_compile post (cc_xs (cn, hg, K, PA, PB, PC, N, W, P, sk) (nI s, nI L.length, cd, ex, en, gc, ge, pf) t f r) (nI x) := by
  obtain ⟨t0, tk, ph, ho⟩ := t
  obtain ⟨i1, cd1, ex1, gc1, ge1, pf1, tk1, ph1, ho1, f1, ⟨k, ek, R⟩, l1, c1, k1, t1, F1, G1⟩ := hC 0 0 s L cd ex gc ge pf (upd tk 0 (nI x)) (upd ph 0 0) ho f pk_us pk_us (by omega) (by omega) (by omega) hL hF
  refine ⟨upd cd1 (s + cc_len K A B C x) 20, upd ex1 (s + cc_len K A B C x) 0, gc1, ge1, pf1, (nI 0, tk1, ph1, ho1), f1, ⟨?_, pk_us, ?_, F1, G1⟩, fun post hp => ?_⟩
  · exact cc_ca_m hP (fun _ h => h) (fun _ _ h => h) x hx s (fun j j1 j2 => by rw [pk_un (by omega), pk_un (by omega)]; exact ⟨rfl, rfl⟩) c1
  · intro j hj
    rw [pk_un (by omega), pk_un (by omega)]
    exact k1 j hj
  · unfold wpX_compile cc_xs
    dsimp only
    refine cc_begin (p := (cn, hg, K, PA, PB, PC, N, W, P, sk)) (c := (nI s, nI L.length, cd, ex, en, gc, ge, pf)) (tk := tk) (ph := ph) (ho := ho) (f := f) (r := r) (k := 0) (by omega) ?_
    refine ⟨1 + k, R post 1 ?_⟩
    refine br_f (nI_ge (b := 200) (by omega) (by omega)) (br_t (show nI 0 ≤ 0 by decide) ?_)
    exact cc_emit (p := (cn, hg, K, PA, PB, PC, N, W, P, sk)) (t := (nI 0, tk1, ph1, ho1)) (f := f1) (r := r) (by omega) hp
theorem cc_wl {l : List Nat} (h : ∀ f, f ∈ l → 1 ≤ z f) : l.length ≤ cc_ws z l := by
  induction l with
  | nil => rw [cc_ws, List.length_nil]; omega
  | cons a l ih =>
    have h1 := h a (by simp)
    have h2 := ih (fun f q => h f (List.mem_cons_of_mem _ q))
    rw [cc_ws, List.length_cons]
    omega
/-- what stands when the functions of D are compiled, those of D ++ Q being known -/
def cc_CF (n : Nat) (K N W P : Nat → Int32) (A B C : Nat → Nat) (x s : Nat) (D Q : List Nat) (cd ex en gc ge pf : Nat → Int32) : Prop :=
  (cc_ca K N W P A B C cd ex (fun y => y ∈ D ++ Q) (cc_Gt K N W P gc ge) x 0 ∧ cd (cc_len K A B C x) = 20 ∧ cc_len K A B C x < s) ∧
  (∀ f, f ∈ D → ∃ e, en f = nI e ∧ cc_ca K N W P A B C cd ex (fun y => y ∈ D ++ Q) (cc_Gt K N W P gc ge) (A f) e ∧ cd (e + cc_len K A B C (A f)) = 20 ∧ e + cc_len K A B C (A f) < s) ∧
  (∀ f v, f < 24 → v < 4 → gc (f * 4 + v) = -1 ∨ cc_Gt K N W P gc ge f v) ∧ (∀ f, f ∈ D ++ Q → f < n ∧ K f = 7) ∧ cc_PF (D ++ Q) pf
theorem cc_Gs_i {gc' ge' : Nat → Int32} (h : cc_Gs K N W P gc ge gc' ge') (g : ∀ f v, f < 24 → v < 4 → gc (f * 4 + v) = -1 ∨ cc_Gt K N W P gc ge f v) : ∀ f v, f < 24 → v < 4 → gc' (f * 4 + v) = -1 ∨ cc_Gt K N W P gc' ge' f v := by
  intro f v hf hv
  rcases h f v hv with q | q
  · rcases g f v hf hv with q2 | q2
    · exact Or.inl (q.1.trans q2)
    · exact Or.inr (cc_Gs_t h f v q2)
  · exact Or.inr q
theorem cc_all (hn : n ≤ 24) (hU : ∀ x, x < n → cc_Up n W x) (hP : ∀ x, x < n → cc_Nd K N W P A B C z fr x) (hX : ∀ x, x < n → cc_XP K PA PB PC A B C x) {x : Nat} (hx : x < n) : ∀ (m : Nat) (D Q : List Nat) (s : Nat) (cd ex en gc ge pf : Nat → Int32) (t : cc_TT) (f : cc_TF), cc_ws z Q ≤ m → D.length + cc_ws z Q ≤ 24 → s + 2 * cc_ws z Q ≤ 49 + Q.length → cc_CF n K N W P A B C x s D Q cd ex en gc ge pf →
    ∃ (D' : List Nat) (s' : Nat) (cd' ex' en' gc' ge' pf' : Nat → Int32) (t' : cc_TT) (f' : cc_TF), (cc_CF n K N W P A B C x s' D' [] cd' ex' en' gc' ge' pf' ∧ s' ≤ 49) ∧
      ∀ post : SX → Prop, post (cc_xs (cn, hg, K, PA, PB, PC, N, W, P, sk) (nI s', nI D'.length, cd', ex', en', gc', ge', pf') t' f' r) → cc_LA post (m + 1) (nI D.length) (cc_xs (cn, hg, K, PA, PB, PC, N, W, P, sk) (nI s, nI (D ++ Q).length, cd, ex, en, gc, ge, pf) t f r) := by
  intro m
  induction m with
  | zero =>
    intro D Q s cd ex en gc ge pf t f hm h24 hs hC
    cases Q with
    | nil =>
      rw [cc_ws, List.length_nil] at hs
      refine ⟨D, s, cd, ex, en, gc, ge, pf, t, f, ⟨hC, by omega⟩, fun post hp => br_t ?_ ?_⟩
      · rw [List.append_nil]; exact Int32.le_refl _
      · rw [List.append_nil]; exact hp
    | cons g Q =>
      exfalso
      have := cc_z1 (hP g (hC.2.2.2.1 g (by simp)).1)
      rw [cc_ws] at hm
      omega
  | succ m ih =>
    intro D Q s cd ex en gc ge pf t f hm h24 hs hC
    cases Q with
    | nil =>
      rw [cc_ws, List.length_nil] at hs
      refine ⟨D, s, cd, ex, en, gc, ge, pf, t, f, ⟨hC, by omega⟩, fun post hp => br_t ?_ ?_⟩
      · rw [List.append_nil]; exact Int32.le_refl _
      · rw [List.append_nil]; exact hp
    | cons g Q =>
      obtain ⟨⟨m1, m2, m3⟩, hR, hG, hD, hF⟩ := hC
      obtain ⟨g1, g7⟩ := hD g (by simp)
      obtain ⟨gA, gW, gp, gz, _⟩ := cc_nd7 (hP g g1) g7
      obtain ⟨w1, w2, w3⟩ := cc_fl_s hP (A g) (by omega)
      have lA := cc_len_z hP (A g) (by omega)
      have zA := cc_z1 (hP (A g) (by omega))
      have wQ : Q.length ≤ cc_ws z Q := cc_wl (fun f q => cc_z1 (hP f (hD f (by simp [q])).1))
      have wf : (cc_fl K A B C (A g)).length ≤ cc_ws z (cc_fl K A B C (A g)) := cc_wl (fun f q => cc_z1 (hP f (w3 f q).1))
      rw [cc_ws] at hm h24 hs
      rw [List.length_cons] at hs
      have hLl : (D ++ g :: Q).length = D.length + Q.length + 1 := by rw [List.length_append, List.length_cons]; omega
      have eL : D ++ g :: Q ++ cc_fl K A B C (A g) = (D ++ [g]) ++ (Q ++ cc_fl K A B C (A g)) := by simp
      obtain ⟨cd1, ex1, gc1, ge1, pf1, t1, f1, ⟨c1, c2, c3, c4, c5⟩, c6⟩ := cc_compile (cn := cn) (hg := hg) (PA := PA) (PB := PB) (PC := PC) (sk := sk) (t := t) (f := f) (r := r) (cd := cd) (ex := ex) (en := upd en g (nI s)) (gc := gc) (ge := ge) (pf := pf) (L := D ++ g :: Q) (s := s) hP (by omega) hn (by omega) (cc_cm hn hU hP hX (A g) (by omega)) (by omega) (by omega) hF
      rw [eL] at c1 c4 c6
      have hml : ∀ y, (fun y => y ∈ D ++ g :: Q) y → (fun y => y ∈ (D ++ [g]) ++ (Q ++ cc_fl K A B C (A g))) y := by
        intro y hy
        have hy' : y ∈ D ++ g :: Q := hy
        show y ∈ (D ++ [g]) ++ (Q ++ cc_fl K A B C (A g))
        rw [← eL]
        exact List.mem_append_left _ hy'
      have Dl : (D ++ [g]).length = D.length + 1 := by rw [List.length_append, List.length_singleton]
      obtain ⟨D', s', cd', ex', en', gc', ge', pf', t', f', q1, q2⟩ := ih (D ++ [g]) (Q ++ cc_fl K A B C (A g)) (s + cc_len K A B C (A g) + 1) cd1 ex1 (upd en g (nI s)) gc1 ge1 pf1 t1 f1 (by rw [cc_ws_a]; omega) (by rw [cc_ws_a, Dl]; omega) (by rw [cc_ws_a, List.length_append]; omega) (by
        refine ⟨⟨cc_ca_m hP hml (cc_Gs_t c5) x hx 0 (fun j j1 j2 => c3 j (by omega)) m1, by rw [(c3 _ m3).1]; exact m2, by omega⟩, ?_, cc_Gs_i c5 hG, ?_, c4⟩
        · intro y hy
          by_cases yg : y = g
          · rw [yg]
            exact ⟨s, pk_us, c1, c2, by omega⟩
          · rcases List.mem_append.mp hy with q | q
            · obtain ⟨e, r1, r2, r3, r4⟩ := hR y q
              have y1 := (hD y (by simp [q])).1
              obtain ⟨yA, _⟩ := cc_nd7 (hP y y1) (hD y (by simp [q])).2
              refine ⟨e, by rw [pk_un yg]; exact r1, cc_ca_m hP hml (cc_Gs_t c5) (A y) (by omega) e (fun j j1 j2 => c3 j (by omega)) r2, by rw [(c3 _ r4).1]; exact r3, by omega⟩
            · rw [List.mem_singleton] at q
              exact absurd q yg
        · intro y hy
          rw [← eL] at hy
          rcases List.mem_append.mp hy with q | q
          · exact hD y q
          · exact w3 y q)
      refine ⟨D', s', cd', ex', en', gc', ge', pf', t', f', q1, fun post hp => ?_⟩
      have e1 : (nI D.length).toNatClampNeg = D.length := nI_clamp (by omega)
      have e2 : pf (nI D.length).toNatClampNeg = nI g := by
        rw [e1]
        exact hF D.length g (by rw [List.getElem?_append_right (Nat.le_refl _), Nat.sub_self]; rfl)
      have e3 : (nI g).toNatClampNeg = g := nI_clamp (by omega)
      have ig : vp_in (nI g) 24 := vp_in_nI (by omega) (by omega)
      have eP : PA (nI g).toNatClampNeg = nI (A g) := by rw [e3]; exact (hX g g1).1 (by rw [g7]; decide) (by rw [g7]; decide)
      refine br_f (by rw [hLl]; exact nI_ge (by omega) (by omega)) (And.intro (vp_in_nI (by omega) (by omega)) (nm_r (e' := nI g) e2 (And.intro ig (nm_r (cc_u en e3 (nI s)) (And.intro ig ?_)))))
      show wpX_compile _ _ (PA (nI g).toNatClampNeg)
      rw [eP]
      refine c6 _ (nm_r (nI_1 D.length) ?_)
      have := q2 post hp
      rw [Dl] at this
      exact this
end
end
section
/-! compileAll as a whole -/
def cc_rs (gc : Nat → Int32) (j : Nat) : Nat → Int32 := fun i => if i < j then -1 else gc i
theorem cc_rs_s (gc : Nat → Int32) (j : Nat) : upd (cc_rs gc j) j (-1) = cc_rs gc (j + 1) := by
  funext i
  unfold upd cc_rs
  by_cases q : i = j
  · rw [if_pos q, if_pos (by omega)]
  · rw [if_neg q]
    by_cases q2 : i < j
    · rw [if_pos q2, if_pos (by omega)]
    · rw [if_neg q2, if_neg (by omega)]
theorem cc_rs_0 (gc : Nat → Int32) : cc_rs gc 0 = gc := by
  funext i
  unfold cc_rs
  rw [if_neg (by omega)]
section
variable {f_count f_height f_size f_pending f_tasks f_values f_frames f_closures f_called f_ended f_foundCode f_foundExtra f_crossed : Int32} {a_kind a_partA a_partB a_partC a_number a_whole a_place a_stack a_code a_extra a_entry a_getCode a_getExtra a_pendingFunction a_task a_phase a_hole a_tag a_datum a_back a_running a_argTag a_argDatum a_slotTag a_slotDatum a_closureOf a_keptTag a_keptDatum : Nat → Int32}
theorem cc_rl {post : SX → Prop} {x1 : Int32} : ∀ d j, j + d = 96 → wX_compileAll_12 post x1 f_count f_height f_size f_pending f_tasks f_values f_frames f_closures f_called f_ended f_foundCode f_foundExtra f_crossed 1 (nI 96) a_kind a_partA a_partB a_partC a_number a_whole a_place a_stack a_code a_extra a_entry (cc_rs a_getCode 96) a_getExtra a_pendingFunction a_task a_phase a_hole a_tag a_datum a_back a_running a_argTag a_argDatum a_slotTag a_slotDatum a_closureOf a_keptTag a_keptDatum →
    wX_compileAll_12 post x1 f_count f_height f_size f_pending f_tasks f_values f_frames f_closures f_called f_ended f_foundCode f_foundExtra f_crossed (d + 1) (nI j) a_kind a_partA a_partB a_partC a_number a_whole a_place a_stack a_code a_extra a_entry (cc_rs a_getCode j) a_getExtra a_pendingFunction a_task a_phase a_hole a_tag a_datum a_back a_running a_argTag a_argDatum a_slotTag a_slotDatum a_closureOf a_keptTag a_keptDatum := by
  intro d
  induction d with
  | zero =>
    intro j hj h
    have e : j = 96 := by omega
    rw [e]
    exact h
  | succ d ih =>
    intro j hj h
    have e1 : (nI j).toNatClampNeg = j := nI_clamp (by omega)
    exact br_f (nI_ge (b := 96) (by omega) (by omega)) (And.intro (vp_in_nI (by omega) (by omega)) (nm_r (e' := cc_rs a_getCode (j + 1)) (by rw [e1]; exact cc_rs_s _ _) (nm_r (nI_1 j) (ih (j + 1) (by omega) h))))
end
section
variable {n : Nat} {K N W P : Nat → Int32} {A B C z : Nat → Nat} {fr : Nat → Nat → Bool} {cn hg : Int32} {PA PB PC sk : Nat → Int32} {c : cc_TC} {t : cc_TT} {f : cc_TF} {r : cc_TR}
theorem cc_cAll (hn : n ≤ 24) (hU : ∀ x, x < n → cc_Up n W x) (hP : ∀ x, x < n → cc_Nd K N W P A B C z fr x) (hX : ∀ x, x < n → cc_XP K PA PB PC A B C x) {x : Nat} (hx : x < n) (hz : z x ≤ 24) :
    ∃ (D : List Nat) (s' : Nat) (cd' ex' en' gc' ge' pf' : Nat → Int32) (t' : cc_TT) (f' : cc_TF), (cc_CF n K N W P A B C x s' D [] cd' ex' en' gc' ge' pf' ∧ s' ≤ 49) ∧
      ∀ post : SX → Prop, post (cc_xs (cn, hg, K, PA, PB, PC, N, W, P, sk) (nI s', nI D.length, cd', ex', en', gc', ge', pf') t' f' r) → wpX_compileAll post (cc_xs (cn, hg, K, PA, PB, PC, N, W, P, sk) c t f r) (nI x) := by
  obtain ⟨sz, pd, cd, ex, en, gc, ge, pf⟩ := c
  obtain ⟨w1, w2, w3⟩ := cc_fl_s hP x hx
  have lx := cc_len_z hP x hx
  have wf : (cc_fl K A B C x).length ≤ cc_ws z (cc_fl K A B C x) := cc_wl (fun f q => cc_z1 (hP f (w3 f q).1))
  obtain ⟨cd1, ex1, gc1, ge1, pf1, t1, f1, ⟨c1, c2, c3, c4, c5⟩, c6⟩ := cc_compile (cn := cn) (hg := hg) (PA := PA) (PB := PB) (PC := PC) (sk := sk) (t := t) (f := f) (r := r) (cd := cd) (ex := ex) (en := en) (gc := cc_rs gc 96) (ge := ge) (pf := pf) (L := []) (s := 0) hP hx hn hz (cc_cm hn hU hP hX x hx) (by omega) (by rw [List.length_nil]; omega) (fun k f e => absurd e (by simp))
  rw [List.nil_append, Nat.zero_add] at c6
  rw [List.nil_append] at c1 c4
  rw [Nat.zero_add] at c2
  have g0 : ∀ f v, f < 24 → v < 4 → cc_rs gc 96 (f * 4 + v) = -1 ∨ cc_Gt K N W P (cc_rs gc 96) ge f v := by
    intro f v hf hv
    left
    unfold cc_rs
    rw [if_pos (by omega)]
  obtain ⟨D', s', cd', ex', en', gc', ge', pf', t', f', q1, q2⟩ := cc_all (cn := cn) (hg := hg) (PA := PA) (PB := PB) (PC := PC) (sk := sk) (r := r) hn hU hP hX hx (cc_ws z (cc_fl K A B C x)) [] (cc_fl K A B C x) (cc_len K A B C x + 1) cd1 ex1 en gc1 ge1 pf1 t1 f1 (Nat.le_refl _) (by rw [List.length_nil]; omega) (by omega) ⟨⟨c1, c2, by omega⟩, fun f q => absurd q (by simp), cc_Gs_i c5 g0, fun f q => w3 f q, c4⟩
  refine ⟨D', s', cd', ex', en', gc', ge', pf', t', f', q1, fun post hp => ?_⟩
  refine ⟨97, ?_⟩
  have h := cc_rl (post := post) (x1 := nI x) (f_count := cn) (f_height := hg) (f_size := 0) (f_pending := 0) (f_tasks := t.1) (f_values := r.1) (f_frames := r.2.1) (f_closures := r.2.2.1) (f_called := r.2.2.2.1) (f_ended := r.2.2.2.2.1) (f_foundCode := f.1) (f_foundExtra := f.2.1) (f_crossed := f.2.2) (a_kind := K) (a_partA := PA) (a_partB := PB) (a_partC := PC) (a_number := N) (a_whole := W) (a_place := P) (a_stack := sk) (a_code := cd) (a_extra := ex) (a_entry := en) (a_getCode := gc) (a_getExtra := ge) (a_pendingFunction := pf) (a_task := t.2.1) (a_phase := t.2.2.1) (a_hole := t.2.2.2)
     (a_tag := r.2.2.2.2.2.1) (a_datum := r.2.2.2.2.2.2.1) (a_back := r.2.2.2.2.2.2.2.1) (a_running := r.2.2.2.2.2.2.2.2.1) (a_argTag := r.2.2.2.2.2.2.2.2.2.1) (a_argDatum := r.2.2.2.2.2.2.2.2.2.2.1) (a_slotTag := r.2.2.2.2.2.2.2.2.2.2.2.1) (a_slotDatum := r.2.2.2.2.2.2.2.2.2.2.2.2.1) (a_closureOf := r.2.2.2.2.2.2.2.2.2.2.2.2.2.1) (a_keptTag := r.2.2.2.2.2.2.2.2.2.2.2.2.2.2.1) (a_keptDatum := r.2.2.2.2.2.2.2.2.2.2.2.2.2.2.2) 96 0 (by omega) (br_t (show (96 : Int32) ≤ nI 96 by decide) (c6 _ ⟨_, q2 post hp⟩))
  rw [cc_rs_0] at h
  exact h
end
end
section
/-! the component's run: loads, pushes, calculations, calls -/
def cc_ld (y : Nat) (rn ag ad sT sD kT kD : Nat → Int32) (o : Int32 × Int32) : cc_V :=
  if o.1 = 10 then (0, o.2) else if o.1 = 11 then (sT (y * 11 + o.2.toNatClampNeg), sD (y * 11 + o.2.toNatClampNeg))
  else if o.1 = 12 then (ag y, ad y) else if o.1 = 13 then (1, rn y)
  else if o.1 = 14 then (kT ((rn y).toNatClampNeg * 4 + o.2.toNatClampNeg), kD ((rn y).toNatClampNeg * 4 + o.2.toNatClampNeg)) else (2, 0)
/-- an instruction that loads, with its numbers in range; captured values are those of one of the first m closures -/
def cc_lok (y m : Nat) (rn : Nat → Int32) (o : Int32 × Int32) : Prop := o.1 = 10 ∨ (o.1 = 11 ∧ ∃ s, s < 11 ∧ o.2 = nI s) ∨ o.1 = 12 ∨ o.1 = 13 ∨ (o.1 = 14 ∧ ∃ j, j < 4 ∧ o.2 = nI j ∧ ∃ d, d < m ∧ rn y = nI d) ∨ o.1 = 15
theorem cc_lok_c {y m : Nat} {rn : Nat → Int32} {o : Int32 × Int32} (h : cc_lok y m rn o) : 4 ≤ o.1 ∧ o.1 ≠ 4 ∧ o.1 ≠ 16 ∧ o.1 ≠ 17 ∧ o.1 ≠ 18 ∧ o.1 ≠ 19 ∧ o.1 ≠ 20 := by
  rcases h with h | h | h | h | h | h
  · rw [h]; decide
  · rw [h.1]; decide
  · rw [h]; decide
  · rw [h]; decide
  · rw [h.1]; decide
  · rw [h]; decide
theorem cc_ix11 (f v : Nat) : nI f * 11 + nI v = nI (f * 11 + v) := by
  rw [show (11 : Int32) = nI 11 from rfl, pk_mul, nI_add]
section
variable {p : cc_TP} {c : cc_TC} {t : cc_TT} {f : cc_TF} {m k en : Int32} {tg dt bk rn ag ad sT sD cO kT kD : Nat → Int32} {y v : Nat}
theorem cc_ld_k {M : Nat} {o : Int32 × Int32} {kT' kD' : Nat → Int32} (h : cc_lok y M rn o) (hk : ∀ i, i < M * 4 → kT' i = kT i ∧ kD' i = kD i) (hM : M < 2 ^ 30) : cc_ld y rn ag ad sT sD kT' kD' o = cc_ld y rn ag ad sT sD kT kD o := by
  unfold cc_ld
  rcases h with h | h | h | h | ⟨h, j, hj, e, d, hd, er⟩ | h
  · rw [if_pos h, if_pos h]
  · rw [h.1]; rfl
  · rw [h]; rfl
  · rw [h]; rfl
  · have q := hk (d * 4 + j) (by omega)
    rw [h, e, er, nI_clamp (by omega), nI_clamp (by omega), q.1, q.2]
  · rw [h]; rfl
theorem cc_load {post : SX → Prop} {M : Nat} {o : Int32 × Int32} (ho : cc_lok y M rn o) (hy : y < 61) (hM : M ≤ 736) (hv : v < 1600) (hp : post (cc_xs p c t f (nI (v + 1), nI (y + 1), m, k, en, upd tg v (cc_ld y rn ag ad sT sD kT kD o).1, upd dt v (cc_ld y rn ag ad sT sD kT kD o).2, bk, rn, ag, ad, sT, sD, cO, kT, kD))) : wpX_load post (cc_xs p c t f (nI v, nI (y + 1), m, k, en, tg, dt, bk, rn, ag, ad, sT, sD, cO, kT, kD)) o.1 o.2 := by
  have ey : (nI y).toNatClampNeg = y := nI_clamp (by omega)
  have iy : vp_in (nI y) 61 := vp_in_nI hy (by omega)
  refine nm_r (e' := nI y) (nI_pred y) ?_
  rcases ho with h | ⟨h, s, hs, es⟩ | h | h | ⟨h, j, hj, ej, d, hd, er⟩ | h
  · have e : cc_ld y rn ag ad sT sD kT kD o = (0, o.2) := by unfold cc_ld; rw [if_pos h]
    rw [e] at hp
    exact br_t h (cc_push (p := p) (c := c) (t := t) (f := f) hv hp)
  · have e : cc_ld y rn ag ad sT sD kT kD o = (sT (y * 11 + o.2.toNatClampNeg), sD (y * 11 + o.2.toNatClampNeg)) := by unfold cc_ld; rw [h]; rfl
    have e2 : nI y * 11 + o.2 = nI (y * 11 + s) := by rw [es, cc_ix11]
    have e3 : (nI y * 11 + o.2).toNatClampNeg = y * 11 + o.2.toNatClampNeg := by rw [e2, nI_clamp (by omega), es, nI_clamp (by omega)]
    have i2 : vp_in (nI y * 11 + o.2) 671 := by rw [e2]; exact vp_in_nI (by omega) (by omega)
    have h0 : ¬ o.1 = 10 := by rw [h]; decide
    rw [e, ← e3] at hp
    exact br_f h0 (br_t h (And.intro i2 (And.intro i2 (cc_push (p := p) (c := c) (t := t) (f := f) hv hp))))
  · have e : cc_ld y rn ag ad sT sD kT kD o = (ag y, ad y) := by unfold cc_ld; rw [h]; rfl
    rw [e, ← ey] at hp
    have h0 : ¬ o.1 = 10 := by rw [h]; decide
    have h1 : ¬ o.1 = 11 := by rw [h]; decide
    rw [ey] at hp
    exact br_f h0 (br_f h1 (br_t h (And.intro iy (And.intro iy (cc_push (p := p) (c := c) (t := t) (f := f) (a := ag (nI y).toNatClampNeg) (d := ad (nI y).toNatClampNeg) hv (by rw [ey]; exact hp))))))
  · have e : cc_ld y rn ag ad sT sD kT kD o = (1, rn y) := by unfold cc_ld; rw [h]; rfl
    rw [e] at hp
    have h0 : ¬ o.1 = 10 := by rw [h]; decide
    have h1 : ¬ o.1 = 11 := by rw [h]; decide
    have h2 : ¬ o.1 = 12 := by rw [h]; decide
    exact br_f h0 (br_f h1 (br_f h2 (br_t h (And.intro iy (cc_push (p := p) (c := c) (t := t) (f := f) (a := 1) (d := rn (nI y).toNatClampNeg) hv (by rw [ey]; exact hp))))))
  · have e : cc_ld y rn ag ad sT sD kT kD o = (kT ((rn y).toNatClampNeg * 4 + o.2.toNatClampNeg), kD ((rn y).toNatClampNeg * 4 + o.2.toNatClampNeg)) := by unfold cc_ld; rw [h]; rfl
    have e2 : rn (nI y).toNatClampNeg * 4 + o.2 = nI (d * 4 + j) := by rw [ey, er, ej, cc_ix4]
    have e3 : (rn (nI y).toNatClampNeg * 4 + o.2).toNatClampNeg = (rn y).toNatClampNeg * 4 + o.2.toNatClampNeg := by rw [e2, nI_clamp (by omega), er, ej, nI_clamp (by omega), nI_clamp (by omega)]
    have i2 : vp_in (rn (nI y).toNatClampNeg * 4 + o.2) 2944 := by rw [e2]; exact vp_in_nI (by omega) (by omega)
    rw [e, ← e3] at hp
    have h0 : ¬ o.1 = 10 := by rw [h]; decide
    have h1 : ¬ o.1 = 11 := by rw [h]; decide
    have h2 : ¬ o.1 = 12 := by rw [h]; decide
    have h3 : ¬ o.1 = 13 := by rw [h]; decide
    exact br_f h0 (br_f h1 (br_f h2 (br_f h3 (br_t h (And.intro iy (And.intro i2 (And.intro iy (And.intro i2 (cc_push (p := p) (c := c) (t := t) (f := f) hv hp)))))))))
  · have e : cc_ld y rn ag ad sT sD kT kD o = (2, 0) := by unfold cc_ld; rw [h]; rfl
    rw [e] at hp
    have h0 : ¬ o.1 = 10 := by rw [h]; decide
    have h1 : ¬ o.1 = 11 := by rw [h]; decide
    have h2 : ¬ o.1 = 12 := by rw [h]; decide
    have h3 : ¬ o.1 = 13 := by rw [h]; decide
    have h4 : ¬ o.1 = 14 := by rw [h]; decide
    exact br_f h0 (br_f h1 (br_f h2 (br_f h3 (br_f h4 (cc_push (p := p) (c := c) (t := t) (f := f) hv hp)))))
theorem cc_load2 {post : SX → Prop} {M : Nat} {o : Int32 × Int32} {w : cc_V} {x1 x2 : Int32} (h1 : x1 = o.1) (h2 : x2 = o.2) (hw : cc_ld y rn ag ad sT sD kT kD o = w) (ho : cc_lok y M rn o) (hy : y < 61) (hM : M ≤ 736) (hv : v < 1600) (hp : post (cc_xs p c t f (nI (v + 1), nI (y + 1), m, k, en, upd tg v w.1, upd dt v w.2, bk, rn, ag, ad, sT, sD, cO, kT, kD))) : wpX_load post (cc_xs p c t f (nI v, nI (y + 1), m, k, en, tg, dt, bk, rn, ag, ad, sT, sD, cO, kT, kD)) x1 x2 := by
  rw [h1, h2]
  refine cc_load ho hy hM hv ?_
  rw [hw]
  exact hp
theorem cc_lname {post : SX → Prop} {M : Nat} {o : Int32 × Int32} (ho : cc_lok y M rn o) (hy : y < 61) (hM : M ≤ 736) (hv : v < 1600) (hp : post (cc_xs p c t f (nI (v + 1), nI (y + 1), m, k, (if (cc_ld y rn ag ad sT sD kT kD o).1 = 2 then 2 else en), upd tg v (cc_ld y rn ag ad sT sD kT kD o).1, upd dt v (cc_ld y rn ag ad sT sD kT kD o).2, bk, rn, ag, ad, sT, sD, cO, kT, kD))) : wpX_loadName post (cc_xs p c t f (nI v, nI (y + 1), m, k, en, tg, dt, bk, rn, ag, ad, sT, sD, cO, kT, kD)) o.1 o.2 := by
  unfold wpX_loadName cc_xs
  dsimp only
  refine cc_load (p := p) (c := c) (t := t) (f := f) (m := m) (k := k) (en := en) (tg := tg) (dt := dt) (bk := bk) (rn := rn) (ag := ag) (ad := ad) (sT := sT) (sD := sD) (cO := cO) (kT := kT) (kD := kD) ho hy hM hv ?_
  generalize cc_ld y rn ag ad sT sD kT kD o = w at hp
  have e1 : nI (v + 1) - 1 = nI v := nI_pred v
  have i1 : vp_in (nI (v + 1) - 1) 1600 := by rw [e1]; exact vp_in_nI hv (by omega)
  have e2 : upd tg v w.1 (nI (v + 1) - 1).toNatClampNeg = w.1 := by rw [e1, nI_clamp (by omega)]; exact pk_us
  refine And.intro i1 ?_
  by_cases q : w.1 = 2
  · rw [if_pos q] at hp
    exact br_t (e2.trans q) hp
  · rw [if_neg q] at hp
    exact br_f (fun z => q (e2.symm.trans z)) hp
end
end
section
/-! the component's run: one instruction -/
def cc_LM (post : SX → Prop) (x1 x2 : Int32) (n : Nat) (i : Int32) (u : SX) : Prop := wX_makeClosure_24 post x1 x2 n i u.1 u.2.1 u.2.2.1 u.2.2.2.1 u.2.2.2.2.1 u.2.2.2.2.2.1 u.2.2.2.2.2.2.1 u.2.2.2.2.2.2.2.1 u.2.2.2.2.2.2.2.2.1 u.2.2.2.2.2.2.2.2.2.1 u.2.2.2.2.2.2.2.2.2.2.1 u.2.2.2.2.2.2.2.2.2.2.2.1 u.2.2.2.2.2.2.2.2.2.2.2.2.1 u.2.2.2.2.2.2.2.2.2.2.2.2.2.1 u.2.2.2.2.2.2.2.2.2.2.2.2.2.2.1 u.2.2.2.2.2.2.2.2.2.2.2.2.2.2.2.1 u.2.2.2.2.2.2.2.2.2.2.2.2.2.2.2.2.1 u.2.2.2.2.2.2.2.2.2.2.2.2.2.2.2.2.2.1 u.2.2.2.2.2.2.2.2.2.2.2.2.2.2.2.2.2.2.1 u.2.2.2.2.2.2.2.2.2.2.2.2.2.2.2.2.2.2.2.1 u.2.2.2.2.2.2.2.2.2.2.2.2.2.2.2.2.2.2.2.2.1 u.2.2.2.2.2.2.2.2.2.2.2.2.2.2.2.2.2.2.2.2.2.1 u.2.2.2.2.2.2.2.2.2.2.2.2.2.2.2.2.2.2.2.2.2.2.1 u.2.2.2.2.2.2.2.2.2.2.2.2.2.2.2.2.2.2.2.2.2.2.2.1 u.2.2.2.2.2.2.2.2.2.2.2.2.2.2.2.2.2.2.2.2.2.2.2.2.1 u.2.2.2.2.2.2.2.2.2.2.2.2.2.2.2.2.2.2.2.2.2.2.2.2.2.1 u.2.2.2.2.2.2.2.2.2.2.2.2.2.2.2.2.2.2.2.2.2.2.2.2.2.2.1 u.2.2.2.2.2.2.2.2.2.2.2.2.2.2.2.2.2.2.2.2.2.2.2.2.2.2.2.1 u.2.2.2.2.2.2.2.2.2.2.2.2.2.2.2.2.2.2.2.2.2.2.2.2.2.2.2.2.1 u.2.2.2.2.2.2.2.2.2.2.2.2.2.2.2.2.2.2.2.2.2.2.2.2.2.2.2.2.2.1 u.2.2.2.2.2.2.2.2.2.2.2.2.2.2.2.2.2.2.2.2.2.2.2.2.2.2.2.2.2.2.1 u.2.2.2.2.2.2.2.2.2.2.2.2.2.2.2.2.2.2.2.2.2.2.2.2.2.2.2.2.2.2.2.1 u.2.2.2.2.2.2.2.2.2.2.2.2.2.2.2.2.2.2.2.2.2.2.2.2.2.2.2.2.2.2.2.2.1 u.2.2.2.2.2.2.2.2.2.2.2.2.2.2.2.2.2.2.2.2.2.2.2.2.2.2.2.2.2.2.2.2.2.1 u.2.2.2.2.2.2.2.2.2.2.2.2.2.2.2.2.2.2.2.2.2.2.2.2.2.2.2.2.2.2.2.2.2.2.1 u.2.2.2.2.2.2.2.2.2.2.2.2.2.2.2.2.2.2.2.2.2.2.2.2.2.2.2.2.2.2.2.2.2.2.2.1 u.2.2.2.2.2.2.2.2.2.2.2.2.2.2.2.2.2.2.2.2.2.2.2.2.2.2.2.2.2.2.2.2.2.2.2.2.1 u.2.2.2.2.2.2.2.2.2.2.2.2.2.2.2.2.2.2.2.2.2.2.2.2.2.2.2.2.2.2.2.2.2.2.2.2.2.1 u.2.2.2.2.2.2.2.2.2.2.2.2.2.2.2.2.2.2.2.2.2.2.2.2.2.2.2.2.2.2.2.2.2.2.2.2.2.2.1 u.2.2.2.2.2.2.2.2.2.2.2.2.2.2.2.2.2.2.2.2.2.2.2.2.2.2.2.2.2.2.2.2.2.2.2.2.2.2.2.1 u.2.2.2.2.2.2.2.2.2.2.2.2.2.2.2.2.2.2.2.2.2.2.2.2.2.2.2.2.2.2.2.2.2.2.2.2.2.2.2.2
section
variable {p : cc_TP} {t : cc_TT} {f : cc_TF} {sz pd : Int32} {cd ex ey gc ge pf : Nat → Int32} {k en : Int32} {tg dt bk rn ag ad sT sD cO kT kD : Nat → Int32} {y v m a : Nat}
theorem cc_mcl1 {post : SX → Prop} {x j n : Nat} (hx : x < 24) (hm : m < 736) (hj : j < 4) (g0 : gc (x * 4 + j) < 0) (h : cc_LM post (nI x) (nI m) n (nI (j + 1)) (cc_xs p (sz, pd, cd, ex, ey, gc, ge, pf) t f (nI v, nI (y + 1), nI (m + 1), k, en, tg, dt, bk, rn, ag, ad, sT, sD, cO, upd kT (m * 4 + j) 2, kD))) : cc_LM post (nI x) (nI m) (n + 1) (nI j) (cc_xs p (sz, pd, cd, ex, ey, gc, ge, pf) t f (nI v, nI (y + 1), nI (m + 1), k, en, tg, dt, bk, rn, ag, ad, sT, sD, cO, kT, kD)) := by
  have n4 : ¬ (4 : Int32) ≤ nI j := nI_ge (b := 4) (by omega) (by omega)
  have e1 : nI m * 4 + nI j = nI (m * 4 + j) := cc_ix4 m j
  have i1 : vp_in (nI m * 4 + nI j) 2944 := by rw [e1]; exact vp_in_nI (by omega) (by omega)
  have e2 : (nI m * 4 + nI j).toNatClampNeg = m * 4 + j := by rw [e1]; exact nI_clamp (by omega)
  have e3 : nI x * 4 + nI j = nI (x * 4 + j) := cc_ix4 x j
  have i3 : vp_in (nI x * 4 + nI j) 96 := by rw [e3]; exact vp_in_nI (by omega) (by omega)
  have e4 : (nI x * 4 + nI j).toNatClampNeg = x * 4 + j := by rw [e3]; exact nI_clamp (by omega)
  have g0' : gc (nI x * 4 + nI j).toNatClampNeg < 0 := by rw [e4]; exact g0
  unfold cc_LM cc_xs at h ⊢
  dsimp only at h ⊢
  exact br_f n4 (And.intro i1 (nm_r (cc_u kT e2 2) (And.intro i3 (br_t g0' (nm_r (nI_1 j) h)))))
theorem cc_mcl {x : Nat} (hx : x < 24) (hy : y < 61) (hm : m < 736) (hv : v < 1600) (hg : ∀ j, j < 4 → gc (x * 4 + j) < 0 ∨ cc_lok y m rn (gc (x * 4 + j), ge (x * 4 + j))) : ∀ (d j : Nat) (tg dt kT kD : Nat → Int32), j + d = 4 →
    ∃ tg' dt' kT' kD', ((∀ i, i < v → tg' i = tg i ∧ dt' i = dt i) ∧ (∀ i, i < m * 4 + j → kT' i = kT i ∧ kD' i = kD i) ∧ (∀ i, j ≤ i → i < 4 → gc (x * 4 + i) < 0 ∨ (kT' (m * 4 + i), kD' (m * 4 + i)) = cc_ld y rn ag ad sT sD kT kD (gc (x * 4 + i), ge (x * 4 + i)))) ∧
      ∀ post : SX → Prop, post (cc_xs p (sz, pd, cd, ex, ey, gc, ge, pf) t f (nI (v + 1), nI (y + 1), nI (m + 1), k, en, upd tg' v 1, upd dt' v (nI m), bk, rn, ag, ad, sT, sD, cO, kT', kD')) → cc_LM post (nI x) (nI m) (d + 1) (nI j) (cc_xs p (sz, pd, cd, ex, ey, gc, ge, pf) t f (nI v, nI (y + 1), nI (m + 1), k, en, tg, dt, bk, rn, ag, ad, sT, sD, cO, kT, kD)) := by
  intro d
  induction d with
  | zero =>
    intro j tg dt kT kD hj
    refine ⟨tg, dt, kT, kD, ⟨fun i _ => ⟨rfl, rfl⟩, fun i _ => ⟨rfl, rfl⟩, fun i h1 h2 => by omega⟩, fun post hp => ?_⟩
    have e : j = 4 := by omega
    subst e
    exact br_t (show (4 : Int32) ≤ nI 4 by decide) (cc_push (p := p) (c := (sz, pd, cd, ex, ey, gc, ge, pf)) (t := t) (f := f) hv hp)
  | succ d ih =>
    intro j tg dt kT kD hj
    have n4 : ¬ (4 : Int32) ≤ nI j := nI_ge (b := 4) (by omega) (by omega)
    have e1 : nI m * 4 + nI j = nI (m * 4 + j) := cc_ix4 m j
    have i1 : vp_in (nI m * 4 + nI j) 2944 := by rw [e1]; exact vp_in_nI (by omega) (by omega)
    have e2 : (nI m * 4 + nI j).toNatClampNeg = m * 4 + j := by rw [e1]; exact nI_clamp (by omega)
    have e3 : nI x * 4 + nI j = nI (x * 4 + j) := cc_ix4 x j
    have i3 : vp_in (nI x * 4 + nI j) 96 := by rw [e3]; exact vp_in_nI (by omega) (by omega)
    have e4 : (nI x * 4 + nI j).toNatClampNeg = x * 4 + j := by rw [e3]; exact nI_clamp (by omega)
    by_cases g0 : gc (x * 4 + j) < 0
    · obtain ⟨tg', dt', kT', kD', ⟨q1, q2, q3⟩, q4⟩ := ih (j + 1) tg dt (upd kT (m * 4 + j) 2) kD (by omega)
      refine ⟨tg', dt', kT', kD', ⟨q1, fun i hi => ?_, fun i h1 h2 => ?_⟩, fun post hp => ?_⟩
      · rw [(q2 i (by omega)).1, (q2 i (by omega)).2, pk_un (by omega)]
        exact ⟨rfl, rfl⟩
      · by_cases q : i = j
        · rw [q]; exact Or.inl g0
        · rcases q3 i (by omega) h2 with w | w
          · exact Or.inl w
          · rcases hg i h2 with w2 | w2
            · exact Or.inl w2
            · refine Or.inr (w.trans ?_)
              exact cc_ld_k w2 (fun i' hi' => ⟨pk_un (by omega), rfl⟩) (by omega)
      · exact cc_mcl1 hx hm (by omega) g0 (q4 post hp)
    · have lk := (hg j (by omega)).resolve_left g0
      have ek : cc_ld y rn ag ad sT sD (upd kT (m * 4 + j) 2) kD (gc (x * 4 + j), ge (x * 4 + j)) = cc_ld y rn ag ad sT sD kT kD (gc (x * 4 + j), ge (x * 4 + j)) := cc_ld_k lk (fun i' hi' => ⟨pk_un (by omega), rfl⟩) (by omega)
      obtain ⟨w, ew⟩ : ∃ w, w = cc_ld y rn ag ad sT sD kT kD (gc (x * 4 + j), ge (x * 4 + j)) := ⟨_, rfl⟩
      obtain ⟨tg', dt', kT', kD', ⟨q1, q2, q3⟩, q4⟩ := ih (j + 1) (upd tg v w.1) (upd dt v w.2) (upd (upd kT (m * 4 + j) 2) (m * 4 + j) w.1) (upd kD (m * 4 + j) w.2) (by omega)
      refine ⟨tg', dt', kT', kD', ⟨fun i hi => ?_, fun i hi => ?_, fun i h1 h2 => ?_⟩, fun post hp => ?_⟩
      · rw [(q1 i hi).1, (q1 i hi).2, pk_un (by omega), pk_un (by omega)]
        exact ⟨rfl, rfl⟩
      · rw [(q2 i (by omega)).1, (q2 i (by omega)).2, pk_un (by omega), pk_un (by omega), pk_un (by omega)]
        exact ⟨rfl, rfl⟩
      · by_cases q : i = j
        · rw [q, (q2 (m * 4 + j) (by omega)).1, (q2 (m * 4 + j) (by omega)).2, pk_us, pk_us, ew]
          exact Or.inr rfl
        · rcases q3 i (by omega) h2 with w' | w'
          · exact Or.inl w'
          · rcases hg i h2 with w2 | w2
            · exact Or.inl w2
            · refine Or.inr (w'.trans ?_)
              exact cc_ld_k w2 (fun i' hi' => ⟨by rw [pk_un (by omega), pk_un (by omega)], pk_un (by omega)⟩) (by omega)
      · have g0' : ¬ gc (nI x * 4 + nI j).toNatClampNeg < 0 := by rw [e4]; exact g0
        refine br_f n4 (And.intro i1 (nm_r (cc_u kT e2 2) (And.intro i3 (br_f g0' (And.intro i3 (And.intro i3 ?_))))))
        refine cc_load2 (p := p) (c := (sz, pd, cd, ex, ey, gc, ge, pf)) (t := t) (f := f) (m := nI (m + 1)) (k := k) (en := en) (tg := tg) (dt := dt) (bk := bk) (rn := rn) (ag := ag) (ad := ad) (sT := sT) (sD := sD) (cO := cO) (kT := upd kT (m * 4 + j) 2) (kD := kD) (o := (gc (x * 4 + j), ge (x * 4 + j))) (w := w) (congrArg gc e4) (congrArg ge e4) (ek.trans ew.symm) lk hy (by omega) hv ?_
        have e5 : (nI v).toNatClampNeg = v := nI_clamp (by omega)
        have iv : vp_in (nI v) 1600 := vp_in_nI hv (by omega)
        have e6 : upd (upd kT (m * 4 + j) 2) (nI m * 4 + nI j).toNatClampNeg (upd tg v w.1 (nI v).toNatClampNeg) = upd (upd kT (m * 4 + j) 2) (m * 4 + j) w.1 := by rw [e2, e5, pk_us]
        have e7 : upd kD (nI m * 4 + nI j).toNatClampNeg (upd dt v w.2 (nI v).toNatClampNeg) = upd kD (m * 4 + j) w.2 := by rw [e2, e5, pk_us]
        exact nm_r (nI_pred v) (And.intro iv (And.intro i1 (nm_r e6 (And.intro iv (And.intro i1 (nm_r e7 (nm_r (nI_1 j) (q4 post hp))))))))
end
end
section
/-! the component's run: one instruction, the rest -/
section
variable {p : cc_TP} {t : cc_TT} {f : cc_TF} {sz pd : Int32} {cd ex ey gc ge pf : Nat → Int32} {k en : Int32} {tg dt bk rn ag ad sT sD cO kT kD : Nat → Int32} {y v m a : Nat}
theorem cc_mc {x : Nat} (hx : x < 24) (hy : y < 61) (hm : m < 736) (hv : v < 1600) (hg : ∀ j, j < 4 → gc (x * 4 + j) < 0 ∨ cc_lok y m rn (gc (x * 4 + j), ge (x * 4 + j))) :
    ∃ tg' dt' kT' kD', ((∀ i, i < v → tg' i = tg i ∧ dt' i = dt i) ∧ (∀ i, i < m * 4 → kT' i = kT i ∧ kD' i = kD i) ∧ (∀ i, i < 4 → gc (x * 4 + i) < 0 ∨ (kT' (m * 4 + i), kD' (m * 4 + i)) = cc_ld y rn ag ad sT sD kT kD (gc (x * 4 + i), ge (x * 4 + i)))) ∧
      ∀ post : SX → Prop, post (cc_xs p (sz, pd, cd, ex, ey, gc, ge, pf) t f (nI (v + 1), nI (y + 1), nI (m + 1), k, en, upd tg' v 1, upd dt' v (nI m), bk, rn, ag, ad, sT, sD, upd cO m (nI x), kT', kD')) → wpX_makeClosure post (cc_xs p (sz, pd, cd, ex, ey, gc, ge, pf) t f (nI v, nI (y + 1), nI m, k, en, tg, dt, bk, rn, ag, ad, sT, sD, cO, kT, kD)) (nI x) := by
  obtain ⟨tg', dt', kT', kD', ⟨q1, q2, q3⟩, q4⟩ := cc_mcl (p := p) (t := t) (f := f) (sz := sz) (pd := pd) (cd := cd) (ex := ex) (ey := ey) (gc := gc) (ge := ge) (pf := pf) (k := k) (en := en) (bk := bk) (rn := rn) (ag := ag) (ad := ad) (sT := sT) (sD := sD) (cO := upd cO m (nI x)) hx hy hm hv hg 4 0 tg dt kT kD (by omega)
  refine ⟨tg', dt', kT', kD', ⟨q1, fun i hi => q2 i (by omega), fun i hi => q3 i (by omega) hi⟩, fun post hp => ?_⟩
  have e1 : (nI m).toNatClampNeg = m := nI_clamp (by omega)
  exact nm_r (nI_1 m) (And.intro (vp_in_nI hm (by omega)) (nm_r (cc_u cO e1 (nI x)) ⟨5, q4 post hp⟩))
theorem cc_calc {post : SX → Prop} {q : Nat} {c : cc_TC} {mm : Int32} {yy : Int32} (hv : v + 2 ≤ 1600) (h1 : tg v = 0) (h2 : tg (v + 1) = 0) (hp : post (cc_xs p c t f (nI (v + 1), yy, mm, k, en, upd tg v 0, upd dt v (cc_op (nI q) (dt v) (dt (v + 1))), bk, rn, ag, ad, sT, sD, cO, kT, kD))) : wpX_calculate post (cc_xs p c t f (nI (v + 2), yy, mm, k, en, tg, dt, bk, rn, ag, ad, sT, sD, cO, kT, kD)) (nI q) := by
  have e0 : nI (v + 2) - 2 = nI v := by rw [show (2 : Int32) = nI 2 from rfl, pk_sub (by omega)]; rfl
  have e1 : (nI v).toNatClampNeg = v := nI_clamp (by omega)
  have e2 : (nI v + 1).toNatClampNeg = v + 1 := by rw [nI_1]; exact nI_clamp (by omega)
  have i1 : vp_in (nI v) 1600 := vp_in_nI (by omega) (by omega)
  have i2 : vp_in (nI v + 1) 1600 := by rw [nI_1]; exact vp_in_nI (by omega) (by omega)
  have t1 : tg (nI v).toNatClampNeg = 0 := by rw [e1]; exact h1
  have t2 : tg (nI v + 1).toNatClampNeg = 0 := by rw [e2]; exact h2
  refine nm_r (e' := nI v) e0 (And.intro i1 (br_t t1 (And.intro i2 (br_t t2 (And.intro i1 (And.intro i2 ?_))))))
  have Z : ∀ w, w = cc_op (nI q) (dt v) (dt (v + 1)) → wpX_push post (cc_xs p c t f (nI v, yy, mm, k, en, tg, dt, bk, rn, ag, ad, sT, sD, cO, kT, kD)) 0 w := by
    intro w hw
    rw [hw]
    exact cc_push (p := p) (c := c) (t := t) (f := f) (by omega) hp
  have d1 : dt (nI v).toNatClampNeg = dt v := by rw [e1]
  have d2 : dt (nI v + 1).toNatClampNeg = dt (v + 1) := by rw [e2]
  show wpX_combined _ _ (nI q) (dt (nI v).toNatClampNeg) (dt (nI v + 1).toNatClampNeg)
  rw [d1, d2]
  unfold cc_op at Z
  by_cases q0 : nI q = 0
  · simp only [if_pos q0] at Z
    exact br_t q0 (Z _ rfl)
  · simp only [if_neg q0] at Z
    by_cases q1 : nI q = 1
    · simp only [if_pos q1] at Z
      exact br_f q0 (br_t q1 (Z _ rfl))
    · simp only [if_neg q1] at Z
      by_cases q2 : nI q = 2
      · simp only [if_pos q2] at Z
        exact br_f q0 (br_f q1 (br_t q2 (Z _ rfl)))
      · simp only [if_neg q2] at Z
        by_cases q3 : dt (v + 1) ≤ dt v
        · simp only [if_pos q3] at Z
          exact br_f q0 (br_f q1 (br_f q2 (br_t q3 (Z _ rfl))))
        · simp only [if_neg q3] at Z
          exact br_f q0 (br_f q1 (br_f q2 (br_f q3 (Z _ rfl))))
theorem cc_calc2 {post : SX → Prop} {w : Int32} {c : cc_TC} {mm : Int32} {yy : Int32} (hv : v + 2 ≤ 1600) (h1 : ¬ (tg v = 0 ∧ tg (v + 1) = 0)) (hp : post (cc_xs p c t f (nI v, yy, mm, k, 2, tg, dt, bk, rn, ag, ad, sT, sD, cO, kT, kD))) : wpX_calculate post (cc_xs p c t f (nI (v + 2), yy, mm, k, en, tg, dt, bk, rn, ag, ad, sT, sD, cO, kT, kD)) w := by
  have e0 : nI (v + 2) - 2 = nI v := by rw [show (2 : Int32) = nI 2 from rfl, pk_sub (by omega)]; rfl
  have e1 : (nI v).toNatClampNeg = v := nI_clamp (by omega)
  have e2 : (nI v + 1).toNatClampNeg = v + 1 := by rw [nI_1]; exact nI_clamp (by omega)
  have i1 : vp_in (nI v) 1600 := vp_in_nI (by omega) (by omega)
  have i2 : vp_in (nI v + 1) 1600 := by rw [nI_1]; exact vp_in_nI (by omega) (by omega)
  refine nm_r (e' := nI v) e0 (And.intro i1 ?_)
  by_cases t1 : tg (nI v).toNatClampNeg = 0
  · have t2 : ¬ tg (nI v + 1).toNatClampNeg = 0 := fun t2 => h1 ⟨by rw [← e1]; exact t1, by rw [← e2]; exact t2⟩
    exact br_t t1 (And.intro i2 (br_f t2 hp))
  · exact br_f t1 hp
theorem cc_call {post : Int32 → SX → Prop} {d g K : Nat} {a' : Int32} {mm : Int32} (hv : v + 2 ≤ 1600) (hy : y + 1 < 61) (hK : K ≠ 60) (hK2 : K < 100) (hd : d < 736) (hg : g < 24) (h1 : tg v = 1) (h2 : dt v = nI d) (h3 : cO d = nI g) (hp : post (ey g) (cc_xs p (sz, pd, cd, ex, ey, gc, ge, pf) t f (nI v, nI (y + 2), mm, nI (K + 1), en, tg, dt, upd bk (y + 1) a', upd rn (y + 1) (nI d), upd ag (y + 1) (tg (v + 1)), upd ad (y + 1) (dt (v + 1)), sT, sD, cO, kT, kD))) : wpX_call post (cc_xs p (sz, pd, cd, ex, ey, gc, ge, pf) t f (nI (v + 2), nI (y + 1), mm, nI K, en, tg, dt, bk, rn, ag, ad, sT, sD, cO, kT, kD)) a' := by
  have e0 : nI (v + 2) - 2 = nI v := by rw [show (2 : Int32) = nI 2 from rfl, pk_sub (by omega)]; rfl
  have e1 : (nI v).toNatClampNeg = v := nI_clamp (by omega)
  have e2 : (nI v + 1).toNatClampNeg = v + 1 := by rw [nI_1]; exact nI_clamp (by omega)
  have e3 : (nI (y + 1)).toNatClampNeg = y + 1 := nI_clamp (by omega)
  have i1 : vp_in (nI v) 1600 := vp_in_nI (by omega) (by omega)
  have i2 : vp_in (nI v + 1) 1600 := by rw [nI_1]; exact vp_in_nI (by omega) (by omega)
  have i3 : vp_in (nI (y + 1)) 61 := vp_in_nI hy (by omega)
  have t1 : tg (nI v).toNatClampNeg = 1 := by rw [e1]; exact h1
  have d1 : dt (nI v).toNatClampNeg = nI d := by rw [e1]; exact h2
  have k60 : ¬ nI K = 60 := fun q => hK ((nI_eq (b := 60) (by omega) (by omega)).mp q)
  have i4 : vp_in (nI d) 736 := vp_in_nI hd (by omega)
  have e4 : (nI d).toNatClampNeg = d := nI_clamp (by omega)
  have c1 : cO (nI d).toNatClampNeg = nI g := by rw [e4]; exact h3
  have i5 : vp_in (cO (nI d).toNatClampNeg) 24 := by rw [c1]; exact vp_in_nI hg (by omega)
  have c2 : ey (cO (nI d).toNatClampNeg).toNatClampNeg = ey g := by rw [c1, nI_clamp (by omega)]
  have b3 : upd ag (nI (y + 1)).toNatClampNeg (tg (nI v + 1).toNatClampNeg) = upd ag (y + 1) (tg (v + 1)) := by rw [e3, e2]
  have b4 : upd ad (nI (y + 1)).toNatClampNeg (dt (nI v + 1).toNatClampNeg) = upd ad (y + 1) (dt (v + 1)) := by rw [e3, e2]
  refine nm_r (e' := nI v) e0 (And.intro i1 (br_t t1 (br_f k60 (nm_r (e' := nI (K + 1)) (nI_1 K) (And.intro i1 (nm_r (e' := nI d) d1 (And.intro i3 (nm_r (cc_u bk e3 a') (And.intro i3 (nm_r (cc_u rn e3 (nI d)) (And.intro i2 (And.intro i3 (nm_r b3 (And.intro i2 (And.intro i3 (nm_r b4 (nm_r (e' := nI (y + 2)) (nI_1 (y + 1)) (And.intro i4 (And.intro i5 ?_)))))))))))))))))))
  show post (ey (cO (nI d).toNatClampNeg).toNatClampNeg) _
  rw [c2]
  exact hp
theorem cc_call2 {post : Int32 → SX → Prop} {a' : Int32} {mm yy : Int32} (hv : v + 2 ≤ 1600) (h1 : ¬ tg v = 1) (hp : post a' (cc_xs p (sz, pd, cd, ex, ey, gc, ge, pf) t f (nI v, yy, mm, k, 2, tg, dt, bk, rn, ag, ad, sT, sD, cO, kT, kD))) : wpX_call post (cc_xs p (sz, pd, cd, ex, ey, gc, ge, pf) t f (nI (v + 2), yy, mm, k, en, tg, dt, bk, rn, ag, ad, sT, sD, cO, kT, kD)) a' := by
  have e0 : nI (v + 2) - 2 = nI v := by rw [show (2 : Int32) = nI 2 from rfl, pk_sub (by omega)]; rfl
  have e1 : (nI v).toNatClampNeg = v := nI_clamp (by omega)
  have i1 : vp_in (nI v) 1600 := vp_in_nI (by omega) (by omega)
  have t1 : ¬ tg (nI v).toNatClampNeg = 1 := by rw [e1]; exact h1
  exact nm_r (e' := nI v) e0 (And.intro i1 (br_f t1 hp))
theorem cc_call3 {post : Int32 → SX → Prop} {a' : Int32} {mm yy : Int32} (hv : v + 2 ≤ 1600) (h1 : tg v = 1) (hp : post a' (cc_xs p (sz, pd, cd, ex, ey, gc, ge, pf) t f (nI v, yy, mm, nI 60, 3, tg, dt, bk, rn, ag, ad, sT, sD, cO, kT, kD))) : wpX_call post (cc_xs p (sz, pd, cd, ex, ey, gc, ge, pf) t f (nI (v + 2), yy, mm, nI 60, en, tg, dt, bk, rn, ag, ad, sT, sD, cO, kT, kD)) a' := by
  have e0 : nI (v + 2) - 2 = nI v := by rw [show (2 : Int32) = nI 2 from rfl, pk_sub (by omega)]; rfl
  have e1 : (nI v).toNatClampNeg = v := nI_clamp (by omega)
  have i1 : vp_in (nI v) 1600 := vp_in_nI (by omega) (by omega)
  have t1 : tg (nI v).toNatClampNeg = 1 := by rw [e1]; exact h1
  exact nm_r (e' := nI v) e0 (And.intro i1 (br_t t1 (br_t (show nI 60 = 60 from rfl) hp)))
theorem cc_store {post : SX → Prop} {s : Nat} {mm : Int32} {c : cc_TC} (hv : v < 1600) (hy : y < 61) (hs : s < 11) (hp : post (cc_xs p c t f (nI v, nI (y + 1), mm, k, en, tg, dt, bk, rn, ag, ad, upd sT (y * 11 + s) (tg v), upd sD (y * 11 + s) (dt v), cO, kT, kD))) : wpX_store post (cc_xs p c t f (nI (v + 1), nI (y + 1), mm, k, en, tg, dt, bk, rn, ag, ad, sT, sD, cO, kT, kD)) (nI s) := by
  have e1 : (nI v).toNatClampNeg = v := nI_clamp (by omega)
  have i1 : vp_in (nI v) 1600 := vp_in_nI (by omega) (by omega)
  have e2 : nI y * 11 + nI s = nI (y * 11 + s) := cc_ix11 y s
  have i2 : vp_in (nI y * 11 + nI s) 671 := by rw [e2]; exact vp_in_nI (by omega) (by omega)
  have b1 : upd sT (nI y * 11 + nI s).toNatClampNeg (tg (nI v).toNatClampNeg) = upd sT (y * 11 + s) (tg v) := by rw [e2, nI_clamp (by omega), e1]
  have b2 : upd sD (nI y * 11 + nI s).toNatClampNeg (dt (nI v).toNatClampNeg) = upd sD (y * 11 + s) (dt v) := by rw [e2, nI_clamp (by omega), e1]
  exact nm_r (e' := nI v) (nI_pred v) (nm_r (e' := nI y) (nI_pred y) (And.intro i1 (And.intro i2 (nm_r b1 (And.intro i1 (And.intro i2 (nm_r b2 hp)))))))
theorem cc_jz {post : Int32 → SX → Prop} {yy mm : Int32} (hv : v < 1600) (ha : a < 128) (hp : post (if dt v = 0 then ex a else nI (a + 1)) (cc_xs p (sz, pd, cd, ex, ey, gc, ge, pf) t f (nI v, yy, mm, k, (if tg v = 0 then en else 2), tg, dt, bk, rn, ag, ad, sT, sD, cO, kT, kD))) : wpX_jumpZero post (cc_xs p (sz, pd, cd, ex, ey, gc, ge, pf) t f (nI (v + 1), yy, mm, k, en, tg, dt, bk, rn, ag, ad, sT, sD, cO, kT, kD)) (nI a) := by
  have e1 : (nI v).toNatClampNeg = v := nI_clamp (by omega)
  have i1 : vp_in (nI v) 1600 := vp_in_nI (by omega) (by omega)
  have e2 : (nI a).toNatClampNeg = a := nI_clamp (by omega)
  have i2 : vp_in (nI a) 128 := vp_in_nI ha (by omega)
  refine nm_r (e' := nI v) (nI_pred v) (And.intro i1 ?_)
  by_cases t1 : tg (nI v).toNatClampNeg = 0
  · have t1' : tg v = 0 := by rw [← e1]; exact t1
    rw [if_pos t1'] at hp
    refine br_t t1 (And.intro i1 ?_)
    by_cases z1 : dt (nI v).toNatClampNeg = 0
    · have z1' : dt v = 0 := by rw [← e1]; exact z1
      rw [if_pos z1', ← e2] at hp
      rw [e2] at hp
      exact br_t z1 (And.intro i2 (by show post (ex (nI a).toNatClampNeg) _; rw [e2]; exact hp))
    · have z1' : ¬ dt v = 0 := by rw [← e1]; exact z1
      rw [if_neg z1', ← nI_1] at hp
      exact br_f z1 hp
  · have t1' : ¬ tg v = 0 := by rw [← e1]; exact t1
    rw [if_neg t1'] at hp
    refine br_f t1 (And.intro i1 ?_)
    by_cases z1 : dt (nI v).toNatClampNeg = 0
    · have z1' : dt v = 0 := by rw [← e1]; exact z1
      rw [if_pos z1'] at hp
      exact br_t z1 (And.intro i2 (by show post (ex (nI a).toNatClampNeg) _; rw [e2]; exact hp))
    · have z1' : ¬ dt v = 0 := by rw [← e1]; exact z1
      rw [if_neg z1', ← nI_1] at hp
      exact br_f z1 hp
end
end
section
/-! the component's run: reaching, instruction by instruction -/
def cc_LX (post : SX → Prop) (n : Nat) (a i : Int32) (u : SX) : Prop := wX_execute_58 post n a i u.1 u.2.1 u.2.2.1 u.2.2.2.1 u.2.2.2.2.1 u.2.2.2.2.2.1 u.2.2.2.2.2.2.1 u.2.2.2.2.2.2.2.1 u.2.2.2.2.2.2.2.2.1 u.2.2.2.2.2.2.2.2.2.1 u.2.2.2.2.2.2.2.2.2.2.1 u.2.2.2.2.2.2.2.2.2.2.2.1 u.2.2.2.2.2.2.2.2.2.2.2.2.1 u.2.2.2.2.2.2.2.2.2.2.2.2.2.1 u.2.2.2.2.2.2.2.2.2.2.2.2.2.2.1 u.2.2.2.2.2.2.2.2.2.2.2.2.2.2.2.1 u.2.2.2.2.2.2.2.2.2.2.2.2.2.2.2.2.1 u.2.2.2.2.2.2.2.2.2.2.2.2.2.2.2.2.2.1 u.2.2.2.2.2.2.2.2.2.2.2.2.2.2.2.2.2.2.1 u.2.2.2.2.2.2.2.2.2.2.2.2.2.2.2.2.2.2.2.1 u.2.2.2.2.2.2.2.2.2.2.2.2.2.2.2.2.2.2.2.2.1 u.2.2.2.2.2.2.2.2.2.2.2.2.2.2.2.2.2.2.2.2.2.1 u.2.2.2.2.2.2.2.2.2.2.2.2.2.2.2.2.2.2.2.2.2.2.1 u.2.2.2.2.2.2.2.2.2.2.2.2.2.2.2.2.2.2.2.2.2.2.2.1 u.2.2.2.2.2.2.2.2.2.2.2.2.2.2.2.2.2.2.2.2.2.2.2.2.1 u.2.2.2.2.2.2.2.2.2.2.2.2.2.2.2.2.2.2.2.2.2.2.2.2.2.1 u.2.2.2.2.2.2.2.2.2.2.2.2.2.2.2.2.2.2.2.2.2.2.2.2.2.2.1 u.2.2.2.2.2.2.2.2.2.2.2.2.2.2.2.2.2.2.2.2.2.2.2.2.2.2.2.1 u.2.2.2.2.2.2.2.2.2.2.2.2.2.2.2.2.2.2.2.2.2.2.2.2.2.2.2.2.1 u.2.2.2.2.2.2.2.2.2.2.2.2.2.2.2.2.2.2.2.2.2.2.2.2.2.2.2.2.2.1 u.2.2.2.2.2.2.2.2.2.2.2.2.2.2.2.2.2.2.2.2.2.2.2.2.2.2.2.2.2.2.1 u.2.2.2.2.2.2.2.2.2.2.2.2.2.2.2.2.2.2.2.2.2.2.2.2.2.2.2.2.2.2.2.1 u.2.2.2.2.2.2.2.2.2.2.2.2.2.2.2.2.2.2.2.2.2.2.2.2.2.2.2.2.2.2.2.2.1 u.2.2.2.2.2.2.2.2.2.2.2.2.2.2.2.2.2.2.2.2.2.2.2.2.2.2.2.2.2.2.2.2.2.1 u.2.2.2.2.2.2.2.2.2.2.2.2.2.2.2.2.2.2.2.2.2.2.2.2.2.2.2.2.2.2.2.2.2.2.1 u.2.2.2.2.2.2.2.2.2.2.2.2.2.2.2.2.2.2.2.2.2.2.2.2.2.2.2.2.2.2.2.2.2.2.2.1 u.2.2.2.2.2.2.2.2.2.2.2.2.2.2.2.2.2.2.2.2.2.2.2.2.2.2.2.2.2.2.2.2.2.2.2.2.1 u.2.2.2.2.2.2.2.2.2.2.2.2.2.2.2.2.2.2.2.2.2.2.2.2.2.2.2.2.2.2.2.2.2.2.2.2.2.1 u.2.2.2.2.2.2.2.2.2.2.2.2.2.2.2.2.2.2.2.2.2.2.2.2.2.2.2.2.2.2.2.2.2.2.2.2.2.2.1 u.2.2.2.2.2.2.2.2.2.2.2.2.2.2.2.2.2.2.2.2.2.2.2.2.2.2.2.2.2.2.2.2.2.2.2.2.2.2.2.1 u.2.2.2.2.2.2.2.2.2.2.2.2.2.2.2.2.2.2.2.2.2.2.2.2.2.2.2.2.2.2.2.2.2.2.2.2.2.2.2.2
def cc_RX (a i : Nat) (u : SX) (a' i' : Nat) (u' : SX) : Prop := ∃ k, i' = i + k ∧ ∀ (post : SX → Prop) (n : Nat), cc_LX post n (nI a') (nI i') u' → cc_LX post (n + k) (nI a) (nI i) u
theorem cc_RX_0 {a i : Nat} {u : SX} : cc_RX a i u a i u := ⟨0, rfl, fun _ _ h => h⟩
theorem cc_RX_t {a i a1 i1 a2 i2 : Nat} {u u1 u2 : SX} (h : cc_RX a i u a1 i1 u1) (h' : cc_RX a1 i1 u1 a2 i2 u2) : cc_RX a i u a2 i2 u2 := by
  obtain ⟨k, e, f⟩ := h
  obtain ⟨k', e', f'⟩ := h'
  refine ⟨k' + k, by omega, fun post n q => ?_⟩
  rw [← Nat.add_assoc]
  exact f post (n + k') (f' post n q)
theorem cc_RX_1 {a i a' : Nat} {p p' : cc_TP} {c c' : cc_TC} {t t' : cc_TT} {f f' : cc_TF} {r' : cc_TR} {v y m k : Int32} {tg dt bk rn ag ad sT sD cO kT kD : Nat → Int32} (hi : i < 8000) (h : ∀ post : Int32 → SX → Prop, post (nI a') (cc_xs p' c' t' f' r') → wpX_step post (cc_xs p c t f (v, y, m, k, -1, tg, dt, bk, rn, ag, ad, sT, sD, cO, kT, kD)) (nI a)) : cc_RX a i (cc_xs p c t f (v, y, m, k, -1, tg, dt, bk, rn, ag, ad, sT, sD, cO, kT, kD)) a' (i + 1) (cc_xs p' c' t' f' r') := by
  refine ⟨1, rfl, fun post n hL => br_f (nI_ge (b := 8000) (by omega) (by omega)) (br_f (show ¬ (0 : Int32) ≤ -1 by decide) (h _ ?_))⟩
  exact nm_r (nI_1 i) hL
theorem cc_LX_e {post : SX → Prop} {a : Int32} {i n : Nat} {p : cc_TP} {c : cc_TC} {t : cc_TT} {f : cc_TF} {v y m k en : Int32} {tg dt bk rn ag ad sT sD cO kT kD : Nat → Int32} (hi : i < 8000) (he : 0 ≤ en) (h : post (cc_xs p c t f (v, y, m, k, en, tg, dt, bk, rn, ag, ad, sT, sD, cO, kT, kD))) : cc_LX post (n + 1) a (nI i) (cc_xs p c t f (v, y, m, k, en, tg, dt, bk, rn, ag, ad, sT, sD, cO, kT, kD)) :=
  br_f (nI_ge (b := 8000) (by omega) (by omega)) (br_t he h)
section
variable {p : cc_TP} {t : cc_TT} {f : cc_TF} {sz pd : Int32} {cd ex ey gc ge pf : Nat → Int32} {k : Int32} {tg dt bk rn ag ad sT sD cO kT kD : Nat → Int32} {y v m a i : Nat}
theorem cc_x_load {o : Int32 × Int32} (hi : i < 8000) (ha : a < 128) (hc : cd a = o.1) (he : ex a = o.2) (ho : cc_lok y m rn o) (hy : y < 61) (hM : m ≤ 736) (hv : v < 1600) : cc_RX a i (cc_xs p (sz, pd, cd, ex, ey, gc, ge, pf) t f (nI v, nI (y + 1), nI m, k, -1, tg, dt, bk, rn, ag, ad, sT, sD, cO, kT, kD)) (a + 1) (i + 1) (cc_xs p (sz, pd, cd, ex, ey, gc, ge, pf) t f (nI (v + 1), nI (y + 1), nI m, k, (if (cc_ld y rn ag ad sT sD kT kD o).1 = 2 then 2 else -1), upd tg v (cc_ld y rn ag ad sT sD kT kD o).1, upd dt v (cc_ld y rn ag ad sT sD kT kD o).2, bk, rn, ag, ad, sT, sD, cO, kT, kD)) := by
  refine cc_RX_1 hi (fun post hp => ?_)
  have ia : vp_in (nI a) 128 := vp_in_nI ha (by omega)
  have ea : (nI a).toNatClampNeg = a := nI_clamp (by omega)
  have ec : cd (nI a).toNatClampNeg = o.1 := by rw [ea]; exact hc
  have ee : ex (nI a).toNatClampNeg = o.2 := by rw [ea]; exact he
  have ⟨n1, n2, n3, n4, n5, n6, n7⟩ := cc_lok_c ho
  rw [← nI_1] at hp
  refine And.intro ia (nm_r ec (br_t n1 (br_f n2 (br_f n3 (br_f n4 (br_f n5 (br_f n6 (br_f n7 (And.intro ia ?_)))))))))
  show wpX_loadName _ _ o.1 (ex (nI a).toNatClampNeg)
  rw [ee]
  exact cc_lname (p := p) (c := (sz, pd, cd, ex, ey, gc, ge, pf)) (t := t) (f := f) (m := nI m) (k := k) (en := -1) (tg := tg) (dt := dt) (bk := bk) (rn := rn) (ag := ag) (ad := ad) (sT := sT) (sD := sD) (cO := cO) (kT := kT) (kD := kD) (y := y) (v := v) ho hy hM hv hp
theorem cc_x_op {q : Nat} (hi : i < 8000) (ha : a < 128) (hq : q < 4) (hc : cd a = nI q) (hv : v + 2 ≤ 1600) (h1 : tg v = 0) (h2 : tg (v + 1) = 0) {yy mm : Int32} : cc_RX a i (cc_xs p (sz, pd, cd, ex, ey, gc, ge, pf) t f (nI (v + 2), yy, mm, k, -1, tg, dt, bk, rn, ag, ad, sT, sD, cO, kT, kD)) (a + 1) (i + 1) (cc_xs p (sz, pd, cd, ex, ey, gc, ge, pf) t f (nI (v + 1), yy, mm, k, -1, upd tg v 0, upd dt v (cc_op (nI q) (dt v) (dt (v + 1))), bk, rn, ag, ad, sT, sD, cO, kT, kD)) := by
  refine cc_RX_1 hi (fun post hp => ?_)
  have ia : vp_in (nI a) 128 := vp_in_nI ha (by omega)
  have ea : (nI a).toNatClampNeg = a := nI_clamp (by omega)
  have ec : cd (nI a).toNatClampNeg = nI q := by rw [ea]; exact hc
  rw [← nI_1] at hp
  exact And.intro ia (nm_r ec (br_f (nI_ge (b := 4) (by omega) (by omega)) (cc_calc (p := p) (c := (sz, pd, cd, ex, ey, gc, ge, pf)) (t := t) (f := f) hv h1 h2 hp)))
theorem cc_x_op2 {q : Nat} (hi : i < 8000) (ha : a < 128) (hq : q < 4) (hc : cd a = nI q) (hv : v + 2 ≤ 1600) (h1 : ¬ (tg v = 0 ∧ tg (v + 1) = 0)) {yy mm : Int32} : cc_RX a i (cc_xs p (sz, pd, cd, ex, ey, gc, ge, pf) t f (nI (v + 2), yy, mm, k, -1, tg, dt, bk, rn, ag, ad, sT, sD, cO, kT, kD)) (a + 1) (i + 1) (cc_xs p (sz, pd, cd, ex, ey, gc, ge, pf) t f (nI v, yy, mm, k, 2, tg, dt, bk, rn, ag, ad, sT, sD, cO, kT, kD)) := by
  refine cc_RX_1 hi (fun post hp => ?_)
  have ia : vp_in (nI a) 128 := vp_in_nI ha (by omega)
  have ea : (nI a).toNatClampNeg = a := nI_clamp (by omega)
  have ec : cd (nI a).toNatClampNeg = nI q := by rw [ea]; exact hc
  rw [← nI_1] at hp
  exact And.intro ia (nm_r ec (br_f (nI_ge (b := 4) (by omega) (by omega)) (cc_calc2 (p := p) (c := (sz, pd, cd, ex, ey, gc, ge, pf)) (t := t) (f := f) (en := -1) hv h1 hp)))
theorem cc_x_call {d g K b : Nat} {mm : Int32} (hi : i < 8000) (ha : a < 128) (hc : cd a = 4) (hv : v + 2 ≤ 1600) (hy : y + 1 < 61) (hK : K ≠ 60) (hK2 : K < 100) (hd : d < 736) (hg : g < 24) (h1 : tg v = 1) (h2 : dt v = nI d) (h3 : cO d = nI g) (h4 : ey g = nI b) : cc_RX a i (cc_xs p (sz, pd, cd, ex, ey, gc, ge, pf) t f (nI (v + 2), nI (y + 1), mm, nI K, -1, tg, dt, bk, rn, ag, ad, sT, sD, cO, kT, kD)) b (i + 1) (cc_xs p (sz, pd, cd, ex, ey, gc, ge, pf) t f (nI v, nI (y + 2), mm, nI (K + 1), -1, tg, dt, upd bk (y + 1) (nI (a + 1)), upd rn (y + 1) (nI d), upd ag (y + 1) (tg (v + 1)), upd ad (y + 1) (dt (v + 1)), sT, sD, cO, kT, kD)) := by
  refine cc_RX_1 hi (fun post hp => ?_)
  have ia : vp_in (nI a) 128 := vp_in_nI ha (by omega)
  have ea : (nI a).toNatClampNeg = a := nI_clamp (by omega)
  have ec : cd (nI a).toNatClampNeg = 4 := by rw [ea]; exact hc
  rw [← h4] at hp
  refine And.intro ia (nm_r ec (br_t (by decide) (br_t rfl ?_)))
  show wpX_call _ _ (nI a + 1)
  rw [nI_1]
  exact cc_call (p := p) (t := t) (f := f) (sz := sz) (pd := pd) (cd := cd) (ex := ex) (ey := ey) (gc := gc) (ge := ge) (pf := pf) (en := -1) (tg := tg) (dt := dt) (bk := bk) (rn := rn) (ag := ag) (ad := ad) (sT := sT) (sD := sD) (cO := cO) (kT := kT) (kD := kD) (mm := mm) hv hy hK hK2 hd hg h1 h2 h3 hp
theorem cc_x_call2 {yy mm : Int32} (hi : i < 8000) (ha : a < 128) (hc : cd a = 4) (hv : v + 2 ≤ 1600) (h1 : ¬ tg v = 1) : cc_RX a i (cc_xs p (sz, pd, cd, ex, ey, gc, ge, pf) t f (nI (v + 2), yy, mm, k, -1, tg, dt, bk, rn, ag, ad, sT, sD, cO, kT, kD)) (a + 1) (i + 1) (cc_xs p (sz, pd, cd, ex, ey, gc, ge, pf) t f (nI v, yy, mm, k, 2, tg, dt, bk, rn, ag, ad, sT, sD, cO, kT, kD)) := by
  refine cc_RX_1 hi (fun post hp => ?_)
  have ia : vp_in (nI a) 128 := vp_in_nI ha (by omega)
  have ea : (nI a).toNatClampNeg = a := nI_clamp (by omega)
  have ec : cd (nI a).toNatClampNeg = 4 := by rw [ea]; exact hc
  refine And.intro ia (nm_r ec (br_t (by decide) (br_t rfl ?_)))
  show wpX_call _ _ (nI a + 1)
  rw [nI_1]
  exact cc_call2 (p := p) (t := t) (f := f) (sz := sz) (pd := pd) (cd := cd) (ex := ex) (ey := ey) (gc := gc) (ge := ge) (pf := pf) (k := k) (en := -1) (tg := tg) (dt := dt) (bk := bk) (rn := rn) (ag := ag) (ad := ad) (sT := sT) (sD := sD) (cO := cO) (kT := kT) (kD := kD) (mm := mm) (yy := yy) hv h1 hp
theorem cc_x_call3 {yy mm : Int32} (hi : i < 8000) (ha : a < 128) (hc : cd a = 4) (hv : v + 2 ≤ 1600) (h1 : tg v = 1) : cc_RX a i (cc_xs p (sz, pd, cd, ex, ey, gc, ge, pf) t f (nI (v + 2), yy, mm, nI 60, -1, tg, dt, bk, rn, ag, ad, sT, sD, cO, kT, kD)) (a + 1) (i + 1) (cc_xs p (sz, pd, cd, ex, ey, gc, ge, pf) t f (nI v, yy, mm, nI 60, 3, tg, dt, bk, rn, ag, ad, sT, sD, cO, kT, kD)) := by
  refine cc_RX_1 hi (fun post hp => ?_)
  have ia : vp_in (nI a) 128 := vp_in_nI ha (by omega)
  have ea : (nI a).toNatClampNeg = a := nI_clamp (by omega)
  have ec : cd (nI a).toNatClampNeg = 4 := by rw [ea]; exact hc
  refine And.intro ia (nm_r ec (br_t (by decide) (br_t rfl ?_)))
  show wpX_call _ _ (nI a + 1)
  rw [nI_1]
  exact cc_call3 (p := p) (t := t) (f := f) (sz := sz) (pd := pd) (cd := cd) (ex := ex) (ey := ey) (gc := gc) (ge := ge) (pf := pf) (en := -1) (tg := tg) (dt := dt) (bk := bk) (rn := rn) (ag := ag) (ad := ad) (sT := sT) (sD := sD) (cO := cO) (kT := kT) (kD := kD) (mm := mm) (yy := yy) hv h1 hp
theorem cc_x_store {s : Nat} {mm : Int32} (hi : i < 8000) (ha : a < 128) (hc : cd a = 16) (he : ex a = nI s) (hv : v < 1600) (hy : y < 61) (hs : s < 11) : cc_RX a i (cc_xs p (sz, pd, cd, ex, ey, gc, ge, pf) t f (nI (v + 1), nI (y + 1), mm, k, -1, tg, dt, bk, rn, ag, ad, sT, sD, cO, kT, kD)) (a + 1) (i + 1) (cc_xs p (sz, pd, cd, ex, ey, gc, ge, pf) t f (nI v, nI (y + 1), mm, k, -1, tg, dt, bk, rn, ag, ad, upd sT (y * 11 + s) (tg v), upd sD (y * 11 + s) (dt v), cO, kT, kD)) := by
  refine cc_RX_1 hi (fun post hp => ?_)
  have ia : vp_in (nI a) 128 := vp_in_nI ha (by omega)
  have ea : (nI a).toNatClampNeg = a := nI_clamp (by omega)
  have ec : cd (nI a).toNatClampNeg = 16 := by rw [ea]; exact hc
  have ee : ex (nI a).toNatClampNeg = nI s := by rw [ea]; exact he
  rw [← nI_1] at hp
  refine And.intro ia (nm_r ec (br_t (by decide) (br_f (by decide) (br_t rfl (And.intro ia ?_)))))
  show wpX_store _ _ (ex (nI a).toNatClampNeg)
  rw [ee]
  exact cc_store (p := p) (c := (sz, pd, cd, ex, ey, gc, ge, pf)) (t := t) (f := f) (k := k) (en := -1) (tg := tg) (dt := dt) (bk := bk) (rn := rn) (ag := ag) (ad := ad) (sT := sT) (sD := sD) (cO := cO) (kT := kT) (kD := kD) (mm := mm) hv hy hs hp
theorem cc_x_make {x : Nat} (hi : i < 8000) (ha : a < 128) (hc : cd a = 17) (he : ex a = nI x) (hx : x < 24) (hy : y < 61) (hm : m < 736) (hv : v < 1600) (hg : ∀ j, j < 4 → gc (x * 4 + j) < 0 ∨ cc_lok y m rn (gc (x * 4 + j), ge (x * 4 + j))) :
    ∃ tg' dt' kT' kD', ((∀ i, i < v → tg' i = tg i ∧ dt' i = dt i) ∧ (∀ i, i < m * 4 → kT' i = kT i ∧ kD' i = kD i) ∧ (∀ i, i < 4 → gc (x * 4 + i) < 0 ∨ (kT' (m * 4 + i), kD' (m * 4 + i)) = cc_ld y rn ag ad sT sD kT kD (gc (x * 4 + i), ge (x * 4 + i)))) ∧
      cc_RX a i (cc_xs p (sz, pd, cd, ex, ey, gc, ge, pf) t f (nI v, nI (y + 1), nI m, k, -1, tg, dt, bk, rn, ag, ad, sT, sD, cO, kT, kD)) (a + 1) (i + 1) (cc_xs p (sz, pd, cd, ex, ey, gc, ge, pf) t f (nI (v + 1), nI (y + 1), nI (m + 1), k, -1, upd tg' v 1, upd dt' v (nI m), bk, rn, ag, ad, sT, sD, upd cO m (nI x), kT', kD')) := by
  obtain ⟨tg', dt', kT', kD', q1, q2⟩ := cc_mc (p := p) (t := t) (f := f) (sz := sz) (pd := pd) (cd := cd) (ex := ex) (ey := ey) (gc := gc) (ge := ge) (pf := pf) (k := k) (en := -1) (tg := tg) (dt := dt) (bk := bk) (rn := rn) (ag := ag) (ad := ad) (sT := sT) (sD := sD) (cO := cO) (kT := kT) (kD := kD) hx hy hm hv hg
  refine ⟨tg', dt', kT', kD', q1, cc_RX_1 hi (fun post hp => ?_)⟩
  have ia : vp_in (nI a) 128 := vp_in_nI ha (by omega)
  have ea : (nI a).toNatClampNeg = a := nI_clamp (by omega)
  have ec : cd (nI a).toNatClampNeg = 17 := by rw [ea]; exact hc
  have ee : ex (nI a).toNatClampNeg = nI x := by rw [ea]; exact he
  rw [← nI_1] at hp
  refine And.intro ia (nm_r ec (br_t (by decide) (br_f (by decide) (br_f (by decide) (br_t rfl (And.intro ia ?_))))))
  show wpX_makeClosure _ _ (ex (nI a).toNatClampNeg)
  rw [ee]
  exact q2 _ hp
theorem cc_x_jz {b : Nat} {yy mm : Int32} (hi : i < 8000) (ha : a < 128) (hc : cd a = 18) (he : ex a = nI b) (hv : v < 1600) : cc_RX a i (cc_xs p (sz, pd, cd, ex, ey, gc, ge, pf) t f (nI (v + 1), yy, mm, k, -1, tg, dt, bk, rn, ag, ad, sT, sD, cO, kT, kD)) (if dt v = 0 then b else a + 1) (i + 1) (cc_xs p (sz, pd, cd, ex, ey, gc, ge, pf) t f (nI v, yy, mm, k, (if tg v = 0 then -1 else 2), tg, dt, bk, rn, ag, ad, sT, sD, cO, kT, kD)) := by
  refine cc_RX_1 hi (fun post hp => ?_)
  have ia : vp_in (nI a) 128 := vp_in_nI ha (by omega)
  have ea : (nI a).toNatClampNeg = a := nI_clamp (by omega)
  have ec : cd (nI a).toNatClampNeg = 18 := by rw [ea]; exact hc
  have eb : nI (if dt v = 0 then b else a + 1) = (if dt v = 0 then ex a else nI (a + 1)) := by
    rw [he]
    by_cases q : dt v = 0
    · rw [if_pos q, if_pos q]
    · rw [if_neg q, if_neg q]
  rw [eb] at hp
  refine And.intro ia (nm_r ec (br_t (by decide) (br_f (by decide) (br_f (by decide) (br_f (by decide) (br_t rfl ?_))))))
  exact cc_jz (p := p) (t := t) (f := f) (sz := sz) (pd := pd) (cd := cd) (ex := ex) (ey := ey) (gc := gc) (ge := ge) (pf := pf) (k := k) (en := -1) (tg := tg) (dt := dt) (bk := bk) (rn := rn) (ag := ag) (ad := ad) (sT := sT) (sD := sD) (cO := cO) (kT := kT) (kD := kD) (mm := mm) (yy := yy) hv ha hp
theorem cc_x_jmp {b : Nat} {vv yy mm : Int32} (hi : i < 8000) (ha : a < 128) (hc : cd a = 19) (he : ex a = nI b) : cc_RX a i (cc_xs p (sz, pd, cd, ex, ey, gc, ge, pf) t f (vv, yy, mm, k, -1, tg, dt, bk, rn, ag, ad, sT, sD, cO, kT, kD)) b (i + 1) (cc_xs p (sz, pd, cd, ex, ey, gc, ge, pf) t f (vv, yy, mm, k, -1, tg, dt, bk, rn, ag, ad, sT, sD, cO, kT, kD)) := by
  refine cc_RX_1 hi (fun post hp => ?_)
  have ia : vp_in (nI a) 128 := vp_in_nI ha (by omega)
  have ea : (nI a).toNatClampNeg = a := nI_clamp (by omega)
  have ec : cd (nI a).toNatClampNeg = 19 := by rw [ea]; exact hc
  have ee : ex (nI a).toNatClampNeg = nI b := by rw [ea]; exact he
  refine And.intro ia (nm_r ec (br_t (by decide) (br_f (by decide) (br_f (by decide) (br_f (by decide) (br_f (by decide) (br_t rfl (And.intro ia ?_))))))))
  show post (ex (nI a).toNatClampNeg) _
  rw [ee]
  exact hp
theorem cc_x_ret {b : Nat} {vv mm : Int32} (hi : i < 8000) (ha : a < 128) (hy : y + 1 < 61) (hc : cd a = 20) (hb : bk (y + 1) = nI b) : cc_RX a i (cc_xs p (sz, pd, cd, ex, ey, gc, ge, pf) t f (vv, nI (y + 2), mm, k, -1, tg, dt, bk, rn, ag, ad, sT, sD, cO, kT, kD)) b (i + 1) (cc_xs p (sz, pd, cd, ex, ey, gc, ge, pf) t f (vv, nI (y + 1), mm, k, -1, tg, dt, bk, rn, ag, ad, sT, sD, cO, kT, kD)) := by
  refine cc_RX_1 hi (fun post hp => ?_)
  have ia : vp_in (nI a) 128 := vp_in_nI ha (by omega)
  have ea : (nI a).toNatClampNeg = a := nI_clamp (by omega)
  have ec : cd (nI a).toNatClampNeg = 20 := by rw [ea]; exact hc
  have e1 : (nI (y + 1)).toNatClampNeg = y + 1 := nI_clamp (by omega)
  have eb : bk (nI (y + 1)).toNatClampNeg = nI b := by rw [e1]; exact hb
  refine And.intro ia (nm_r ec (br_t (by decide) (br_f (by decide) (br_f (by decide) (br_f (by decide) (br_f (by decide) (br_f (by decide) (br_t rfl (nm_r (e' := nI (y + 1)) (nI_pred (y + 1)) (br_f (nI_ne0 (by omega) (by omega)) (And.intro (vp_in_nI hy (by omega)) ?_)))))))))))
  show post (bk (nI (y + 1)).toNatClampNeg) _
  rw [eb]
  exact hp
theorem cc_x_ret0 {b : Nat} {mm : Int32} (hi : i < 8000) (ha : a < 128) (hv : v < 1600) (hc : cd a = 20) (hb : bk 0 = nI b) : cc_RX a i (cc_xs p (sz, pd, cd, ex, ey, gc, ge, pf) t f (nI (v + 1), nI 1, mm, k, -1, tg, dt, bk, rn, ag, ad, sT, sD, cO, kT, kD)) b (i + 1) (cc_xs p (sz, pd, cd, ex, ey, gc, ge, pf) t f (nI (v + 1), nI 0, mm, k, tg v, tg, dt, bk, rn, ag, ad, sT, sD, cO, kT, kD)) := by
  refine cc_RX_1 hi (fun post hp => ?_)
  have ia : vp_in (nI a) 128 := vp_in_nI ha (by omega)
  have ea : (nI a).toNatClampNeg = a := nI_clamp (by omega)
  have ec : cd (nI a).toNatClampNeg = 20 := by rw [ea]; exact hc
  have e1 : nI (v + 1) - 1 = nI v := nI_pred v
  have iv : vp_in (nI (v + 1) - 1) 1600 := by rw [e1]; exact vp_in_nI hv (by omega)
  have et : tg (nI (v + 1) - 1).toNatClampNeg = tg v := by rw [e1, nI_clamp (by omega)]
  have eb : bk (nI 0).toNatClampNeg = nI b := by rw [nI_clamp (by omega)]; exact hb
  refine And.intro ia (nm_r ec (br_t (by decide) (br_f (by decide) (br_f (by decide) (br_f (by decide) (br_f (by decide) (br_f (by decide) (br_t rfl (nm_r (e' := nI 0) (nI_pred 0) (br_t (show nI 0 = 0 from rfl) (And.intro iv (nm_r (e' := tg v) et (And.intro (vp_in_nI (by omega) (by omega)) ?_)))))))))))))
  show post (bk (nI 0).toNatClampNeg) _
  rw [eb]
  exact hp
end
end
section
/-! the component's run against the evaluator: what is kept, what is held -/
abbrev cc_TA : Type := (Nat → Int32) × (Nat → Int32) × (Nat → Int32) × (Nat → Int32) × (Nat → Int32) × (Nat → Int32) × (Nat → Int32) × (Nat → Int32) × (Nat → Int32) × (Nat → Int32) × (Nat → Int32)
def cc_Kp (v y b m : Nat) (q q' : cc_TA) : Prop :=
  (∀ j, j < v → q'.1 j = q.1 j ∧ q'.2.1 j = q.2.1 j) ∧
  (∀ j, j < y + 1 → q'.2.2.1 j = q.2.2.1 j ∧ q'.2.2.2.1 j = q.2.2.2.1 j ∧ q'.2.2.2.2.1 j = q.2.2.2.2.1 j ∧ q'.2.2.2.2.2.1 j = q.2.2.2.2.2.1 j) ∧
  (∀ j, j < y * 11 + b → q'.2.2.2.2.2.2.1 j = q.2.2.2.2.2.2.1 j ∧ q'.2.2.2.2.2.2.2.1 j = q.2.2.2.2.2.2.2.1 j) ∧
  (∀ j, j < m → q'.2.2.2.2.2.2.2.2.1 j = q.2.2.2.2.2.2.2.2.1 j) ∧
  (∀ j, j < m * 4 → q'.2.2.2.2.2.2.2.2.2.1 j = q.2.2.2.2.2.2.2.2.2.1 j ∧ q'.2.2.2.2.2.2.2.2.2.2 j = q.2.2.2.2.2.2.2.2.2.2 j)
def cc_lq (y : Nat) (q : cc_TA) (o : Int32 × Int32 × Int32) : cc_V := cc_ld y q.2.2.2.1 q.2.2.2.2.1 q.2.2.2.2.2.1 q.2.2.2.2.2.2.1 q.2.2.2.2.2.2.2.1 q.2.2.2.2.2.2.2.2.2.1 q.2.2.2.2.2.2.2.2.2.2 (o.1, o.2.1)
/-- the closures of the store, in the component's arrays -/
def cc_XC (fr : Nat → Nat → Bool) (D : List Nat) (s : cc_S) (q : cc_TA) : Prop := ∀ c, c < s.2.1 → q.2.2.2.2.2.2.2.2.1 c = nI (s.2.2 c).1 ∧ (s.2.2 c).1 ∈ D ∧ ∀ v, v < 4 → fr (s.2.2 c).1 v = true → (q.2.2.2.2.2.2.2.2.2.1 (c * 4 + v), q.2.2.2.2.2.2.2.2.2.2 (c * 4 + v)) = (s.2.2 c).2 v
def cc_Fr (K N W P : Nat → Int32) (x y m : Nat) (q : cc_TA) : Prop := ∃ d, q.2.2.2.1 y = nI d ∧ ∀ v, v < 4 → (cc_lo K N W P v x).1 = 14 → d < m
def cc_En (K N W P : Nat → Int32) (fr : Nat → Nat → Bool) (x : Nat) (e : cc_E) (y : Nat) (q : cc_TA) : Prop := ∀ v, v < 4 → fr x v = true → e v = cc_lq y q (cc_lo K N W P v x)
def cc_SS (n : Nat) (K N W P : Nat → Int32) (A B C z : Nat → Nat) (fr : Nat → Nat → Bool) (D : List Nat) (cd ex ey gc ge : Nat → Int32) : Prop :=
  n ≤ 24 ∧ (∀ x, x < n → cc_Up n W x) ∧ (∀ x, x < n → cc_Nd K N W P A B C z fr x) ∧ (∀ f, f ∈ D → ∃ e, ey f = nI e ∧ cc_ca K N W P A B C cd ex (fun y => y ∈ D) (cc_Gt K N W P gc ge) (A f) e ∧ cd (e + cc_len K A B C (A f)) = 20 ∧ e + cc_len K A B C (A f) < 100) ∧ (∀ f v, f < 24 → v < 4 → gc (f * 4 + v) = -1 ∨ cc_Gt K N W P gc ge f v) ∧ (∀ f, f ∈ D → f < n ∧ K f = 7)
def cc_XH (n : Nat) (K N W P : Nat → Int32) (A B C z : Nat → Nat) (fr : Nat → Nat → Bool) (D : List Nat) (cd ex gc ge : Nat → Int32) (x : Nat) (e : cc_E) (s : cc_S) (a i v y : Nat) (q : cc_TA) : Prop :=
  (x < n ∧ z x ≤ 24 ∧ a + cc_len K A B C x < 128 ∧ y ≤ s.1 ∧ 2 * cc_b K W P x + z x ≤ 24 ∧ 2 * v + z x + 22 * (60 - s.1) ≤ 1345 ∧ i + 2 * z x + 50 * (60 - s.1) ≤ 7900 ∧ 2 * s.2.1 + z x + 24 * (60 - s.1) ≤ 1464) ∧
  cc_ca K N W P A B C cd ex (fun y => y ∈ D) (cc_Gt K N W P gc ge) x a ∧ cc_EO s.2.1 e ∧ cc_SO n K z s ∧ cc_XC fr D s q ∧ cc_Fr K N W P x y s.2.1 q ∧ cc_En K N W P fr x e y q
def cc_XO (K N W P : Nat → Int32) (A B C z : Nat → Nat) (fr : Nat → Nat → Bool) (D : List Nat) (p : cc_TP) (t : cc_TT) (f : cc_TF) (sz pd : Int32) (cd ex ey gc ge pf : Nat → Int32) (x : Nat) (s : cc_S) (a i v y : Nat) (q : cc_TA) (r : cc_R) : Prop :=
  ∃ (a' i' v' y' : Nat) (q' : cc_TA) (en : Int32), cc_RX a i (cc_xs p (sz, pd, cd, ex, ey, gc, ge, pf) t f (nI v, nI (y + 1), nI s.2.1, nI s.1, -1, q)) a' i' (cc_xs p (sz, pd, cd, ex, ey, gc, ge, pf) t f (nI v', nI y', nI r.2.2.2.1, nI r.2.2.1, en, q')) ∧
    i' + 50 * (60 - r.2.2.1) ≤ i + 2 * z x + 50 * (60 - s.1) ∧
    (r.1 = -1 → en = -1 ∧ a' = a + cc_len K A B C x ∧ v' = v + 1 ∧ y' = y + 1 ∧ q'.1 v = r.2.1.1 ∧ q'.2.1 v = r.2.1.2 ∧ cc_Kp v y (cc_b K W P x) s.2.1 q q' ∧ cc_XC fr D r.2.2 q') ∧ (r.1 ≠ -1 → en = r.1)
section
variable {n : Nat} {K N W P : Nat → Int32} {A B C z : Nat → Nat} {fr : Nat → Nat → Bool} {D : List Nat} {p : cc_TP} {t : cc_TT} {f : cc_TF} {sz pd : Int32} {cd ex ey gc ge pf : Nat → Int32}
theorem cc_Kp_0 {v y b m : Nat} {q : cc_TA} : cc_Kp v y b m q q := ⟨fun _ _ => ⟨rfl, rfl⟩, fun _ _ => ⟨rfl, rfl, rfl, rfl⟩, fun _ _ => ⟨rfl, rfl⟩, fun _ _ => rfl, fun _ _ => ⟨rfl, rfl⟩⟩
theorem cc_Kp_t {v y b m v' y' b' m' : Nat} {q q1 q2 : cc_TA} (h : cc_Kp v y b m q q1) (h' : cc_Kp v' y' b' m' q1 q2) (l1 : v ≤ v') (l2 : y ≤ y') (l3 : y * 11 + b ≤ y' * 11 + b') (l4 : m ≤ m') : cc_Kp v y b m q q2 := by
  obtain ⟨a1, a2, a3, a4, a5⟩ := h
  obtain ⟨b1, b2, b3, b4, b5⟩ := h'
  refine ⟨fun j hj => ?_, fun j hj => ?_, fun j hj => ?_, fun j hj => ?_, fun j hj => ?_⟩
  · have u := a1 j hj; have w := b1 j (by omega); exact ⟨w.1.trans u.1, w.2.trans u.2⟩
  · have u := a2 j hj; have w := b2 j (by omega); exact ⟨w.1.trans u.1, w.2.1.trans u.2.1, w.2.2.1.trans u.2.2.1, w.2.2.2.trans u.2.2.2⟩
  · have u := a3 j hj; have w := b3 j (by omega); exact ⟨w.1.trans u.1, w.2.trans u.2⟩
  · have u := a4 j hj; have w := b4 j (by omega); exact w.trans u
  · have u := a5 j hj; have w := b5 j (by omega); exact ⟨w.1.trans u.1, w.2.trans u.2⟩
theorem cc_Kp_w {v y b m v' b' m' : Nat} {q q1 : cc_TA} (h : cc_Kp v' y b' m' q q1) (l1 : v ≤ v') (l3 : b ≤ b') (l4 : m ≤ m') : cc_Kp v y b m q q1 := by
  obtain ⟨a1, a2, a3, a4, a5⟩ := h
  exact ⟨fun j hj => a1 j (by omega), a2, fun j hj => a3 j (by omega), fun j hj => a4 j (by omega), fun j hj => a5 j (by omega)⟩
theorem cc_lokx (hn : n ≤ 24) (hU : ∀ x, x < n → cc_Up n W x) {v x y m : Nat} {q : cc_TA} (hv : v < 4) (hx : x < n) (hb : cc_b K W P x ≤ 11) (hF : cc_Fr K N W P x y m q) : cc_lok y m q.2.2.2.1 ((cc_lo K N W P v x).1, (cc_lo K N W P v x).2.1) := by
  obtain ⟨d, e, hd⟩ := hF
  have hd := hd v hv
  rcases cc_lo_i (K := K) (N := N) (P := P) hn hU hv 24 x hx (by omega) with h | ⟨s, h1, h⟩ | h | h | ⟨w, h1, h2, h3, h⟩
  · rw [h]; exact Or.inr (Or.inr (Or.inr (Or.inr (Or.inr rfl))))
  · rw [h]; exact Or.inr (Or.inl ⟨rfl, s, by omega, rfl⟩)
  · rw [h]; exact Or.inr (Or.inr (Or.inl rfl))
  · rw [h]; exact Or.inr (Or.inr (Or.inr (Or.inl rfl)))
  · rw [h] at hd ⊢; exact Or.inr (Or.inr (Or.inr (Or.inr (Or.inl ⟨rfl, v, hv, rfl, d, hd rfl, e⟩))))
theorem cc_lqk (hn : n ≤ 24) (hU : ∀ x, x < n → cc_Up n W x) {v x y m v' b : Nat} {q q' : cc_TA} (hv : v < 4) (hx : x < n) (hm : m < 2 ^ 20) (hb : cc_b K W P x ≤ b) (hb2 : b ≤ 11) (hF : cc_Fr K N W P x y m q) (hK : cc_Kp v' y b m q q') : cc_lq y q' (cc_lo K N W P v x) = cc_lq y q (cc_lo K N W P v x) := by
  obtain ⟨d, e, hd⟩ := hF
  have hd := hd v hv
  obtain ⟨a1, a2, a3, a4, a5⟩ := hK
  obtain ⟨c1, c2, c3, c4⟩ := a2 y (by omega)
  rcases cc_lo_i (K := K) (N := N) (P := P) hn hU hv 24 x hx (by omega) with h | ⟨s, h1, h⟩ | h | h | ⟨w, h1, h2, h3, h⟩
  · rw [h]; rfl
  · rw [h]
    obtain ⟨d1, d2⟩ := a3 (y * 11 + s) (by omega)
    show (q'.2.2.2.2.2.2.1 (y * 11 + (nI s).toNatClampNeg), q'.2.2.2.2.2.2.2.1 (y * 11 + (nI s).toNatClampNeg)) = (q.2.2.2.2.2.2.1 (y * 11 + (nI s).toNatClampNeg), q.2.2.2.2.2.2.2.1 (y * 11 + (nI s).toNatClampNeg))
    rw [nI_clamp (by omega), d1, d2]
  · rw [h]
    show (q'.2.2.2.2.1 y, q'.2.2.2.2.2.1 y) = (q.2.2.2.2.1 y, q.2.2.2.2.2.1 y)
    rw [c3, c4]
  · rw [h]
    show ((1 : Int32), q'.2.2.2.1 y) = (1, q.2.2.2.1 y)
    rw [c2]
  · rw [h] at hd ⊢
    have hd := hd rfl
    obtain ⟨d1, d2⟩ := a5 (d * 4 + v) (by omega)
    show (q'.2.2.2.2.2.2.2.2.2.1 ((q'.2.2.2.1 y).toNatClampNeg * 4 + (nI v).toNatClampNeg), q'.2.2.2.2.2.2.2.2.2.2 ((q'.2.2.2.1 y).toNatClampNeg * 4 + (nI v).toNatClampNeg)) = (q.2.2.2.2.2.2.2.2.2.1 ((q.2.2.2.1 y).toNatClampNeg * 4 + (nI v).toNatClampNeg), q.2.2.2.2.2.2.2.2.2.2 ((q.2.2.2.1 y).toNatClampNeg * 4 + (nI v).toNatClampNeg))
    rw [c2, e, nI_clamp (by omega), nI_clamp (by omega), d1, d2]
theorem cc_Fr_k {x y m m' v b : Nat} {q q' : cc_TA} (h : cc_Fr K N W P x y m q) (hK : cc_Kp v y b m q q') (l : m ≤ m') : cc_Fr K N W P x y m' q' := by
  obtain ⟨d, e, hd⟩ := h
  exact ⟨d, by rw [(hK.2.1 y (by omega)).2.1]; exact e, fun v hv q => by have := hd v hv q; omega⟩
theorem cc_En_k (hn : n ≤ 24) (hU : ∀ x, x < n → cc_Up n W x) {x y m v' b : Nat} {e : cc_E} {q q' : cc_TA} (hx : x < n) (hm : m < 2 ^ 20) (hb : cc_b K W P x ≤ b) (hb2 : b ≤ 11) (hF : cc_Fr K N W P x y m q) (hK : cc_Kp v' y b m q q') (h : cc_En K N W P fr x e y q) : cc_En K N W P fr x e y q' :=
  fun v hv hf => (h v hv hf).trans (cc_lqk hn hU hv hx hm hb hb2 hF hK).symm
/-- a part that binds nothing, has the frame and the meanings of its whole -/
theorem cc_Fr_p {x w y m : Nat} {q : cc_TA} (e : ∀ v, v < 4 → cc_lo K N W P v x = cc_lo K N W P v w) (h : cc_Fr K N W P w y m q) : cc_Fr K N W P x y m q := by
  obtain ⟨d, e1, hd⟩ := h
  exact ⟨d, e1, fun v hv => by rw [e v hv]; exact hd v hv⟩
theorem cc_En_p {x w y : Nat} {e : cc_E} {q : cc_TA} (el : ∀ v, v < 4 → cc_lo K N W P v x = cc_lo K N W P v w) (ef : ∀ v, fr x v = true → fr w v = true) (h : cc_En K N W P fr w e y q) : cc_En K N W P fr x e y q :=
  fun v hv hf => by rw [el v hv]; exact h v hv (ef v hf)
theorem cc_XO_pass {x x' : Nat} {s : cc_S} {a i v y : Nat} {q : cc_TA} {r : cc_R} (h : cc_XO K N W P A B C z fr D p t f sz pd cd ex ey gc ge pf x' s a i v y q r) (hr : r.1 ≠ -1) (hz : z x' ≤ z x) : cc_XO K N W P A B C z fr D p t f sz pd cd ex ey gc ge pf x s a i v y q r := by
  obtain ⟨a', i', v', y', q', en, R, c, ok, no⟩ := h
  exact ⟨a', i', v', y', q', en, R, by omega, fun q => absurd q hr, no⟩
theorem cc_th9 {r : cc_R} {g : cc_V → cc_S → cc_R} (h : (cc_then r g).1 ≠ 9) : r.1 ≠ 9 := by
  intro q
  unfold cc_then at h
  rw [if_neg (by rw [q]; decide)] at h
  exact h q
theorem cc_th_y {r : cc_R} {g : cc_V → cc_S → cc_R} (h : r.1 = -1) : cc_then r g = g r.2.1 r.2.2 := if_pos h
theorem cc_th_n {r : cc_R} {g : cc_V → cc_S → cc_R} (h : ¬ r.1 = -1) : cc_then r g = r := if_neg h
/-- the static facts of a node, for the run -/
theorem cc_ss_z (h : cc_SS n K N W P A B C z fr D cd ex ey gc ge) {x : Nat} (hx : x < n) : 1 ≤ z x := cc_z1 (h.2.2.1 x hx)
theorem cc_ss_l (h : cc_SS n K N W P A B C z fr D cd ex ey gc ge) {x : Nat} (hx : x < n) : 1 ≤ cc_len K A B C x ∧ cc_len K A B C x ≤ 2 * z x := cc_len_z h.2.2.1 x hx
end
end
section
/-! the component's run against the evaluator: the cases -/
def cc_XI (n : Nat) (K N W P : Nat → Int32) (A B C z : Nat → Nat) (fr : Nat → Nat → Bool) (D : List Nat) (p : cc_TP) (t : cc_TT) (f : cc_TF) (sz pd : Int32) (cd ex ey gc ge pf : Nat → Int32) (g : Nat) : Prop :=
  ∀ (x : Nat) (e : cc_E) (s : cc_S) (a i v y : Nat) (q : cc_TA), cc_XH n K N W P A B C z fr D cd ex gc ge x e s a i v y q → (cc_ev K N A B C g x e s).1 ≠ 9 → cc_XO K N W P A B C z fr D p t f sz pd cd ex ey gc ge pf x s a i v y q (cc_ev K N A B C g x e s)
theorem cc_th_id (r : cc_R) : cc_then r (fun w s => (-1, w, s)) = r := by
  unfold cc_then
  by_cases h : r.1 = -1
  · rw [if_pos h]
    obtain ⟨r1, r2, r3⟩ := r
    exact congrArg (fun k => (k, r2, r3)) h.symm
  · rw [if_neg h]
section
variable {n : Nat} {K N W P : Nat → Int32} {A B C z : Nat → Nat} {fr : Nat → Nat → Bool} {D : List Nat} {p : cc_TP} {t : cc_TT} {f : cc_TF} {sz pd : Int32} {cd ex ey gc ge pf : Nat → Int32} {g x a i v y : Nat} {e : cc_E} {s : cc_S} {q : cc_TA}
theorem cc_x_part {F : cc_V → cc_S → cc_R} {xp a1 i1 v1 : Nat} {e1 : cc_E} {s1 : cc_S} {q1 : cc_TA} (hS : cc_SS n K N W P A B C z fr D cd ex ey gc ge) (hI : cc_XI n K N W P A B C z fr D p t f sz pd cd ex ey gc ge pf g)
    (R : cc_RX a i (cc_xs p (sz, pd, cd, ex, ey, gc, ge, pf) t f (nI v, nI (y + 1), nI s.2.1, nI s.1, -1, q)) a1 i1 (cc_xs p (sz, pd, cd, ex, ey, gc, ge, pf) t f (nI v1, nI (y + 1), nI s1.2.1, nI s1.1, -1, q1)))
    (H : cc_XH n K N W P A B C z fr D cd ex gc ge xp e1 s1 a1 i1 v1 y q1) (hz : i1 + 2 * z xp + 50 * (60 - s1.1) ≤ i + 2 * z x + 50 * (60 - s.1))
    (h9 : (cc_then (cc_ev K N A B C g xp e1 s1) F).1 ≠ 9)
    (hF : ∀ (w : cc_V) (s2 : cc_S) (i2 : Nat) (q2 : cc_TA), cc_RX a i (cc_xs p (sz, pd, cd, ex, ey, gc, ge, pf) t f (nI v, nI (y + 1), nI s.2.1, nI s.1, -1, q)) (a1 + cc_len K A B C xp) i2 (cc_xs p (sz, pd, cd, ex, ey, gc, ge, pf) t f (nI (v1 + 1), nI (y + 1), nI s2.2.1, nI s2.1, -1, q2)) → i2 + 50 * (60 - s2.1) ≤ i1 + 2 * z xp + 50 * (60 - s1.1) → s1.1 ≤ s2.1 → s1.2.1 ≤ s2.2.1 → 2 * s2.2.1 + 24 * (60 - s2.1) ≤ 2 * s1.2.1 + z xp + 24 * (60 - s1.1) → (∀ c, c < s1.2.1 → s2.2.2 c = s1.2.2 c) → cc_VO s2.2.1 w → cc_SO n K z s2 → q2.1 v1 = w.1 → q2.2.1 v1 = w.2 → cc_Kp v1 y (cc_b K W P xp) s1.2.1 q1 q2 → cc_XC fr D s2 q2 → (F w s2).1 ≠ 9 → cc_XO K N W P A B C z fr D p t f sz pd cd ex ey gc ge pf x s a i v y q (F w s2)) :
    cc_XO K N W P A B C z fr D p t f sz pd cd ex ey gc ge pf x s a i v y q (cc_then (cc_ev K N A B C g xp e1 s1) F) := by
  have O1 := hI xp e1 s1 a1 i1 v1 y q1 H (cc_th9 h9)
  obtain ⟨⟨u1, u2, u3, u4, u5, u6, u7, u8⟩, hc, hE, hO, _⟩ := H
  have Q1 := cc_ev_ok hS.2.2.1 g xp e1 s1 u1 u2 hE hO (by omega)
  generalize cc_ev K N A B C g xp e1 s1 = r1 at *
  obtain ⟨a2, i2, v2, y2, q2, en2, R2, c2, ok2, no2⟩ := O1
  obtain ⟨_, l1, l2, l3, l4, l5, l6⟩ := Q1
  by_cases k1 : r1.1 = -1
  · rw [cc_th_y k1] at h9 ⊢
    obtain ⟨rfl, rfl, rfl, rfl, g1, g2, kp, xc⟩ := ok2 k1
    exact hF r1.2.1 r1.2.2 i2 q2 (cc_RX_t R R2) c2 l1 l2 l6 l3 (l5 k1) l4 g1 g2 kp xc h9
  · rw [cc_th_n k1]
    exact ⟨a2, i2, v2, y2, q2, en2, cc_RX_t R R2, by omega, fun h => absurd h k1, no2⟩
/-- a part that binds nothing is met as its whole is -/
theorem cc_XH_p {xp a1 i1 v1 : Nat} {s1 : cc_S} {q1 : cc_TA} (hS : cc_SS n K N W P A B C z fr D cd ex ey gc ge) (hx : x < n) (hp : xp < x) (hW : W xp = nI x) (h7 : K x ≠ 7) (h6 : ¬ (K x = 6 ∧ P xp = 1)) (hz : z xp ≤ 24) (hb : 2 * cc_b K W P x + z xp ≤ 24) (ha : a1 + cc_len K A B C xp < 128) (hy : y ≤ s1.1) (hv : 2 * v1 + z xp + 22 * (60 - s1.1) ≤ 1345) (hi : i1 + 2 * z xp + 50 * (60 - s1.1) ≤ 7900) (hm : 2 * s1.2.1 + z xp + 24 * (60 - s1.1) ≤ 1464) (hc : cc_ca K N W P A B C cd ex (fun y => y ∈ D) (cc_Gt K N W P gc ge) xp a1) (hE : cc_EO s1.2.1 e) (hO : cc_SO n K z s1) (hX : cc_XC fr D s1 q1) (hF : cc_Fr K N W P x y s1.2.1 q1) (hN : cc_En K N W P fr x e y q1) (hf : ∀ v, fr xp v = true → fr x v = true) : cc_XH n K N W P A B C z fr D cd ex gc ge xp e s1 a1 i1 v1 y q1 := by
  have hn := hS.1
  have el : ∀ v, v < 4 → cc_lo K N W P v xp = cc_lo K N W P v x := fun v _ => cc_lo_p hW hp (by omega) h7 (fun c => h6 ⟨c.1, c.2.1⟩)
  have eb : cc_b K W P xp = cc_b K W P x := cc_b_p hW hp (by omega) h7 h6
  exact ⟨⟨by omega, hz, ha, hy, by rw [eb]; exact hb, hv, hi, hm⟩, hc, hE, hO, hX, cc_Fr_p el hF, cc_En_p el hf hN⟩
theorem cc_xt8 (hS : cc_SS n K N W P A B C z fr D cd ex ey gc ge) (hH : cc_XH n K N W P A B C z fr D cd ex gc ge x e s a i v y q) (h8 : K x = 8) : cc_XO K N W P A B C z fr D p t f sz pd cd ex ey gc ge pf x s a i v y q (-1, (0, N x), s) := by
  obtain ⟨⟨u1, u2, u3, u4, u5, u6, u7, u8⟩, hc, hE, hO, hX, hF, hN⟩ := hH
  have z1 := cc_ss_z hS u1
  have c60 := hO.1
  rw [cc_ca8 h8] at hc
  rw [cc_len1 (Or.inr (Or.inl h8))] at u3
  obtain ⟨tg, dt, bk, rn, ag, ad, sT, sD, cO, kT, kD⟩ := q
  have R := cc_x_load (p := p) (t := t) (f := f) (sz := sz) (pd := pd) (cd := cd) (ex := ex) (ey := ey) (gc := gc) (ge := ge) (pf := pf) (k := nI s.1) (tg := tg) (dt := dt) (bk := bk) (rn := rn) (ag := ag) (ad := ad) (sT := sT) (sD := sD) (cO := cO) (kT := kT) (kD := kD) (y := y) (v := v) (m := s.2.1) (a := a) (i := i) (o := (10, N x)) (by omega) (by omega) hc.1 hc.2 (Or.inl rfl) (by omega) (by omega) (by omega)
  have el : cc_ld y rn ag ad sT sD kT kD (10, N x) = (0, N x) := by unfold cc_ld; exact if_pos rfl
  have en : (if ((0, N x) : cc_V).1 = 2 then (2 : Int32) else -1) = -1 := if_neg (show ¬ (0 : Int32) = 2 by decide)
  rw [el, en] at R
  refine ⟨a + 1, i + 1, v + 1, y + 1, _, -1, R, by show i + 1 + 50 * (60 - s.1) ≤ _; omega, fun _ => ⟨rfl, by rw [cc_len1 (Or.inr (Or.inl h8))], rfl, rfl, pk_us, pk_us, ?_, hX⟩, fun h => absurd rfl h⟩
  exact ⟨fun j hj => ⟨pk_un (by omega), pk_un (by omega)⟩, fun _ _ => ⟨rfl, rfl, rfl, rfl⟩, fun _ _ => ⟨rfl, rfl⟩, fun _ _ => rfl, fun _ _ => ⟨rfl, rfl⟩⟩
theorem cc_xt9 {w : Nat} (hS : cc_SS n K N W P A B C z fr D cd ex ey gc ge) (hH : cc_XH n K N W P A B C z fr D cd ex gc ge x e s a i v y q) (h9 : K x = 9) (hw : w < 4) (hNx : N x = nI w) (hf : fr x w = true) : cc_XO K N W P A B C z fr D p t f sz pd cd ex ey gc ge pf x s a i v y q (if (e (N x).toNatClampNeg).1 = 2 then (2, (0, 0), s) else (-1, e (N x).toNatClampNeg, s)) := by
  obtain ⟨⟨u1, u2, u3, u4, u5, u6, u7, u8⟩, hc, hE, hO, hX, hF, hN⟩ := hH
  have z1 := cc_ss_z hS u1
  have c60 := hO.1
  rw [cc_ca9 h9] at hc
  rw [hNx, nI_clamp (by omega)] at hc ⊢
  rw [cc_len1 (Or.inr (Or.inr h9))] at u3
  have he := hN w hw hf
  have lk := cc_lokx hS.1 hS.2.1 hw u1 (by omega) hF
  obtain ⟨tg, dt, bk, rn, ag, ad, sT, sD, cO, kT, kD⟩ := q
  have R := cc_x_load (p := p) (t := t) (f := f) (sz := sz) (pd := pd) (cd := cd) (ex := ex) (ey := ey) (gc := gc) (ge := ge) (pf := pf) (k := nI s.1) (tg := tg) (dt := dt) (bk := bk) (rn := rn) (ag := ag) (ad := ad) (sT := sT) (sD := sD) (cO := cO) (kT := kT) (kD := kD) (y := y) (v := v) (m := s.2.1) (a := a) (i := i) (o := ((cc_lo K N W P w x).1, (cc_lo K N W P w x).2.1)) (by omega) (by omega) hc.1 hc.2.1 lk (by omega) (by omega) (by omega)
  have el : cc_ld y rn ag ad sT sD kT kD ((cc_lo K N W P w x).1, (cc_lo K N W P w x).2.1) = e w := he.symm
  rw [el] at R
  by_cases t2 : (e w).1 = 2
  · rw [if_pos t2] at R ⊢
    exact ⟨a + 1, i + 1, v + 1, y + 1, _, 2, R, by show i + 1 + 50 * (60 - s.1) ≤ _; omega, fun h => absurd h (show ¬ (2 : Int32) = -1 by decide), fun _ => rfl⟩
  · rw [if_neg t2] at R ⊢
    refine ⟨a + 1, i + 1, v + 1, y + 1, _, -1, R, by show i + 1 + 50 * (60 - s.1) ≤ _; omega, fun _ => ⟨rfl, by rw [cc_len1 (Or.inr (Or.inr h9))], rfl, rfl, pk_us, pk_us, ?_, hX⟩, fun h => absurd rfl h⟩
    exact ⟨fun j hj => ⟨pk_un (by omega), pk_un (by omega)⟩, fun _ _ => ⟨rfl, rfl, rfl, rfl⟩, fun _ _ => ⟨rfl, rfl⟩, fun _ _ => rfl, fun _ _ => ⟨rfl, rfl⟩⟩
theorem cc_xt7 (hS : cc_SS n K N W P A B C z fr D cd ex ey gc ge) (hH : cc_XH n K N W P A B C z fr D cd ex gc ge x e s a i v y q) (h7 : K x = 7) : cc_XO K N W P A B C z fr D p t f sz pd cd ex ey gc ge pf x s a i v y q (-1, (1, nI s.2.1), (s.1, s.2.1 + 1, fun j => if j = s.2.1 then (x, e) else s.2.2 j)) := by
  obtain ⟨⟨u1, u2, u3, u4, u5, u6, u7, u8⟩, hc, hE, hO, hX, hF, hN⟩ := hH
  obtain ⟨hn, hU, hP, hR, hG, hD⟩ := hS
  have z1 := cc_z1 (hP x u1)
  have c60 := hO.1
  have hR' : ∀ f, (fun y => y ∈ D) f → ∃ e, cc_ca K N W P A B C cd ex (fun y => y ∈ D) (cc_Gt K N W P gc ge) (A f) e := by
    intro f hf
    obtain ⟨e, _, q, _⟩ := hR f hf
    exact ⟨e, q⟩
  have fch : ∀ v, v < 4 → fr x v = true → cc_cx K N W P (cc_Gt K N W P gc ge) v x ∧ (K x = 7 → cc_Gt K N W P gc ge x v) := fun v hv => cc_fr_ch hn hU hP hR' hv x u1 a hc
  rw [cc_ca7 h7] at hc
  rw [cc_len1 (Or.inl h7)] at u3
  have lk : ∀ j, j < 4 → gc (x * 4 + j) < 0 ∨ cc_lok y s.2.1 q.2.2.2.1 (gc (x * 4 + j), ge (x * 4 + j)) := by
    intro j hj
    rcases hG x j (by omega) hj with w | w
    · rw [w]; exact Or.inl (by decide)
    · rw [w.2.1, w.2.2]
      exact Or.inr (cc_lokx hn hU hj u1 (by omega) hF)
  obtain ⟨tg, dt, bk, rn, ag, ad, sT, sD, cO, kT, kD⟩ := q
  obtain ⟨tg', dt', kT', kD', ⟨q1, q2, q3⟩, R⟩ := cc_x_make (p := p) (t := t) (f := f) (sz := sz) (pd := pd) (cd := cd) (ex := ex) (ey := ey) (gc := gc) (ge := ge) (pf := pf) (k := nI s.1) (tg := tg) (dt := dt) (bk := bk) (rn := rn) (ag := ag) (ad := ad) (sT := sT) (sD := sD) (cO := cO) (kT := kT) (kD := kD) (y := y) (v := v) (m := s.2.1) (a := a) (i := i) (x := x) (by omega) (by omega) hc.1 hc.2.1 (by omega) (by omega) (by omega) (by omega) lk
  refine ⟨a + 1, i + 1, v + 1, y + 1, _, -1, R, by show i + 1 + 50 * (60 - s.1) ≤ _; omega, fun _ => ⟨rfl, by rw [cc_len1 (Or.inl h7)], rfl, rfl, pk_us, pk_us, ?_, ?_⟩, fun h => absurd rfl h⟩
  · exact ⟨fun j hj => ⟨(pk_un (by omega)).trans (q1 j hj).1, (pk_un (by omega)).trans (q1 j hj).2⟩, fun _ _ => ⟨rfl, rfl, rfl, rfl⟩, fun _ _ => ⟨rfl, rfl⟩, fun j hj => pk_un (by omega), fun j hj => q2 j hj⟩
  · intro c hcm
    have hcm' : c < s.2.1 + 1 := hcm
    show upd cO s.2.1 (nI x) c = nI (if c = s.2.1 then (x, e) else s.2.2 c : Nat × cc_E).1 ∧ (if c = s.2.1 then (x, e) else s.2.2 c : Nat × cc_E).1 ∈ D ∧ ∀ v, v < 4 → fr (if c = s.2.1 then (x, e) else s.2.2 c : Nat × cc_E).1 v = true → (kT' (c * 4 + v), kD' (c * 4 + v)) = (if c = s.2.1 then (x, e) else s.2.2 c : Nat × cc_E).2 v
    by_cases k1 : c = s.2.1
    · rw [if_pos k1, k1]
      refine ⟨pk_us, hc.2.2, fun w hw hf => ?_⟩
      have g1 := (fch w hw hf).2 h7
      have g2 := hN w hw hf
      have g0 : ¬ gc (x * 4 + w) < 0 := by
        rw [g1.2.1]
        rcases cc_lo_i (K := K) (N := N) (P := P) hn hU hw 24 x u1 (by omega) with h | ⟨_, _, h⟩ | h | h | ⟨_, _, _, _, h⟩ <;> rw [h]
        · decide
        · exact (show ¬ (11 : Int32) < 0 by decide)
        · exact (show ¬ (12 : Int32) < 0 by decide)
        · exact (show ¬ (13 : Int32) < 0 by decide)
        · exact (show ¬ (14 : Int32) < 0 by decide)
      have g3 := (q3 w hw).resolve_left g0
      rw [g1.2.1, g1.2.2] at g3
      exact g3.trans g2.symm
    · rw [if_neg k1]
      obtain ⟨w1, w2, w3⟩ := hX c (by omega)
      refine ⟨(pk_un k1).trans w1, w2, fun w hw hf => ?_⟩
      rw [(q2 (c * 4 + w) (by omega)).1, (q2 (c * 4 + w) (by omega)).2]
      exact w3 w hw hf
end
end
section
/-! the component's run against the evaluator: programs with parts -/
section
variable {n : Nat} {K N W P : Nat → Int32} {A B C z : Nat → Nat} {fr : Nat → Nat → Bool} {D : List Nat} {p : cc_TP} {t : cc_TT} {f : cc_TF} {sz pd : Int32} {cd ex ey gc ge pf : Nat → Int32} {g x a i v y : Nat} {e : cc_E} {s : cc_S} {q : cc_TA}
/-- both parts of an operation are worked out, then F -/
theorem cc_x_ab {F : cc_V → cc_V → cc_S → cc_R} {k : Nat} (hS : cc_SS n K N W P A B C z fr D cd ex ey gc ge) (hI : cc_XI n K N W P A B C z fr D p t f sz pd cd ex ey gc ge pf g) (hH : cc_XH n K N W P A B C z fr D cd ex gc ge x e s a i v y q) (hk : k < 5) (hK : K x = nI k) (hA : A x < x) (hB : B x < x) (hWA : W (A x) = nI x) (hWB : W (B x) = nI x) (hz : z x = 1 + z (A x) + z (B x)) (hfr : ∀ v, fr x v = (fr (A x) v || fr (B x) v))
    (h9 : (cc_then (cc_ev K N A B C g (A x) e s) (fun v1 s1 => cc_then (cc_ev K N A B C g (B x) e s1) (fun v2 s2 => F v1 v2 s2))).1 ≠ 9)
    (hF : ∀ (w1 w2 : cc_V) (s2 : cc_S) (i2 : Nat) (q2 : cc_TA), cc_RX a i (cc_xs p (sz, pd, cd, ex, ey, gc, ge, pf) t f (nI v, nI (y + 1), nI s.2.1, nI s.1, -1, q)) (a + cc_len K A B C (A x) + cc_len K A B C (B x)) i2 (cc_xs p (sz, pd, cd, ex, ey, gc, ge, pf) t f (nI (v + 2), nI (y + 1), nI s2.2.1, nI s2.1, -1, q2)) → i2 + 50 * (60 - s2.1) + 2 ≤ i + 2 * z x + 50 * (60 - s.1) → s.1 ≤ s2.1 → s.2.1 ≤ s2.2.1 → 2 * s2.2.1 + 24 * (60 - s2.1) + 1 ≤ 2 * s.2.1 + z x + 24 * (60 - s.1) → cc_VO s2.2.1 w1 → cc_VO s2.2.1 w2 → cc_SO n K z s2 → q2.1 v = w1.1 → q2.2.1 v = w1.2 → q2.1 (v + 1) = w2.1 → q2.2.1 (v + 1) = w2.2 → cc_Kp v y (cc_b K W P x) s.2.1 q q2 → cc_XC fr D s2 q2 → (F w1 w2 s2).1 ≠ 9 → cc_XO K N W P A B C z fr D p t f sz pd cd ex ey gc ge pf x s a i v y q (F w1 w2 s2)) :
    cc_XO K N W P A B C z fr D p t f sz pd cd ex ey gc ge pf x s a i v y q (cc_then (cc_ev K N A B C g (A x) e s) (fun v1 s1 => cc_then (cc_ev K N A B C g (B x) e s1) (fun v2 s2 => F v1 v2 s2))) := by
  obtain ⟨⟨u1, u2, u3, u4, u5, u6, u7, u8⟩, hc, hE, hO, hX, hFr, hN⟩ := hH
  have ⟨a5, a6, a7, a8, a9⟩ := cc_k5 k hk
  have c60 := hO.1
  have hn := hS.1
  have el := cc_len0 (C := C) hk hK hA hB
  have zA := cc_ss_z hS (x := A x) (by omega)
  have zB := cc_ss_z hS (x := B x) (by omega)
  have h7 : K x ≠ 7 := by rw [hK]; exact a7
  have h6 : ∀ c, ¬ (K x = 6 ∧ c) := fun c q => a6 (hK.symm.trans q.1)
  rw [cc_ca0 hk hK hA hB] at hc
  obtain ⟨cA, cB, ck⟩ := hc
  have bA : cc_b K W P (A x) = cc_b K W P x := cc_b_p hWA hA (by omega) h7 (h6 _)
  have bB : cc_b K W P (B x) = cc_b K W P x := cc_b_p hWB hB (by omega) h7 (h6 _)
  refine cc_x_part hS hI cc_RX_0 (cc_XH_p hS u1 hA hWA h7 (h6 _) (by omega) (by omega) (by omega) u4 (by omega) (by omega) (by omega) cA hE hO hX hFr hN (fun v h => by rw [hfr, h]; rfl)) (by omega) h9 ?_
  intro w1 s1 i1 q1 R1 c1 l1 l2 l3 l4 VO1 SO1 g1 g2 kp1 xc1 h9'
  rw [bA] at kp1
  have hF1 := cc_Fr_k hFr kp1 l2
  have hN1 := cc_En_k hn hS.2.1 u1 (by omega) (Nat.le_refl _) (by omega) hFr kp1 hN
  refine cc_x_part hS hI R1 (cc_XH_p hS u1 hB hWB h7 (h6 _) (by omega) (by omega) (by omega) (by omega) (by omega) (by omega) (by omega) cB (cc_EOm hE l2) SO1 xc1 hF1 hN1 (fun v h => by rw [hfr, h, Bool.or_true])) (by omega) h9' ?_
  intro w2 s2 i2 q2 R2 c2 m1 m2 m3 m4 VO2 SO2 g3 g4 kp2 xc2 h9''
  rw [bB] at kp2
  exact hF w1 w2 s2 i2 q2 R2 (by omega) (by omega) (by omega) (by omega) (cc_VOm VO1 m2) VO2 SO2 (((kp2.1 v (by omega)).1).trans g1) (((kp2.1 v (by omega)).2).trans g2) g3 g4 (cc_Kp_t kp1 kp2 (by omega) (Nat.le_refl _) (Nat.le_refl _) l2) xc2 h9''
theorem cc_xt0 {k : Nat} (hS : cc_SS n K N W P A B C z fr D cd ex ey gc ge) (hI : cc_XI n K N W P A B C z fr D p t f sz pd cd ex ey gc ge pf g) (hH : cc_XH n K N W P A B C z fr D cd ex gc ge x e s a i v y q) (hk : k < 4) (hK : K x = nI k) (hA : A x < x) (hB : B x < x) (hWA : W (A x) = nI x) (hWB : W (B x) = nI x) (hz : z x = 1 + z (A x) + z (B x)) (hfr : ∀ v, fr x v = (fr (A x) v || fr (B x) v)) (h9 : (cc_ev K N A B C (g + 1) x e s).1 ≠ 9) : cc_XO K N W P A B C z fr D p t f sz pd cd ex ey gc ge pf x s a i v y q (cc_ev K N A B C (g + 1) x e s) := by
  rw [cc_ev0 hk hK] at h9 ⊢
  refine cc_x_ab hS hI hH (by omega) hK hA hB hWA hWB hz hfr h9 ?_
  obtain ⟨⟨u1, u2, u3, u4, u5, u6, u7, u8⟩, hc, hE, hO, hX, hFr, hN⟩ := hH
  intro w1 w2 s2 i2 q2 R c1 l1 l2 l3 VO1 VO2 SO2 g1 g2 g3 g4 kp xc _
  have c60 := hO.1
  have hn := hS.1
  have el := cc_len0 (C := C) (by omega : k < 5) hK hA hB
  rw [cc_ca0 (by omega : k < 5) hK hA hB] at hc
  obtain ⟨cA, cB, ck⟩ := hc
  rw [hK] at ck
  obtain ⟨tg, dt, bk, rn, ag, ad, sT, sD, cO, kT, kD⟩ := q2
  have g1 : tg v = w1.1 := g1
  have g2 : dt v = w1.2 := g2
  have g3 : tg (v + 1) = w2.1 := g3
  have g4 : dt (v + 1) = w2.2 := g4
  have hst : ¬ (tg v = 0 ∧ tg (v + 1) = 0) → cc_XO K N W P A B C z fr D p t f sz pd cd ex ey gc ge pf x s a i v y q (2, (0, 0), s2) := by
    intro hno
    have R3 := cc_x_op2 (p := p) (t := t) (f := f) (sz := sz) (pd := pd) (cd := cd) (ex := ex) (ey := ey) (gc := gc) (ge := ge) (pf := pf) (k := nI s2.1) (tg := tg) (dt := dt) (bk := bk) (rn := rn) (ag := ag) (ad := ad) (sT := sT) (sD := sD) (cO := cO) (kT := kT) (kD := kD) (a := a + cc_len K A B C (A x) + cc_len K A B C (B x)) (i := i2) (v := v) (q := k) (yy := nI (y + 1)) (mm := nI s2.2.1) (by omega) (by omega) hk ck (by omega) hno
    exact ⟨_, i2 + 1, v, y + 1, _, 2, cc_RX_t R R3, by show i2 + 1 + 50 * (60 - s2.1) ≤ _; omega, fun h => absurd h (show ¬ (2 : Int32) = -1 by decide), fun _ => rfl⟩
  by_cases t1 : w1.1 = 0
  · rw [if_pos t1]
    by_cases t2 : w2.1 = 0
    · rw [if_pos t2]
      have R3 := cc_x_op (p := p) (t := t) (f := f) (sz := sz) (pd := pd) (cd := cd) (ex := ex) (ey := ey) (gc := gc) (ge := ge) (pf := pf) (k := nI s2.1) (tg := tg) (dt := dt) (bk := bk) (rn := rn) (ag := ag) (ad := ad) (sT := sT) (sD := sD) (cO := cO) (kT := kT) (kD := kD) (a := a + cc_len K A B C (A x) + cc_len K A B C (B x)) (i := i2) (v := v) (q := k) (yy := nI (y + 1)) (mm := nI s2.2.1) (by omega) (by omega) hk ck (by omega) (g1.trans t1) (g3.trans t2)
      refine ⟨_, i2 + 1, v + 1, y + 1, _, -1, cc_RX_t R R3, by show i2 + 1 + 50 * (60 - s2.1) ≤ _; omega, fun _ => ⟨rfl, by omega, rfl, rfl, pk_us, ?_, ?_, xc⟩, fun h => absurd rfl h⟩
      · show upd dt v (cc_op (nI k) (dt v) (dt (v + 1))) v = cc_op (K x) w1.2 w2.2
        rw [pk_us, g2, g4, hK]
      · exact cc_Kp_t kp ⟨fun j hj => ⟨pk_un (by omega), pk_un (by omega)⟩, fun _ _ => ⟨rfl, rfl, rfl, rfl⟩, fun _ _ => ⟨rfl, rfl⟩, fun _ _ => rfl, fun _ _ => ⟨rfl, rfl⟩⟩ (Nat.le_refl _) (Nat.le_refl _) (Nat.le_refl _) l2
    · rw [if_neg t2]
      exact hst (fun h => t2 (g3.symm.trans h.2))
  · rw [if_neg t1]
    exact hst (fun h => t1 (g1.symm.trans h.1))
theorem cc_xt4 (hS : cc_SS n K N W P A B C z fr D cd ex ey gc ge) (hI : cc_XI n K N W P A B C z fr D p t f sz pd cd ex ey gc ge pf g) (hH : cc_XH n K N W P A B C z fr D cd ex gc ge x e s a i v y q) (hK : K x = 4) (hA : A x < x) (hB : B x < x) (hWA : W (A x) = nI x) (hWB : W (B x) = nI x) (hz : z x = 1 + z (A x) + z (B x)) (hfr : ∀ v, fr x v = (fr (A x) v || fr (B x) v)) (h9 : (cc_ev K N A B C (g + 1) x e s).1 ≠ 9) : cc_XO K N W P A B C z fr D p t f sz pd cd ex ey gc ge pf x s a i v y q (cc_ev K N A B C (g + 1) x e s) := by
  have hK' : K x = nI 4 := hK
  rw [cc_ev4 hK] at h9 ⊢
  refine cc_x_ab hS hI hH (k := 4) (by omega) hK' hA hB hWA hWB hz hfr h9 ?_
  obtain ⟨⟨u1, u2, u3, u4, u5, u6, u7, u8⟩, hc, hE, hO, hX, hFr, hN⟩ := hH
  intro w1 w2 s2 i2 q2 R c1 l1 l2 l3 VO1 VO2 SO2 g1 g2 g3 g4 kp xc h9'
  have c60 := hO.1
  have hn := hS.1
  have el := cc_len0 (C := C) (k := 4) (by omega) hK' hA hB
  have zA := cc_ss_z hS (x := A x) (by omega)
  have zB := cc_ss_z hS (x := B x) (by omega)
  rw [cc_ca0 (k := 4) (by omega) hK' hA hB] at hc
  obtain ⟨cA, cB, ck⟩ := hc
  rw [hK] at ck
  obtain ⟨tg, dt, bk, rn, ag, ad, sT, sD, cO, kT, kD⟩ := q2
  have g1 : tg v = w1.1 := g1
  have g2 : dt v = w1.2 := g2
  have g3 : tg (v + 1) = w2.1 := g3
  have g4 : dt (v + 1) = w2.2 := g4
  by_cases t1 : w1.1 = 1
  · rw [if_pos t1] at h9' ⊢
    by_cases t2 : s2.1 = 60
    · rw [if_pos t2]
      have R3 := cc_x_call3 (p := p) (t := t) (f := f) (sz := sz) (pd := pd) (cd := cd) (ex := ex) (ey := ey) (gc := gc) (ge := ge) (pf := pf) (tg := tg) (dt := dt) (bk := bk) (rn := rn) (ag := ag) (ad := ad) (sT := sT) (sD := sD) (cO := cO) (kT := kT) (kD := kD) (a := a + cc_len K A B C (A x) + cc_len K A B C (B x)) (i := i2) (v := v) (yy := nI (y + 1)) (mm := nI s2.2.1) (by omega) (by omega) ck (by omega) (g1.trans t1)
      rw [← t2] at R3
      exact ⟨_, i2 + 1, v, y + 1, _, 3, cc_RX_t R R3, by show i2 + 1 + 50 * (60 - s2.1) ≤ _; omega, fun h => absurd h (show ¬ (3 : Int32) = -1 by decide), fun _ => rfl⟩
    · rw [if_neg t2] at h9' ⊢
      rcases VO1 with VO1 | ⟨_, c, hc, ec⟩
      · exact absurd (t1.symm.trans VO1) (by decide)
      · have hcl : w1.2.toNatClampNeg = c := by rw [ec]; exact nI_clamp (by omega)
        rw [hcl] at h9' ⊢
        obtain ⟨f1, f7, f3, f4⟩ := SO2.2 c hc
        have s60 := SO2.1
        obtain ⟨x1, x2, x3⟩ := xc c hc
        have x1 : cO c = nI (s2.2.2 c).1 := x1
        obtain ⟨e0, r1, r2, r3, r4⟩ := hS.2.2.2.1 _ x2
        obtain ⟨fA, fW, fp, fz, ff, fw, hff, hfw, fN, ffr⟩ := cc_nd7 (hS.2.2.1 _ f1) f7
        have zf := cc_ss_z hS (x := A (s2.2.2 c).1) (by omega)
        have R3 := cc_x_call (p := p) (t := t) (f := f) (sz := sz) (pd := pd) (cd := cd) (ex := ex) (ey := ey) (gc := gc) (ge := ge) (pf := pf) (tg := tg) (dt := dt) (bk := bk) (rn := rn) (ag := ag) (ad := ad) (sT := sT) (sD := sD) (cO := cO) (kT := kT) (kD := kD) (a := a + cc_len K A B C (A x) + cc_len K A B C (B x)) (i := i2) (v := v) (y := y) (mm := nI s2.2.1) (d := c) (g := (s2.2.2 c).1) (K := s2.1) (b := e0) (by omega) (by omega) ck (by omega) (by omega) t2 (by omega) (by omega) (by omega) (g1.trans t1) (g2.trans ec) x1 r1
        obtain ⟨q3, eq3⟩ : ∃ q3 : cc_TA, q3 = (tg, dt, upd bk (y + 1) (nI (a + cc_len K A B C (A x) + cc_len K A B C (B x) + 1)), upd rn (y + 1) (nI c), upd ag (y + 1) (tg (v + 1)), upd ad (y + 1) (dt (v + 1)), sT, sD, cO, kT, kD) := ⟨_, rfl⟩
        have R3 : cc_RX (a + cc_len K A B C (A x) + cc_len K A B C (B x)) i2 (cc_xs p (sz, pd, cd, ex, ey, gc, ge, pf) t f (nI (v + 2), nI (y + 1), nI s2.2.1, nI s2.1, -1, tg, dt, bk, rn, ag, ad, sT, sD, cO, kT, kD)) e0 (i2 + 1) (cc_xs p (sz, pd, cd, ex, ey, gc, ge, pf) t f (nI v, nI (y + 1 + 1), nI s2.2.1, nI (s2.1 + 1), -1, q3)) := by rw [eq3]; exact R3
        have b0 : cc_b K W P (A (s2.2.2 c).1) = 0 := cc_b_7 fW fA (by omega) f7
        have lo7 : ∀ v, v < 4 → cc_lo K N W P v (A (s2.2.2 c).1) = (if v = fw then (12, nI v, -1) else if v = ff then (13, nI v, -1) else (14, nI v, nI (s2.2.2 c).1)) := fun v hv => cc_lo_7 fW fA (by omega) f7 hff hfw hv fN
        have hH3 : cc_XH n K N W P A B C z fr D cd ex gc ge (A (s2.2.2 c).1) (cc_arg N (s2.2.2 c) w1 w2) (s2.1 + 1, s2.2) e0 (i2 + 1) v (y + 1) q3 := by
          refine ⟨⟨by omega, by omega, by omega, by show y + 1 ≤ s2.1 + 1; omega, by rw [b0]; omega, by show _ + 22 * (60 - (s2.1 + 1)) ≤ _; omega, by show _ + 50 * (60 - (s2.1 + 1)) ≤ _; omega, by show 2 * s2.2.1 + _ + 24 * (60 - (s2.1 + 1)) ≤ _; omega⟩, r2, cc_EOs (cc_EOs f4 (Or.inr ⟨t1, c, hc, ec⟩)) VO2, ⟨by show s2.1 + 1 ≤ 60; omega, SO2.2⟩, by rw [eq3]; exact xc, ⟨c, by rw [eq3]; exact pk_us, fun _ _ _ => hc⟩, ?_⟩
          intro j hj hf
          have ea : cc_arg N (s2.2.2 c) w1 w2 j = (if j = fw then w2 else if j = ff then w1 else (s2.2.2 c).2 j) := by
            unfold cc_arg cc_set
            rw [fN, nI_clamp (by omega), show (4 * ff + fw) / 4 = ff by omega, show (4 * ff + fw) % 4 = fw by omega]
          rw [ea, lo7 j hj, eq3]
          by_cases j1 : j = fw
          · rw [if_pos j1, if_pos j1]
            show w2 = (upd ag (y + 1) (tg (v + 1)) (y + 1), upd ad (y + 1) (dt (v + 1)) (y + 1))
            rw [pk_us, pk_us, g3, g4]
          · rw [if_neg j1, if_neg j1]
            by_cases j2 : j = ff
            · rw [if_pos j2, if_pos j2]
              show w1 = ((1 : Int32), upd rn (y + 1) (nI c) (y + 1))
              rw [pk_us, ← t1, ← ec]
            · rw [if_neg j2, if_neg j2]
              show (s2.2.2 c).2 j = (kT ((upd rn (y + 1) (nI c) (y + 1)).toNatClampNeg * 4 + (nI j).toNatClampNeg), kD ((upd rn (y + 1) (nI c) (y + 1)).toNatClampNeg * 4 + (nI j).toNatClampNeg))
              rw [pk_us, nI_clamp (by omega), nI_clamp (by omega)]
              exact (x3 j hj (by rw [ffr, hf, decide_eq_false j2, decide_eq_false j1]; rfl)).symm
        have O3 := hI _ _ _ _ _ _ _ _ hH3 h9'
        generalize cc_ev K N A B C g (A (s2.2.2 c).1) (cc_arg N (s2.2.2 c) w1 w2) (s2.1 + 1, s2.2) = r at *
        obtain ⟨a4, i4, v4, y4, q4, en4, R4, c4, ok4, no4⟩ := O3
        have c4 : i4 + 50 * (60 - r.2.2.1) ≤ i2 + 1 + 2 * z (A (s2.2.2 c).1) + 50 * (60 - (s2.1 + 1)) := c4
        have R4' := cc_RX_t R (cc_RX_t R3 R4)
        by_cases k4 : r.1 = -1
        · obtain ⟨rfl, rfl, rfl, rfl, w1', w2', kp4, xc4⟩ := ok4 k4
          have bk4 : q4.2.2.1 (y + 1) = nI (a + cc_len K A B C (A x) + cc_len K A B C (B x) + 1) := by
            rw [(kp4.2.1 (y + 1) (by omega)).1, eq3]
            exact pk_us
          obtain ⟨tg4, dt4, bk5, rn4, ag4, ad4, sT4, sD4, cO4, kT4, kD4⟩ := q4
          have R5 := cc_x_ret (p := p) (t := t) (f := f) (sz := sz) (pd := pd) (cd := cd) (ex := ex) (ey := ey) (gc := gc) (ge := ge) (pf := pf) (k := nI r.2.2.1) (tg := tg4) (dt := dt4) (bk := bk5) (rn := rn4) (ag := ag4) (ad := ad4) (sT := sT4) (sD := sD4) (cO := cO4) (kT := kT4) (kD := kD4) (a := e0 + cc_len K A B C (A (s2.2.2 c).1)) (i := i4) (y := y) (b := a + cc_len K A B C (A x) + cc_len K A B C (B x) + 1) (vv := nI (v + 1)) (mm := nI r.2.2.2.1) (by omega) (by omega) (by omega) r3 bk4
          refine ⟨_, i4 + 1, v + 1, y + 1, _, -1, cc_RX_t R4' R5, by omega, fun _ => ⟨rfl, by omega, rfl, rfl, w1', w2', ?_, xc4⟩, fun h => absurd k4 h⟩
          rw [b0] at kp4
          refine cc_Kp_t (cc_Kp_t kp ?_ (Nat.le_refl _) (Nat.le_refl _) (Nat.le_refl _) l2) kp4 (Nat.le_refl _) (by omega) (by omega) l2
          rw [eq3]
          exact ⟨fun _ _ => ⟨rfl, rfl⟩, fun j hj => ⟨pk_un (by omega), pk_un (by omega), pk_un (by omega), pk_un (by omega)⟩, fun _ _ => ⟨rfl, rfl⟩, fun _ _ => rfl, fun _ _ => ⟨rfl, rfl⟩⟩
        · exact ⟨a4, i4, v4, y4, q4, en4, R4', by omega, fun h => absurd h k4, no4⟩
  · rw [if_neg t1]
    have R3 := cc_x_call2 (p := p) (t := t) (f := f) (sz := sz) (pd := pd) (cd := cd) (ex := ex) (ey := ey) (gc := gc) (ge := ge) (pf := pf) (k := nI s2.1) (tg := tg) (dt := dt) (bk := bk) (rn := rn) (ag := ag) (ad := ad) (sT := sT) (sD := sD) (cO := cO) (kT := kT) (kD := kD) (a := a + cc_len K A B C (A x) + cc_len K A B C (B x)) (i := i2) (v := v) (yy := nI (y + 1)) (mm := nI s2.2.1) (by omega) (by omega) ck (by omega) (fun h => t1 (g1.symm.trans h))
    exact ⟨_, i2 + 1, v, y + 1, _, 2, cc_RX_t R R3, by show i2 + 1 + 50 * (60 - s2.1) ≤ _; omega, fun h => absurd h (show ¬ (2 : Int32) = -1 by decide), fun _ => rfl⟩
end
end
section
/-! the component's run against the evaluator: bind, choose, all -/
section
variable {n : Nat} {K N W P : Nat → Int32} {A B C z : Nat → Nat} {fr : Nat → Nat → Bool} {D : List Nat} {p : cc_TP} {t : cc_TT} {f : cc_TF} {sz pd : Int32} {cd ex ey gc ge pf : Nat → Int32} {g x a i v y : Nat} {e : cc_E} {s : cc_S} {q : cc_TA}
theorem cc_xt6 {w : Nat} (hS : cc_SS n K N W P A B C z fr D cd ex ey gc ge) (hI : cc_XI n K N W P A B C z fr D p t f sz pd cd ex ey gc ge pf g) (hH : cc_XH n K N W P A B C z fr D cd ex gc ge x e s a i v y q) (hK : K x = 6) (hA : A x < x) (hB : B x < x) (hWA : W (A x) = nI x) (hpA : P (A x) = 0) (hWB : W (B x) = nI x) (hpB : P (B x) = 1) (hz : z x = 1 + z (A x) + z (B x)) (hw : w < 4) (hNx : N x = nI w) (hfr : ∀ v, fr x v = (fr (A x) v || (fr (B x) v && !decide (v = w)))) (h9 : (cc_ev K N A B C (g + 1) x e s).1 ≠ 9) : cc_XO K N W P A B C z fr D p t f sz pd cd ex ey gc ge pf x s a i v y q (cc_ev K N A B C (g + 1) x e s) := by
  rw [cc_ev6 hK] at h9 ⊢
  obtain ⟨⟨u1, u2, u3, u4, u5, u6, u7, u8⟩, hc, hE, hO, hX, hFr, hN⟩ := hH
  have c60 := hO.1
  have hn := hS.1
  have el := cc_len6 (C := C) hK hA hB
  have zA := cc_ss_z hS (x := A x) (by omega)
  have zB := cc_ss_z hS (x := B x) (by omega)
  have h7 : K x ≠ 7 := by rw [hK]; decide
  have h6 : ¬ (K x = 6 ∧ P (A x) = 1) := fun q => absurd (hpA.symm.trans q.2) (by decide)
  rw [cc_ca6 hK hA hB] at hc
  obtain ⟨cA, ck, ce, cB⟩ := hc
  have bA : cc_b K W P (A x) = cc_b K W P x := cc_b_p hWA hA (by omega) h7 h6
  have bB : cc_b K W P (B x) = cc_b K W P x + 1 := cc_b_2 hWB hB (by omega) hK hpB
  refine cc_x_part hS hI cc_RX_0 (cc_XH_p hS u1 hA hWA h7 h6 (by omega) (by omega) (by omega) u4 (by omega) (by omega) (by omega) cA hE hO hX hFr hN (fun v h => by rw [hfr, h]; rfl)) (by omega) h9 ?_
  intro w1 s1 i1 q1 R1 c1 l1 l2 l3 l4 VO1 SO1 g1 g2 kp1 xc1 h9'
  rw [bA] at kp1
  obtain ⟨tg, dt, bk, rn, ag, ad, sT, sD, cO, kT, kD⟩ := q1
  have g1 : tg v = w1.1 := g1
  have g2 : dt v = w1.2 := g2
  have R2 := cc_x_store (p := p) (t := t) (f := f) (sz := sz) (pd := pd) (cd := cd) (ex := ex) (ey := ey) (gc := gc) (ge := ge) (pf := pf) (k := nI s1.1) (tg := tg) (dt := dt) (bk := bk) (rn := rn) (ag := ag) (ad := ad) (sT := sT) (sD := sD) (cO := cO) (kT := kT) (kD := kD) (a := a + cc_len K A B C (A x)) (i := i1) (v := v) (y := y) (mm := nI s1.2.1) (s := cc_b K W P x) (by omega) (by omega) ck ce (by omega) (by omega) (by omega)
  obtain ⟨q2, eq2⟩ : ∃ q2 : cc_TA, q2 = (tg, dt, bk, rn, ag, ad, upd sT (y * 11 + cc_b K W P x) (tg v), upd sD (y * 11 + cc_b K W P x) (dt v), cO, kT, kD) := ⟨_, rfl⟩
  have R2 : cc_RX (a + cc_len K A B C (A x)) i1 (cc_xs p (sz, pd, cd, ex, ey, gc, ge, pf) t f (nI (v + 1), nI (y + 1), nI s1.2.1, nI s1.1, -1, tg, dt, bk, rn, ag, ad, sT, sD, cO, kT, kD)) (a + cc_len K A B C (A x) + 1) (i1 + 1) (cc_xs p (sz, pd, cd, ex, ey, gc, ge, pf) t f (nI v, nI (y + 1), nI s1.2.1, nI s1.1, -1, q2)) := by rw [eq2]; exact R2
  have kp12 : cc_Kp v y (cc_b K W P x) s1.2.1 (tg, dt, bk, rn, ag, ad, sT, sD, cO, kT, kD) q2 := by
    rw [eq2]
    exact ⟨fun _ _ => ⟨rfl, rfl⟩, fun _ _ => ⟨rfl, rfl, rfl, rfl⟩, fun j hj => ⟨pk_un (by omega), pk_un (by omega)⟩, fun _ _ => rfl, fun _ _ => ⟨rfl, rfl⟩⟩
  have kp2 : cc_Kp v y (cc_b K W P x) s.2.1 q q2 := cc_Kp_t kp1 kp12 (Nat.le_refl _) (Nat.le_refl _) (Nat.le_refl _) l2
  have hF2 := cc_Fr_k hFr kp2 l2
  have hN2 := cc_En_k hn hS.2.1 u1 (by omega) (Nat.le_refl _) (by omega) hFr kp2 hN
  have xc2 : cc_XC fr D s1 q2 := by rw [eq2]; exact xc1
  have lo2 : ∀ j, j < 4 → ¬ j = w → cc_lo K N W P j (B x) = cc_lo K N W P j x := fun j hj hjw => cc_lo_p hWB hB (by omega) h7 (fun c => hjw ((nI_eq (by omega) (by omega)).mp (hNx.symm.trans c.2.2)).symm)
  have loW : cc_lo K N W P w (B x) = (11, nI (cc_b K W P x), -1) := cc_lo_2 hWB hB (by omega) hK hpB hNx
  have hH2 : cc_XH n K N W P A B C z fr D cd ex gc ge (B x) (cc_set e w w1) s1 (a + cc_len K A B C (A x) + 1) (i1 + 1) v y q2 := by
    refine ⟨⟨by omega, by omega, by omega, by omega, by rw [bB]; omega, by omega, by omega, by omega⟩, cB, cc_EOs (cc_EOm hE l2) VO1, SO1, xc2, ?_, ?_⟩
    · obtain ⟨d, e1, e2⟩ := hF2
      refine ⟨d, e1, fun j hj => ?_⟩
      by_cases jw : j = w
      · rw [jw, loW]; intro h; exact absurd h (show ¬ (11 : Int32) = 14 by decide)
      · rw [lo2 j hj jw]; exact e2 j hj
    · intro j hj hf
      unfold cc_set
      by_cases jw : j = w
      · rw [if_pos jw, jw, loW, eq2]
        show w1 = (upd sT (y * 11 + cc_b K W P x) (tg v) (y * 11 + (nI (cc_b K W P x)).toNatClampNeg), upd sD (y * 11 + cc_b K W P x) (dt v) (y * 11 + (nI (cc_b K W P x)).toNatClampNeg))
        rw [nI_clamp (by omega), pk_us, pk_us, g1, g2]
      · rw [if_neg jw, lo2 j hj jw]
        exact hN2 j hj (by rw [hfr, hf, decide_eq_false jw]; simp)
  rw [hNx, nI_clamp (by omega), ← cc_th_id (cc_ev K N A B C g (B x) _ s1)] at h9' ⊢
  refine cc_x_part hS hI (cc_RX_t R1 R2) hH2 (by omega) h9' ?_
  intro w2 s2 i2 q3 R3 c3 m1 m2 m3 m4 VO2 SO2 g3 g4 kp3 xc3 _
  refine ⟨_, i2, v + 1, y + 1, q3, -1, R3, by show i2 + 50 * (60 - s2.1) ≤ _; omega, fun _ => ⟨rfl, by omega, rfl, rfl, g3, g4, ?_, xc3⟩, fun h => absurd rfl h⟩
  exact cc_Kp_t kp2 kp3 (Nat.le_refl _) (Nat.le_refl _) (by omega) l2
theorem cc_xt5 (hS : cc_SS n K N W P A B C z fr D cd ex ey gc ge) (hI : cc_XI n K N W P A B C z fr D p t f sz pd cd ex ey gc ge pf g) (hH : cc_XH n K N W P A B C z fr D cd ex gc ge x e s a i v y q) (hK : K x = 5) (hA : A x < x) (hB : B x < x) (hC : C x < x) (hWA : W (A x) = nI x) (hWB : W (B x) = nI x) (hWC : W (C x) = nI x) (hz : z x = 1 + z (A x) + z (B x) + z (C x)) (hfr : ∀ v, fr x v = (fr (A x) v || fr (B x) v || fr (C x) v)) (h9 : (cc_ev K N A B C (g + 1) x e s).1 ≠ 9) : cc_XO K N W P A B C z fr D p t f sz pd cd ex ey gc ge pf x s a i v y q (cc_ev K N A B C (g + 1) x e s) := by
  rw [cc_ev5 hK] at h9 ⊢
  obtain ⟨⟨u1, u2, u3, u4, u5, u6, u7, u8⟩, hc, hE, hO, hX, hFr, hN⟩ := hH
  have c60 := hO.1
  have hn := hS.1
  have el := cc_len5 hK hA hB hC
  have zA := cc_ss_z hS (x := A x) (by omega)
  have zB := cc_ss_z hS (x := B x) (by omega)
  have zC := cc_ss_z hS (x := C x) (by omega)
  have h7 : K x ≠ 7 := by rw [hK]; decide
  have h6 : ∀ c, ¬ (K x = 6 ∧ c) := fun c q => absurd (hK.symm.trans q.1) (by decide)
  rw [cc_ca5 hK hA hB hC] at hc
  obtain ⟨cA, ck, ce, cB, ck2, ce2, cC⟩ := hc
  have bA : cc_b K W P (A x) = cc_b K W P x := cc_b_p hWA hA (by omega) h7 (h6 _)
  have bB : cc_b K W P (B x) = cc_b K W P x := cc_b_p hWB hB (by omega) h7 (h6 _)
  have bC : cc_b K W P (C x) = cc_b K W P x := cc_b_p hWC hC (by omega) h7 (h6 _)
  refine cc_x_part hS hI cc_RX_0 (cc_XH_p hS u1 hA hWA h7 (h6 _) (by omega) (by omega) (by omega) u4 (by omega) (by omega) (by omega) cA hE hO hX hFr hN (fun v h => by rw [hfr, h]; rfl)) (by omega) h9 ?_
  intro w1 s1 i1 q1 R1 c1 l1 l2 l3 l4 VO1 SO1 g1 g2 kp1 xc1 h9'
  rw [bA] at kp1
  have hF1 := cc_Fr_k hFr kp1 l2
  have hN1 := cc_En_k hn hS.2.1 u1 (by omega) (Nat.le_refl _) (by omega) hFr kp1 hN
  obtain ⟨q1', eq1⟩ : ∃ q1' : cc_TA, q1' = q1 := ⟨_, rfl⟩
  obtain ⟨tg, dt, bk, rn, ag, ad, sT, sD, cO, kT, kD⟩ := q1
  have g1 : tg v = w1.1 := g1
  have g2 : dt v = w1.2 := g2
  have R2 := cc_x_jz (p := p) (t := t) (f := f) (sz := sz) (pd := pd) (cd := cd) (ex := ex) (ey := ey) (gc := gc) (ge := ge) (pf := pf) (k := nI s1.1) (tg := tg) (dt := dt) (bk := bk) (rn := rn) (ag := ag) (ad := ad) (sT := sT) (sD := sD) (cO := cO) (kT := kT) (kD := kD) (a := a + cc_len K A B C (A x)) (i := i1) (v := v) (yy := nI (y + 1)) (mm := nI s1.2.1) (b := a + cc_len K A B C (A x) + cc_len K A B C (B x) + 2) (by omega) (by omega) ck ce (by omega)
  by_cases t1 : w1.1 = 0
  · rw [if_pos t1] at h9' ⊢
    rw [if_pos (g1.trans t1)] at R2
    by_cases t2 : w1.2 = 0
    · rw [if_pos t2] at h9' ⊢
      rw [if_pos (g2.trans t2)] at R2
      rw [← cc_th_id (cc_ev K N A B C g (C x) e s1)] at h9' ⊢
      refine cc_x_part hS hI (cc_RX_t R1 R2) (cc_XH_p hS u1 hC hWC h7 (h6 _) (by omega) (by omega) (by omega) (by omega) (by omega) (by omega) (by omega) cC (cc_EOm hE l2) SO1 xc1 hF1 hN1 (fun v h => by rw [hfr, h, Bool.or_true])) (by omega) h9' ?_
      intro w2 s2 i2 q3 R3 c3 m1 m2 m3 m4 VO2 SO2 g3 g4 kp3 xc3 _
      rw [bC] at kp3
      exact ⟨_, i2, v + 1, y + 1, q3, -1, R3, by show i2 + 50 * (60 - s2.1) ≤ _; omega, fun _ => ⟨rfl, by omega, rfl, rfl, g3, g4, cc_Kp_t kp1 kp3 (Nat.le_refl _) (Nat.le_refl _) (Nat.le_refl _) l2, xc3⟩, fun h => absurd rfl h⟩
    · rw [if_neg t2] at h9' ⊢
      rw [if_neg (fun h => t2 (g2.symm.trans h))] at R2
      rw [← cc_th_id (cc_ev K N A B C g (B x) e s1)] at h9' ⊢
      refine cc_x_part hS hI (cc_RX_t R1 R2) (cc_XH_p hS u1 hB hWB h7 (h6 _) (by omega) (by omega) (by omega) (by omega) (by omega) (by omega) (by omega) cB (cc_EOm hE l2) SO1 xc1 hF1 hN1 (fun v h => by rw [hfr, h, Bool.or_true]; rfl)) (by omega) h9' ?_
      intro w2 s2 i2 q3 R3 c3 m1 m2 m3 m4 VO2 SO2 g3 g4 kp3 xc3 _
      rw [bB] at kp3
      obtain ⟨tg3, dt3, bk3, rn3, ag3, ad3, sT3, sD3, cO3, kT3, kD3⟩ := q3
      have R4 := cc_x_jmp (p := p) (t := t) (f := f) (sz := sz) (pd := pd) (cd := cd) (ex := ex) (ey := ey) (gc := gc) (ge := ge) (pf := pf) (k := nI s2.1) (tg := tg3) (dt := dt3) (bk := bk3) (rn := rn3) (ag := ag3) (ad := ad3) (sT := sT3) (sD := sD3) (cO := cO3) (kT := kT3) (kD := kD3) (a := a + cc_len K A B C (A x) + 1 + cc_len K A B C (B x)) (i := i2) (vv := nI (v + 1)) (yy := nI (y + 1)) (mm := nI s2.2.1) (by omega) (by omega) ck2 ce2
      exact ⟨_, i2 + 1, v + 1, y + 1, _, -1, cc_RX_t R3 R4, by show i2 + 1 + 50 * (60 - s2.1) ≤ _; omega, fun _ => ⟨rfl, by omega, rfl, rfl, g3, g4, cc_Kp_t kp1 kp3 (Nat.le_refl _) (Nat.le_refl _) (Nat.le_refl _) l2, xc3⟩, fun h => absurd rfl h⟩
  · rw [if_neg t1]
    rw [if_neg (fun h => t1 (g1.symm.trans h))] at R2
    exact ⟨_, i1 + 1, v, y + 1, _, 2, cc_RX_t R1 R2, by show i1 + 1 + 50 * (60 - s1.1) ≤ _; omega, fun h => absurd h (show ¬ (2 : Int32) = -1 by decide), fun _ => rfl⟩
theorem cc_xt (hS : cc_SS n K N W P A B C z fr D cd ex ey gc ge) : ∀ g, cc_XI n K N W P A B C z fr D p t f sz pd cd ex ey gc ge pf g := by
  intro g
  induction g with
  | zero => intro x e s a i v y q hH h9; exact absurd rfl h9
  | succ g ih =>
    intro x e s a i v y q hH h9
    rcases hS.2.2.1 x hH.1.1 with h | h | h | h | h | ⟨k, hk, h⟩
    · rw [cc_ev8 h.1]
      exact cc_xt8 hS hH h.1
    · obtain ⟨k9, _, w, hw, hN, hf⟩ := h
      rw [cc_ev9 k9]
      exact cc_xt9 hS hH k9 hw hN (by rw [hf]; exact decide_eq_true rfl)
    · rw [cc_ev7 h.1]
      exact cc_xt7 hS hH h.1
    · obtain ⟨h6, hA, hB, hWA, hpA, hWB, hpB, hzx, w, hw, hN, hf⟩ := h
      exact cc_xt6 hS ih hH h6 hA hB hWA hpA hWB hpB hzx hw hN hf h9
    · obtain ⟨h5, hA, hB, hC, hWA, hpA, hWB, hpB, hWC, hpC, hzx, hf⟩ := h
      exact cc_xt5 hS ih hH h5 hA hB hC hWA hWB hWC hzx hf h9
    · obtain ⟨hkx, hA, hB, hWA, hpA, hWB, hpB, hzx, hf⟩ := h
      by_cases k4 : k = 4
      · exact cc_xt4 hS ih hH (by rw [hkx, k4]; rfl) hA hB hWA hWB hzx hf h9
      · exact cc_xt0 hS ih hH (k := k) (by omega) hkx hA hB hWA hWB hzx hf h9
end
end
section
/-! execute, as a whole -/
def cc_e_0 : cc_E := fun _ => (2, 0)
def cc_s_0 : cc_S := (0, 0, fun _ => (0, cc_e_0))
section
variable {n : Nat} {K N W P : Nat → Int32} {A B C z : Nat → Nat} {fr : Nat → Nat → Bool} {cn : Int32} {PA PB PC sk : Nat → Int32} {c : cc_TC} {t : cc_TT} {f : cc_TF} {r0 : cc_TR}
theorem cc_so0 : cc_SO n K z cc_s_0 := ⟨by decide, fun c hc => absurd hc (Nat.not_lt_zero c)⟩
theorem cc_eo0 : cc_EO cc_s_0.2.1 cc_e_0 := fun _ => Or.inl rfl
/-- what the run of x is, in the end: its code, its value -/
def cc_end (r : cc_R) : Int32 := if r.1 = -1 then r.2.1.1 else r.1
theorem cc_end_r {y : Nat} {s : cc_S} {r : cc_R} (h : cc_Q n K z y s r) (h9 : r.1 ≠ 9) : (cc_end r = 0 ∨ cc_end r = 1 ∨ cc_end r = 2 ∨ cc_end r = 3) ∧ (cc_end r = 0 → r.1 = -1) := by
  unfold cc_end
  obtain ⟨h1, _, _, _, _, h2, _⟩ := h
  rcases h1 with h1 | h1 | h1 | h1
  · rw [if_pos h1]
    rcases h2 h1 with w | w
    · exact ⟨Or.inl w, fun _ => h1⟩
    · exact ⟨Or.inr (Or.inl w.1), fun _ => h1⟩
  · rw [if_neg (by rw [h1]; decide), h1]
    exact ⟨Or.inr (Or.inr (Or.inl rfl)), fun h => absurd h (by decide)⟩
  · rw [if_neg (by rw [h1]; decide), h1]
    exact ⟨Or.inr (Or.inr (Or.inr rfl)), fun h => absurd h (by decide)⟩
  · exact absurd h1 h9
theorem cc_exec (hn : n ≤ 24) (hU : ∀ x, x < n → cc_Up n W x) (hP : ∀ x, x < n → cc_Nd K N W P A B C z fr x) (hX : ∀ x, x < n → cc_XP K PA PB PC A B C x) {x h : Nat} (hx : x < n) (hz : z x ≤ 24) (hr : W x = -1) (hh : h < 6) (hs : sk h = nI x) :
    ∃ (c' : cc_TC) (t' : cc_TT) (f' : cc_TF) (vv yy : Int32) (q' : cc_TA), ((cc_ev K N A B C 2000 x cc_e_0 cc_s_0).1 = -1 → vv = nI 1 ∧ q'.2.1 0 = (cc_ev K N A B C 2000 x cc_e_0 cc_s_0).2.1.2) ∧
      ∀ post : SX → Prop, post (cc_xs (cn, nI (h + 1), K, PA, PB, PC, N, W, P, sk) c' t' f' (vv, yy, nI (cc_ev K N A B C 2000 x cc_e_0 cc_s_0).2.2.2.1, nI (cc_ev K N A B C 2000 x cc_e_0 cc_s_0).2.2.1, cc_end (cc_ev K N A B C 2000 x cc_e_0 cc_s_0), q')) → wpX_execute post (cc_xs (cn, nI (h + 1), K, PA, PB, PC, N, W, P, sk) c t f r0) := by
  obtain ⟨D, sz, cd, ex, ey, gc, ge, pf, t1, f1, ⟨⟨⟨m1, m2, m3⟩, hR, hG, hD, _⟩, hsz⟩, hC⟩ := cc_cAll (cn := cn) (hg := nI (h + 1)) (PA := PA) (PB := PB) (PC := PC) (sk := sk) (c := c) (t := t) (f := f) (r := r0) hn hU hP hX hx hz
  rw [List.append_nil] at m1 hR hD
  have hS : cc_SS n K N W P A B C z fr D cd ex ey gc ge := by
    refine ⟨hn, hU, hP, fun f hf => ?_, hG, hD⟩
    obtain ⟨e, e1, e2, e3, e4⟩ := hR f hf
    exact ⟨e, e1, e2, e3, by omega⟩
  have zx := cc_z1 (hP x hx)
  have lx := cc_len_z hP x hx
  obtain ⟨w1, w2, w3, w4, w5, tg, dt, bk, rn, ag, ad, sT, sD, cO, kT, kD⟩ := r0
  have b0 : cc_b K W P x = 0 := cc_b_r hr
  have hH : cc_XH n K N W P A B C z fr D cd ex gc ge x cc_e_0 cc_s_0 0 0 0 0 (tg, dt, upd bk 0 0, upd rn 0 0, ag, ad, sT, sD, cO, kT, kD) := by
    refine ⟨⟨hx, hz, by omega, Nat.le_refl _, by omega, by show _ + 22 * (60 - 0) ≤ _; omega, by show _ + 50 * (60 - 0) ≤ _; omega, by show 2 * 0 + _ + 24 * (60 - 0) ≤ _; omega⟩, m1, cc_eo0, cc_so0, fun c hc => absurd hc (Nat.not_lt_zero c), ⟨0, rfl, fun v _ q => ?_⟩, fun v _ _ => ?_⟩
    · rw [cc_lo_r hr] at q
      exact absurd q (show ¬ (15 : Int32) = 14 by decide)
    · rw [cc_lo_r hr]; rfl
  have h9 : (cc_ev K N A B C 2000 x cc_e_0 cc_s_0).1 ≠ 9 := cc_ev_fuel hn hP 2000 x cc_e_0 cc_s_0 (by show 25 * (60 - 0) + x < 2000; omega) hx hz cc_eo0 cc_so0 (by show 2 * 0 + z x + 24 * (60 - 0) < _; omega)
  have Q := cc_ev_ok hP 2000 x cc_e_0 cc_s_0 hx hz cc_eo0 cc_so0 (by show 2 * 0 + z x + 24 * (60 - 0) < _; omega)
  have E := (cc_end_r Q h9).1
  have O := cc_xt (p := (cn, nI (h + 1), K, PA, PB, PC, N, W, P, sk)) (t := t1) (f := f1) (sz := nI sz) (pd := nI D.length) (pf := pf) hS 2000 x cc_e_0 cc_s_0 0 0 0 0 _ hH h9
  generalize cc_ev K N A B C 2000 x cc_e_0 cc_s_0 = r at *
  obtain ⟨a', i', v', y', q', en, ⟨k, ek, R⟩, c1, ok, no⟩ := O
  have c1 : i' + 50 * (60 - r.2.2.1) ≤ 0 + 2 * z x + 50 * (60 - 0) := c1
  have e1 : nI (h + 1) - 1 = nI h := nI_pred h
  have i1 : vp_in (nI (h + 1) - 1) 6 := by rw [e1]; exact vp_in_nI hh (by omega)
  have e2 : sk (nI (h + 1) - 1).toNatClampNeg = nI x := by rw [e1, nI_clamp (by omega)]; exact hs
  have fin : ∀ post : SX → Prop, (∃ n : Nat, cc_LX post n (nI 0) (nI 0) (cc_xs (cn, nI (h + 1), K, PA, PB, PC, N, W, P, sk) (nI sz, nI D.length, cd, ex, ey, gc, ge, pf) t1 f1 (nI 0, nI (0 + 1), nI 0, nI 0, -1, (tg, dt, upd bk 0 0, upd rn 0 0, ag, ad, sT, sD, cO, kT, kD)))) → wpX_execute post (cc_xs (cn, nI (h + 1), K, PA, PB, PC, N, W, P, sk) c t f (w1, w2, w3, w4, w5, tg, dt, bk, rn, ag, ad, sT, sD, cO, kT, kD)) := by
    intro post hp
    refine And.intro i1 ?_
    show wpX_compileAll _ _ (sk (nI (h + 1) - 1).toNatClampNeg)
    rw [e2]
    exact hC _ (nm_e (nm_e hp))
  by_cases r1 : r.1 = -1
  · obtain ⟨rfl, rfl, rfl, rfl, g1, g2, kp, xc⟩ := ok r1
    have b1 : q'.2.2.1 0 = nI 0 := (kp.2.1 0 (by omega)).1
    obtain ⟨tg', dt', bk', rn', ag', ad', sT', sD', cO', kT', kD'⟩ := q'
    have e3 : cc_end r = tg' 0 := by
      unfold cc_end
      rw [if_pos r1]
      exact g1.symm
    obtain ⟨k2, ek2, R2⟩ := cc_x_ret0 (p := (cn, nI (h + 1), K, PA, PB, PC, N, W, P, sk)) (t := t1) (f := f1) (sz := nI sz) (pd := nI D.length) (cd := cd) (ex := ex) (ey := ey) (gc := gc) (ge := ge) (pf := pf) (k := nI r.2.2.1) (tg := tg') (dt := dt') (bk := bk') (rn := rn') (ag := ag') (ad := ad') (sT := sT') (sD := sD') (cO := cO') (kT := kT') (kD := kD') (v := 0) (a := 0 + cc_len K A B C x) (i := i') (b := 0) (mm := nI r.2.2.2.1) (by omega) (by omega) (by omega) (by rw [Nat.zero_add]; exact m2) b1
    refine ⟨(nI sz, nI D.length, cd, ex, ey, gc, ge, pf), t1, f1, nI 1, nI 0, (tg', dt', bk', rn', ag', ad', sT', sD', cO', kT', kD'), fun _ => ⟨rfl, g2⟩, fun post hp => fin post ⟨1 + k2 + k, R post (1 + k2) (R2 post 1 ?_)⟩⟩
    rw [e3] at E hp
    refine cc_LX_e (by omega) ?_ hp
    rcases E with w | w | w | w <;> rw [w] <;> decide
  · have e3 : cc_end r = r.1 := by unfold cc_end; rw [if_neg r1]
    have e4 := no r1
    refine ⟨(nI sz, nI D.length, cd, ex, ey, gc, ge, pf), t1, f1, nI v', nI y', q', fun q => absurd q r1, fun post hp => fin post ⟨1 + k, R post 1 ?_⟩⟩
    rw [e4, ← e3]
    obtain ⟨tg', dt', bk', rn', ag', ad', sT', sD', cO', kT', kD'⟩ := q'
    refine cc_LX_e (by omega) ?_ hp
    rcases E with w | w | w | w <;> rw [w] <;> decide
end
end
section
/-! the reference: its small methods -/
section
variable {q : cc_TQ} {cl wa he ca en : Int32} {me mt cs wt vl ic : Nat → Int32}
theorem cc_vb0 : vp_nar .boolean 0 = 0 := rfl
theorem cc_vb1 : vp_nar .boolean 1 = 1 := rfl
theorem cc_vb {b : Nat} (h : b < 2) : vp_nar .boolean (nI b) = nI b := by
  rcases (show b = 0 ∨ b = 1 by omega) with h | h <;> rw [h] <;> rfl
theorem cc_hold {post : SY → Prop} {li : Int32} {h b : Nat} {d : Int32} (hh : h < 680) (hb : b < 2) (hp : post (cc_ys q (li, cl, wa, nI (h + 1), ca, en, me, mt, cs, wt, upd vl h d, upd ic h (nI b)))) : wpY_hold post (cc_ys q (li, cl, wa, nI h, ca, en, me, mt, cs, wt, vl, ic)) (nI b) d := by
  have e1 : (nI h).toNatClampNeg = h := nI_clamp (by omega)
  have i1 : vp_in (nI h) 680 := vp_in_nI hh (by omega)
  have e2 : upd ic (nI h).toNatClampNeg (vp_nar .boolean (nI b)) = upd ic h (nI b) := by rw [e1, cc_vb hb]
  exact And.intro i1 (nm_r (cc_u vl e1 d) (And.intro i1 (nm_r e2 (nm_r (nI_1 h) hp))))
theorem cc_pack (l x s : Nat) : (32 * nI l + nI x) * 4 + nI s = nI ((32 * l + x) * 4 + s) := by
  rw [show (32 : Int32) = nI 32 from rfl, show (4 : Int32) = nI 4 from rfl, pk_mul, nI_add, pk_mul, nI_add]
theorem cc_wait {post : SY → Prop} {li : Int32} {w l x s : Nat} (hw : w < 680) (hp : post (cc_ys q (li, cl, nI (w + 1), he, ca, en, me, mt, cs, upd wt w (nI ((32 * l + x) * 4 + s)), vl, ic))) : wpY_wait post (cc_ys q (li, cl, nI w, he, ca, en, me, mt, cs, wt, vl, ic)) (nI x) (nI s) (nI l) := by
  have e1 : (nI w).toNatClampNeg = w := nI_clamp (by omega)
  have i1 : vp_in (nI w) 680 := vp_in_nI hw (by omega)
  have e2 : upd wt (nI w).toNatClampNeg ((32 * nI l + nI x) * 4 + nI s) = upd wt w (nI ((32 * l + x) * 4 + s)) := by rw [e1, cc_pack]
  exact And.intro i1 (nm_r e2 (nm_r (nI_1 w) hp))
theorem cc_mean {post : Int32 → SY → Prop} {L l m b : Nat} {d : Int32} (hL : L < 800) (hb : b < 2) (hp : post (nI (L + 1)) (cc_ys q (nI (L + 1), cl, wa, he, ca, en, upd me L (nI (8 * l + 2 * m + b)), upd mt L d, cs, wt, vl, ic))) : wpY_mean post (cc_ys q (nI L, cl, wa, he, ca, en, me, mt, cs, wt, vl, ic)) (nI l) (nI m) (nI b) d := by
  have e1 : (nI L).toNatClampNeg = L := nI_clamp (by omega)
  have i1 : vp_in (nI L) 800 := vp_in_nI hL (by omega)
  have e3 : 8 * nI l + 2 * nI m = nI (8 * l + 2 * m) := by rw [show (8 : Int32) = nI 8 from rfl, show (2 : Int32) = nI 2 from rfl, pk_mul, pk_mul, nI_add]
  rcases (show b = 0 ∨ b = 1 by omega) with h | h
  · subst h
    have e2 : upd me (nI L).toNatClampNeg ((8 * nI l + 2 * nI m) + 0) = upd me L (nI (8 * l + 2 * m + 0)) := by rw [e1, e3, show (0 : Int32) = nI 0 from rfl, nI_add]
    exact br_t (show nI 0 = 0 from rfl) (And.intro i1 (nm_r e2 (And.intro i1 (nm_r (cc_u mt e1 d) (nm_r (nI_1 L) hp)))))
  · subst h
    have e2 : upd me (nI L).toNatClampNeg ((8 * nI l + 2 * nI m) + 1) = upd me L (nI (8 * l + 2 * m + 1)) := by rw [e1, e3, nI_1]
    exact br_f (show ¬ nI 1 = 0 by decide) (And.intro i1 (nm_r e2 (And.intro i1 (nm_r (cc_u mt e1 d) (nm_r (nI_1 L) hp)))))
end
/-- the lists of meanings: E l is what list l says -/
def cc_WL (L : Nat) (me mt : Nat → Int32) (E : Nat → cc_E) : Prop := E 0 = cc_e_0 ∧ ∀ j, j < L → ∃ l m b, l ≤ j ∧ m < 4 ∧ b < 2 ∧ me j = nI (8 * l + 2 * m + b) ∧ E (j + 1) = cc_set (E l) m (nI b, mt j)
theorem cc_dec1 {l m b : Nat} (hl : l < 1000) (hm : m < 4) (hb : b < 2) : nI (8 * l + 2 * m + b) / 2 - nI (8 * l + 2 * m + b) / 2 / 4 * 4 = nI m ∧ nI (8 * l + 2 * m + b) / 8 = nI l ∧ nI (8 * l + 2 * m + b) - nI (8 * l + 2 * m + b) / 2 * 2 = nI b := by
  have h2 : nI (8 * l + 2 * m + b) / 2 = nI (4 * l + m) := by
    rw [show (2 : Int32) = nI 2 from rfl, pk_div (by omega) (by omega) (by omega)]
    exact congrArg nI (by omega)
  refine ⟨?_, ?_, ?_⟩
  · rw [h2, show (4 : Int32) = nI 4 from rfl, pk_rem (by omega) (by omega) (by omega)]
    exact congrArg nI (by omega)
  · rw [show (8 : Int32) = nI 8 from rfl, pk_div (by omega) (by omega) (by omega)]
    exact congrArg nI (by omega)
  · rw [show (2 : Int32) = nI 2 from rfl, pk_rem (by omega) (by omega) (by omega)]
    exact congrArg nI (by omega)
section
variable {f_made f_depth f_closed f_waiting f_called : Int32} {a_kinds a_parts a_notes a_frees a_stack a_closures a_waits : Nat → Int32}
theorem cc_lul {post : SY → Prop} {L h v : Nat} {en : Int32} {me mt vl ic : Nat → Int32} {E : Nat → cc_E} (hL : L ≤ 800) (hh : h < 680) (hv : v < 4) (hE : cc_WL L me mt E) : ∀ (n l : Nat), l < n → l ≤ L →
    post (if (E l v).1 = 2 then (f_made, f_depth, nI L, f_closed, f_waiting, nI h, f_called, 2, a_kinds, a_parts, a_notes, a_frees, a_stack, me, mt, a_closures, a_waits, vl, ic) else (f_made, f_depth, nI L, f_closed, f_waiting, nI (h + 1), f_called, en, a_kinds, a_parts, a_notes, a_frees, a_stack, me, mt, a_closures, a_waits, upd vl h (E l v).2, upd ic h (E l v).1)) →
    wY_lookUp_2 post (nI v) f_made f_depth (nI L) f_closed f_waiting (nI h) f_called en a_kinds a_parts a_notes a_frees a_stack me mt a_closures a_waits vl ic n (nI l) := by
  intro n
  induction n with
  | zero => intro l hl; omega
  | succ n ih =>
    intro l hl hlL hp
    cases l with
    | zero =>
      rw [hE.1, if_pos (show (cc_e_0 v).1 = 2 from rfl)] at hp
      exact br_t (show nI 0 ≤ 0 by decide) (br_t (show nI 0 = 0 from rfl) hp)
    | succ j =>
      obtain ⟨l', m, b, h1, h2, h3, h4, h5⟩ := hE.2 j (by omega)
      have ⟨d1, d2, d3⟩ := cc_dec1 (l := l') (by omega) h2 h3
      have e1 : nI (j + 1) - 1 = nI j := nI_pred j
      have i1 : vp_in (nI (j + 1) - 1) 800 := by rw [e1]; exact vp_in_nI (by omega) (by omega)
      have e2 : me (nI (j + 1) - 1).toNatClampNeg = nI (8 * l' + 2 * m + b) := by rw [e1, nI_clamp (by omega)]; exact h4
      have t1 : me (nI (j + 1) - 1).toNatClampNeg / 2 - me (nI (j + 1) - 1).toNatClampNeg / 2 / 4 * 4 = nI m := by rw [e2]; exact d1
      have t2 : me (nI (j + 1) - 1).toNatClampNeg / 8 = nI l' := by rw [e2]; exact d2
      have t3 : me (nI (j + 1) - 1).toNatClampNeg - me (nI (j + 1) - 1).toNatClampNeg / 2 * 2 = nI b := by rw [e2]; exact d3
      have t4 : mt (nI (j + 1) - 1).toNatClampNeg = mt j := by rw [e1, nI_clamp (by omega)]
      have n2 : ¬ (2 : Int32) = 0 := by decide
      have n4 : ¬ (4 : Int32) = 0 := by decide
      have n8 : ¬ (8 : Int32) = 0 := by decide
      refine br_f (nI_nle (by omega) (by omega)) (And.intro i1 (And.intro n2 (And.intro n4 ?_)))
      by_cases mv : m = v
      · have eE : E (j + 1) v = (nI b, mt j) := by
          rw [h5]; unfold cc_set; exact if_pos mv.symm
        rw [eE] at hp
        have nb : ¬ ((nI b, mt j) : cc_V).1 = 2 := by
          rcases (show b = 0 ∨ b = 1 by omega) with h | h <;> rw [h]
          · exact (show ¬ nI 0 = 2 by decide)
          · exact (show ¬ nI 1 = 2 by decide)
        rw [if_neg nb] at hp
        refine br_t (t1.trans (congrArg nI mv)) (br_f (nI_ne0 (by omega) (by omega)) (And.intro i1 (And.intro n2 ?_)))
        have H : ∀ z : Int32, z = nI b → wpY_hold post (f_made, f_depth, nI L, f_closed, f_waiting, nI h, f_called, en, a_kinds, a_parts, a_notes, a_frees, a_stack, me, mt, a_closures, a_waits, vl, ic) z (mt (nI (j + 1) - 1).toNatClampNeg) := by
          intro z hz
          rw [hz, t4]
          exact cc_hold (q := (f_made, f_depth, a_kinds, a_parts, a_notes, a_frees, a_stack)) (cs := a_closures) (wt := a_waits) (me := me) (mt := mt) (vl := vl) (ic := ic) hh h3 hp
        by_cases b1 : b = 1
        · exact br_t (t3.trans (congrArg nI b1)) (And.intro i1 (H 1 (congrArg nI b1).symm))
        · have b0 : b = 0 := by omega
          exact br_f (by rw [t3, b0]; decide) (And.intro i1 (H 0 (congrArg nI b0).symm))
      · have eE : E (j + 1) v = E l' v := by
          rw [h5]; unfold cc_set; exact if_neg (fun q => mv q.symm)
        rw [eE] at hp
        refine br_f (fun q => mv ((nI_eq (by omega) (by omega)).mp (t1.symm.trans q))) (And.intro i1 (And.intro n8 (nm_r (e' := nI l') t2 (ih l' (by omega) (by omega) hp))))
end
end
section
/-! the reference: one turn of its work -/
def cc_LY (post : SY → Prop) (n : Nat) (u : SY) : Prop := wY_work_55 post n u.1 u.2.1 u.2.2.1 u.2.2.2.1 u.2.2.2.2.1 u.2.2.2.2.2.1 u.2.2.2.2.2.2.1 u.2.2.2.2.2.2.2.1 u.2.2.2.2.2.2.2.2.1 u.2.2.2.2.2.2.2.2.2.1 u.2.2.2.2.2.2.2.2.2.2.1 u.2.2.2.2.2.2.2.2.2.2.2.1 u.2.2.2.2.2.2.2.2.2.2.2.2.1 u.2.2.2.2.2.2.2.2.2.2.2.2.2.1 u.2.2.2.2.2.2.2.2.2.2.2.2.2.2.1 u.2.2.2.2.2.2.2.2.2.2.2.2.2.2.2.1 u.2.2.2.2.2.2.2.2.2.2.2.2.2.2.2.2.1 u.2.2.2.2.2.2.2.2.2.2.2.2.2.2.2.2.2.1 u.2.2.2.2.2.2.2.2.2.2.2.2.2.2.2.2.2.2
def cc_RY (u u' : SY) : Prop := ∃ k, ∀ (post : SY → Prop) (n : Nat), cc_LY post n u' → cc_LY post (n + k) u
theorem cc_RY_0 {u : SY} : cc_RY u u := ⟨0, fun _ _ h => h⟩
theorem cc_RY_t {u u1 u2 : SY} (h : cc_RY u u1) (h' : cc_RY u1 u2) : cc_RY u u2 := by
  obtain ⟨k, f⟩ := h
  obtain ⟨k', f'⟩ := h'
  refine ⟨k' + k, fun post n q => ?_⟩
  rw [← Nat.add_assoc]
  exact f post (n + k') (f' post n q)
theorem cc_dec2 {l x s : Nat} (hl : l < 1000) (hx : x < 32) (hs : s < 4) : nI ((32 * l + x) * 4 + s) - nI ((32 * l + x) * 4 + s) / 4 * 4 = nI s ∧ nI ((32 * l + x) * 4 + s) / 4 - nI ((32 * l + x) * 4 + s) / 4 / 32 * 32 = nI x ∧ nI ((32 * l + x) * 4 + s) / 128 = nI l := by
  have h2 : nI ((32 * l + x) * 4 + s) / 4 = nI (32 * l + x) := by
    rw [show (4 : Int32) = nI 4 from rfl, pk_div (by omega) (by omega) (by omega)]
    exact congrArg nI (by omega)
  refine ⟨?_, ?_, ?_⟩
  · rw [show (4 : Int32) = nI 4 from rfl, pk_rem (by omega) (by omega) (by omega)]
    exact congrArg nI (by omega)
  · rw [h2, show (32 : Int32) = nI 32 from rfl, pk_rem (by omega) (by omega) (by omega)]
    exact congrArg nI (by omega)
  · rw [show (128 : Int32) = nI 128 from rfl, pk_div (by omega) (by omega) (by omega)]
    exact congrArg nI (by omega)
section
variable {q q' : cc_TQ} {s' : cc_TS} {li cl he ca : Int32} {me mt cs wt vl ic : Nat → Int32} {w l x s : Nat}
theorem cc_RY_b (hw : w < 680) (hl : l < 1000) (hx : x < 32) (hwt : wt w = nI ((32 * l + x) * 4 + 0)) (h : ∀ post : SY → Prop, post (cc_ys q' s') → wpY_begin post (cc_ys q (li, cl, nI w, he, ca, -4, me, mt, cs, wt, vl, ic)) (nI x) (nI l)) : cc_RY (cc_ys q (li, cl, nI (w + 1), he, ca, -4, me, mt, cs, wt, vl, ic)) (cc_ys q' s') := by
  have ⟨d1, d2, d3⟩ := cc_dec2 (s := 0) hl hx (by omega)
  have e1 : (nI w).toNatClampNeg = w := nI_clamp (by omega)
  have i1 : vp_in (nI w) 680 := vp_in_nI hw (by omega)
  have e2 : wt (nI w).toNatClampNeg = nI ((32 * l + x) * 4 + 0) := by rw [e1]; exact hwt
  have t1 : wt (nI w).toNatClampNeg - wt (nI w).toNatClampNeg / 4 * 4 = nI 0 := by rw [e2]; exact d1
  have t2 : wt (nI w).toNatClampNeg / 4 - wt (nI w).toNatClampNeg / 4 / 32 * 32 = nI x := by rw [e2]; exact d2
  have t3 : wt (nI w).toNatClampNeg / 128 = nI l := by rw [e2]; exact d3
  have n4 : ¬ (4 : Int32) = 0 := by decide
  have n32 : ¬ (32 : Int32) = 0 := by decide
  have n128 : ¬ (128 : Int32) = 0 := by decide
  refine ⟨1, fun post n hL => br_f (nI_nle (n := w + 1) (by omega) (by omega)) (br_t rfl (nm_r (e' := nI w) (nI_pred w) (And.intro i1 (And.intro n4 (nm_r (e' := nI 0) t1 (And.intro i1 (And.intro n4 (And.intro n32 (nm_r (e' := nI x) t2 (And.intro i1 (And.intro n128 (nm_r (e' := nI l) t3 (br_t (show nI 0 = 0 from rfl) (h _ ?_))))))))))))))⟩
  exact hL
theorem cc_RY_g (hw : w < 680) (hl : l < 1000) (hx : x < 32) (hs : s < 4) (h0 : 0 < s) (hwt : wt w = nI ((32 * l + x) * 4 + s)) (h : ∀ post : SY → Prop, post (cc_ys q' s') → wpY_goOn post (cc_ys q (li, cl, nI w, he, ca, -4, me, mt, cs, wt, vl, ic)) (nI x) (nI s) (nI l)) : cc_RY (cc_ys q (li, cl, nI (w + 1), he, ca, -4, me, mt, cs, wt, vl, ic)) (cc_ys q' s') := by
  have ⟨d1, d2, d3⟩ := cc_dec2 (s := s) hl hx hs
  have e1 : (nI w).toNatClampNeg = w := nI_clamp (by omega)
  have i1 : vp_in (nI w) 680 := vp_in_nI hw (by omega)
  have e2 : wt (nI w).toNatClampNeg = nI ((32 * l + x) * 4 + s) := by rw [e1]; exact hwt
  have t1 : wt (nI w).toNatClampNeg - wt (nI w).toNatClampNeg / 4 * 4 = nI s := by rw [e2]; exact d1
  have t2 : wt (nI w).toNatClampNeg / 4 - wt (nI w).toNatClampNeg / 4 / 32 * 32 = nI x := by rw [e2]; exact d2
  have t3 : wt (nI w).toNatClampNeg / 128 = nI l := by rw [e2]; exact d3
  have n4 : ¬ (4 : Int32) = 0 := by decide
  have n32 : ¬ (32 : Int32) = 0 := by decide
  have n128 : ¬ (128 : Int32) = 0 := by decide
  refine ⟨1, fun post n hL => br_f (nI_nle (n := w + 1) (by omega) (by omega)) (br_t rfl (nm_r (e' := nI w) (nI_pred w) (And.intro i1 (And.intro n4 (nm_r (e' := nI s) t1 (And.intro i1 (And.intro n4 (And.intro n32 (nm_r (e' := nI x) t2 (And.intro i1 (And.intro n128 (nm_r (e' := nI l) t3 (br_f (nI_ne0 h0 (by omega)) (h _ ?_))))))))))))))⟩
  exact hL
end
section
variable {cn hg : Int32} {K YP YN YF sk : Nat → Int32} {ca en : Int32} {me mt cs wt vl ic : Nat → Int32} {L m w h l x : Nat} {post : SY → Prop}
theorem cc_b8 {li cl wa : Int32} (hx : x < 24) (hh : h < 680) (h8 : K x = 8) (hp : post (cc_ys (cn, hg, K, YP, YN, YF, sk) (li, cl, wa, nI (h + 1), ca, en, me, mt, cs, wt, upd vl h (YN x), upd ic h 0))) : wpY_begin post (cc_ys (cn, hg, K, YP, YN, YF, sk) (li, cl, wa, nI h, ca, en, me, mt, cs, wt, vl, ic)) (nI x) (nI l) := by
  have e1 : (nI x).toNatClampNeg = x := nI_clamp (by omega)
  have i1 : vp_in (nI x) 24 := vp_in_nI hx (by omega)
  have k1 : K (nI x).toNatClampNeg = 8 := by rw [e1]; exact h8
  exact And.intro i1 (nm_r k1 (br_t rfl (And.intro i1 (cc_hold (q := (cn, hg, K, YP, YN, YF, sk)) (li := li) (cl := cl) (wa := wa) (ca := ca) (en := en) (me := me) (mt := mt) (cs := cs) (wt := wt) (vl := vl) (ic := ic) (b := 0) (d := YN (nI x).toNatClampNeg) hh (by omega) (by rw [e1]; exact hp)))))
theorem cc_b9 {cl wa : Int32} {v : Nat} {E : Nat → cc_E} (hx : x < 24) (hh : h < 680) (hL : L ≤ 800) (hv : v < 4) (hl : l ≤ L) (hE : cc_WL L me mt E) (h9 : K x = 9) (hN : YN x = nI v) (hp : post (if (E l v).1 = 2 then (cc_ys (cn, hg, K, YP, YN, YF, sk) (nI L, cl, wa, nI h, ca, 2, me, mt, cs, wt, vl, ic)) else (cc_ys (cn, hg, K, YP, YN, YF, sk) (nI L, cl, wa, nI (h + 1), ca, en, me, mt, cs, wt, upd vl h (E l v).2, upd ic h (E l v).1)))) : wpY_begin post (cc_ys (cn, hg, K, YP, YN, YF, sk) (nI L, cl, wa, nI h, ca, en, me, mt, cs, wt, vl, ic)) (nI x) (nI l) := by
  have e1 : (nI x).toNatClampNeg = x := nI_clamp (by omega)
  have i1 : vp_in (nI x) 24 := vp_in_nI hx (by omega)
  have k1 : K (nI x).toNatClampNeg = 9 := by rw [e1]; exact h9
  have k2 : YN (nI x).toNatClampNeg = nI v := by rw [e1]; exact hN
  refine And.intro i1 (nm_r k1 (br_f (by decide) (br_t rfl (And.intro i1 ?_))))
  show wpY_lookUp _ _ (YN (nI x).toNatClampNeg) (nI l)
  rw [k2]
  refine ⟨801, cc_lul (f_made := cn) (f_depth := hg) (f_closed := cl) (f_waiting := wa) (f_called := ca) (a_kinds := K) (a_parts := YP) (a_notes := YN) (a_frees := YF) (a_stack := sk) (a_closures := cs) (a_waits := wt) (E := E) hL hh hv hE 801 l (by omega) hl ?_⟩
  by_cases t : (E l v).1 = 2
  · rw [if_pos t] at hp ⊢
    exact hp
  · rw [if_neg t] at hp ⊢
    exact hp
theorem cc_b7 {li wa : Int32} (hx : x < 24) (hh : h < 680) (hm : m < 740) (h7 : K x = 7) (hp : post (cc_ys (cn, hg, K, YP, YN, YF, sk) (li, nI (m + 1), wa, nI (h + 1), ca, en, me, mt, upd cs m (nI (32 * l + x)), wt, upd vl h (nI m), upd ic h 1))) : wpY_begin post (cc_ys (cn, hg, K, YP, YN, YF, sk) (li, nI m, wa, nI h, ca, en, me, mt, cs, wt, vl, ic)) (nI x) (nI l) := by
  have e1 : (nI x).toNatClampNeg = x := nI_clamp (by omega)
  have i1 : vp_in (nI x) 24 := vp_in_nI hx (by omega)
  have k1 : K (nI x).toNatClampNeg = 7 := by rw [e1]; exact h7
  have e2 : (nI m).toNatClampNeg = m := nI_clamp (by omega)
  have i2 : vp_in (nI m) 740 := vp_in_nI hm (by omega)
  have e3 : upd cs (nI m).toNatClampNeg (32 * nI l + nI x) = upd cs m (nI (32 * l + x)) := by rw [e2, show (32 : Int32) = nI 32 from rfl, pk_mul, nI_add]
  refine And.intro i1 (nm_r k1 (br_f (by decide) (br_f (by decide) (br_t rfl (And.intro i2 (nm_r e3 ?_))))))
  refine cc_hold (q := (cn, hg, K, YP, YN, YF, sk)) (li := li) (cl := nI m) (wa := wa) (ca := ca) (en := en) (me := me) (mt := mt) (cs := upd cs m (nI (32 * l + x))) (wt := wt) (vl := vl) (ic := ic) (b := 1) (d := nI m) hh (by omega) ?_
  exact nm_r (nI_1 m) hp
theorem cc_b0 {li cl he : Int32} {y : Nat} (hx : x < 24) (hw : w + 1 < 680) (h7 : K x ≠ 7) (h8 : K x ≠ 8) (h9 : K x ≠ 9) (hA : YP (3 * x) = nI y) (hp : post (cc_ys (cn, hg, K, YP, YN, YF, sk) (li, cl, nI (w + 2), he, ca, en, me, mt, cs, upd (upd wt w (nI ((32 * l + x) * 4 + 1))) (w + 1) (nI ((32 * l + y) * 4 + 0)), vl, ic))) : wpY_begin post (cc_ys (cn, hg, K, YP, YN, YF, sk) (li, cl, nI w, he, ca, en, me, mt, cs, wt, vl, ic)) (nI x) (nI l) := by
  have e1 : (nI x).toNatClampNeg = x := nI_clamp (by omega)
  have i1 : vp_in (nI x) 24 := vp_in_nI hx (by omega)
  have k1 : K (nI x).toNatClampNeg = K x := by rw [e1]
  have e2 : 3 * nI x = nI (3 * x) := by rw [show (3 : Int32) = nI 3 from rfl, pk_mul]
  have i2 : vp_in (3 * nI x) 72 := by rw [e2]; exact vp_in_nI (by omega) (by omega)
  have k2 : YP (3 * nI x).toNatClampNeg = nI y := by rw [e2, nI_clamp (by omega)]; exact hA
  refine And.intro i1 (nm_r k1 (br_f h8 (br_f h9 (br_f h7 ?_))))
  refine cc_wait (q := (cn, hg, K, YP, YN, YF, sk)) (li := li) (cl := cl) (he := he) (ca := ca) (en := en) (me := me) (mt := mt) (cs := cs) (wt := wt) (vl := vl) (ic := ic) (w := w) (x := x) (s := 1) (l := l) (by omega) ?_
  refine And.intro i2 ?_
  show wpY_wait _ _ (YP (3 * nI x).toNatClampNeg) (nI 0) (nI l)
  rw [k2]
  exact cc_wait (q := (cn, hg, K, YP, YN, YF, sk)) (li := li) (cl := cl) (he := he) (ca := ca) (en := en) (me := me) (mt := mt) (cs := cs) (wt := upd wt w (nI ((32 * l + x) * 4 + 1))) (vl := vl) (ic := ic) (w := w + 1) (x := y) (s := 0) (l := l) hw hp
theorem cc_g1 {li cl he : Int32} {y : Nat} (hx : x < 24) (hw : w + 1 < 680) (h5 : K x ≠ 5) (h6 : K x ≠ 6) (hB : YP (3 * x + 1) = nI y) (hp : post (cc_ys (cn, hg, K, YP, YN, YF, sk) (li, cl, nI (w + 2), he, ca, en, me, mt, cs, upd (upd wt w (nI ((32 * l + x) * 4 + 2))) (w + 1) (nI ((32 * l + y) * 4 + 0)), vl, ic))) : wpY_goOn post (cc_ys (cn, hg, K, YP, YN, YF, sk) (li, cl, nI w, he, ca, en, me, mt, cs, wt, vl, ic)) (nI x) (nI 1) (nI l) := by
  have e1 : (nI x).toNatClampNeg = x := nI_clamp (by omega)
  have i1 : vp_in (nI x) 24 := vp_in_nI hx (by omega)
  have k1 : K (nI x).toNatClampNeg = K x := by rw [e1]
  have e2 : 3 * nI x + 1 = nI (3 * x + 1) := by rw [show (3 : Int32) = nI 3 from rfl, pk_mul, nI_1]
  have i2 : vp_in (3 * nI x + 1) 72 := by rw [e2]; exact vp_in_nI (by omega) (by omega)
  have k2 : YP (3 * nI x + 1).toNatClampNeg = nI y := by rw [e2, nI_clamp (by omega)]; exact hB
  refine And.intro i1 (nm_r k1 (br_f h5 (br_f h6 (br_t (show nI 1 = 1 from rfl) ?_))))
  refine cc_wait (q := (cn, hg, K, YP, YN, YF, sk)) (li := li) (cl := cl) (he := he) (ca := ca) (en := en) (me := me) (mt := mt) (cs := cs) (wt := wt) (vl := vl) (ic := ic) (w := w) (x := x) (s := 2) (l := l) (by omega) ?_
  refine And.intro i2 ?_
  show wpY_wait _ _ (YP (3 * nI x + 1).toNatClampNeg) (nI 0) (nI l)
  rw [k2]
  exact cc_wait (q := (cn, hg, K, YP, YN, YF, sk)) (li := li) (cl := cl) (he := he) (ca := ca) (en := en) (me := me) (mt := mt) (cs := cs) (wt := upd wt w (nI ((32 * l + x) * 4 + 2))) (vl := vl) (ic := ic) (w := w + 1) (x := y) (s := 0) (l := l) hw hp
theorem cc_g5 {li cl : Int32} {y1 y2 s : Nat} (hx : x < 24) (hw : w < 680) (hh : h < 680) (h5 : K x = 5) (hB : YP (3 * x + 1) = nI y1) (hC : YP (3 * x + 2) = nI y2) (h0 : ic h = 0) (hp : post (cc_ys (cn, hg, K, YP, YN, YF, sk) (li, cl, nI (w + 1), nI h, ca, en, me, mt, cs, upd wt w (nI ((32 * l + (if vl h = 0 then y2 else y1)) * 4 + 0)), vl, ic))) : wpY_goOn post (cc_ys (cn, hg, K, YP, YN, YF, sk) (li, cl, nI w, nI (h + 1), ca, en, me, mt, cs, wt, vl, ic)) (nI x) (nI s) (nI l) := by
  have e1 : (nI x).toNatClampNeg = x := nI_clamp (by omega)
  have i1 : vp_in (nI x) 24 := vp_in_nI hx (by omega)
  have k1 : K (nI x).toNatClampNeg = 5 := by rw [e1]; exact h5
  have e3 : (nI h).toNatClampNeg = h := nI_clamp (by omega)
  have i3 : vp_in (nI h) 680 := vp_in_nI hh (by omega)
  have c0 : ic (nI h).toNatClampNeg = 0 := by rw [e3]; exact h0
  refine And.intro i1 (nm_r k1 (br_t rfl (nm_r (e' := nI h) (nI_pred h) (And.intro i3 (br_t c0 (And.intro i3 ?_))))))
  by_cases v0 : vl (nI h).toNatClampNeg = 0
  · have v0' : vl h = 0 := by rw [← e3]; exact v0
    rw [if_pos v0'] at hp
    have e2 : 3 * nI x + 2 = nI (3 * x + 2) := by rw [show (3 : Int32) = nI 3 from rfl, show (2 : Int32) = nI 2 from rfl, pk_mul, nI_add]
    have i2 : vp_in (3 * nI x + 2) 72 := by rw [e2]; exact vp_in_nI (by omega) (by omega)
    have k2 : YP (3 * nI x + 2).toNatClampNeg = nI y2 := by rw [e2, nI_clamp (by omega)]; exact hC
    refine br_t v0 (And.intro i2 ?_)
    show wpY_wait _ _ (YP (3 * nI x + 2).toNatClampNeg) (nI 0) (nI l)
    rw [k2]
    exact cc_wait (q := (cn, hg, K, YP, YN, YF, sk)) (li := li) (cl := cl) (he := nI h) (ca := ca) (en := en) (me := me) (mt := mt) (cs := cs) (wt := wt) (vl := vl) (ic := ic) (w := w) (x := y2) (s := 0) (l := l) hw hp
  · have v0' : ¬ vl h = 0 := by rw [← e3]; exact v0
    rw [if_neg v0'] at hp
    have e2 : 3 * nI x + 1 = nI (3 * x + 1) := by rw [show (3 : Int32) = nI 3 from rfl, pk_mul, nI_1]
    have i2 : vp_in (3 * nI x + 1) 72 := by rw [e2]; exact vp_in_nI (by omega) (by omega)
    have k2 : YP (3 * nI x + 1).toNatClampNeg = nI y1 := by rw [e2, nI_clamp (by omega)]; exact hB
    refine br_f v0 (And.intro i2 ?_)
    show wpY_wait _ _ (YP (3 * nI x + 1).toNatClampNeg) (nI 0) (nI l)
    rw [k2]
    exact cc_wait (q := (cn, hg, K, YP, YN, YF, sk)) (li := li) (cl := cl) (he := nI h) (ca := ca) (en := en) (me := me) (mt := mt) (cs := cs) (wt := wt) (vl := vl) (ic := ic) (w := w) (x := y1) (s := 0) (l := l) hw hp
theorem cc_g5n {li cl wa : Int32} {s : Nat} (hx : x < 24) (hh : h < 680) (h5 : K x = 5) (h0 : ¬ ic h = 0) (hp : post (cc_ys (cn, hg, K, YP, YN, YF, sk) (li, cl, wa, nI h, ca, 2, me, mt, cs, wt, vl, ic))) : wpY_goOn post (cc_ys (cn, hg, K, YP, YN, YF, sk) (li, cl, wa, nI (h + 1), ca, en, me, mt, cs, wt, vl, ic)) (nI x) (nI s) (nI l) := by
  have e1 : (nI x).toNatClampNeg = x := nI_clamp (by omega)
  have i1 : vp_in (nI x) 24 := vp_in_nI hx (by omega)
  have k1 : K (nI x).toNatClampNeg = 5 := by rw [e1]; exact h5
  have e3 : (nI h).toNatClampNeg = h := nI_clamp (by omega)
  have i3 : vp_in (nI h) 680 := vp_in_nI hh (by omega)
  have c0 : ¬ ic (nI h).toNatClampNeg = 0 := by rw [e3]; exact h0
  exact And.intro i1 (nm_r k1 (br_t rfl (nm_r (e' := nI h) (nI_pred h) (And.intro i3 (br_f c0 hp)))))
theorem cc_g6 {cl : Int32} {y s v b : Nat} (hx : x < 24) (hw : w < 680) (hh : h < 680) (hL : L < 800) (h6 : K x = 6) (hB : YP (3 * x + 1) = nI y) (hN : YN x = nI v) (hb : b < 2) (h0 : ic h = nI b) (hp : post (cc_ys (cn, hg, K, YP, YN, YF, sk) (nI (L + 1), cl, nI (w + 1), nI h, ca, en, upd me L (nI (8 * l + 2 * v + b)), upd mt L (vl h), cs, upd wt w (nI ((32 * (L + 1) + y) * 4 + 0)), vl, ic))) : wpY_goOn post (cc_ys (cn, hg, K, YP, YN, YF, sk) (nI L, cl, nI w, nI (h + 1), ca, en, me, mt, cs, wt, vl, ic)) (nI x) (nI s) (nI l) := by
  have e1 : (nI x).toNatClampNeg = x := nI_clamp (by omega)
  have i1 : vp_in (nI x) 24 := vp_in_nI hx (by omega)
  have k1 : K (nI x).toNatClampNeg = 6 := by rw [e1]; exact h6
  have e3 : (nI h).toNatClampNeg = h := nI_clamp (by omega)
  have i3 : vp_in (nI h) 680 := vp_in_nI hh (by omega)
  have c0 : ic (nI h).toNatClampNeg = nI b := by rw [e3]; exact h0
  have c1 : vl (nI h).toNatClampNeg = vl h := by rw [e3]
  have c2 : YN (nI x).toNatClampNeg = nI v := by rw [e1]; exact hN
  have e2 : 3 * nI x + 1 = nI (3 * x + 1) := by rw [show (3 : Int32) = nI 3 from rfl, pk_mul, nI_1]
  have i2 : vp_in (3 * nI x + 1) 72 := by rw [e2]; exact vp_in_nI (by omega) (by omega)
  have k2 : YP (3 * nI x + 1).toNatClampNeg = nI y := by rw [e2, nI_clamp (by omega)]; exact hB
  refine And.intro i1 (nm_r k1 (br_f (by decide) (br_t rfl (nm_r (e' := nI h) (nI_pred h) (And.intro i1 (And.intro i3 (And.intro i3 ?_)))))))
  show wpY_mean _ _ (nI l) (YN (nI x).toNatClampNeg) (ic (nI h).toNatClampNeg) (vl (nI h).toNatClampNeg)
  rw [c0, c1, c2]
  refine cc_mean (q := (cn, hg, K, YP, YN, YF, sk)) (cl := cl) (wa := nI w) (he := nI h) (ca := ca) (en := en) (me := me) (mt := mt) (cs := cs) (wt := wt) (vl := vl) (ic := ic) hL hb ?_
  refine And.intro i2 ?_
  show wpY_wait _ _ (YP (3 * nI x + 1).toNatClampNeg) (nI 0) (nI (L + 1))
  rw [k2]
  exact cc_wait (q := (cn, hg, K, YP, YN, YF, sk)) (li := nI (L + 1)) (cl := cl) (he := nI h) (ca := ca) (en := en) (me := upd me L (nI (8 * l + 2 * v + b))) (mt := upd mt L (vl h)) (cs := cs) (wt := wt) (vl := vl) (ic := ic) (w := w) (x := y) (s := 0) (l := L + 1) hw hp
theorem cc_g0 {li cl wa : Int32} {k : Nat} (hx : x < 24) (hk : k < 4) (hK : K x = nI k) (hh : h + 2 ≤ 680) (h1 : ic h = 0) (h2 : ic (h + 1) = 0) (hp : post (cc_ys (cn, hg, K, YP, YN, YF, sk) (li, cl, wa, nI (h + 1), ca, en, me, mt, cs, wt, upd vl h (cc_op (nI k) (vl h) (vl (h + 1))), upd ic h 0))) : wpY_goOn post (cc_ys (cn, hg, K, YP, YN, YF, sk) (li, cl, wa, nI (h + 2), ca, en, me, mt, cs, wt, vl, ic)) (nI x) (nI 2) (nI l) := by
  have e1 : (nI x).toNatClampNeg = x := nI_clamp (by omega)
  have i1 : vp_in (nI x) 24 := vp_in_nI hx (by omega)
  have k1 : K (nI x).toNatClampNeg = nI k := by rw [e1]; exact hK
  have ⟨a5, a6, a7, a8, a9⟩ := cc_k5 k (by omega)
  have a4 : ¬ nI k = 4 := fun q => by have := (cc_k4 k (by omega)).mp q; omega
  have e0 : nI (h + 2) - 2 = nI h := by rw [show (2 : Int32) = nI 2 from rfl, pk_sub (by omega)]; rfl
  have e3 : (nI h).toNatClampNeg = h := nI_clamp (by omega)
  have e4 : (nI h + 1).toNatClampNeg = h + 1 := by rw [nI_1]; exact nI_clamp (by omega)
  have i3 : vp_in (nI h) 680 := vp_in_nI (by omega) (by omega)
  have i4 : vp_in (nI h + 1) 680 := by rw [nI_1]; exact vp_in_nI (by omega) (by omega)
  have c1 : ic (nI h).toNatClampNeg = 0 := by rw [e3]; exact h1
  have c2 : ic (nI h + 1).toNatClampNeg = 0 := by rw [e4]; exact h2
  have d1 : vl (nI h).toNatClampNeg = vl h := by rw [e3]
  have d2 : vl (nI h + 1).toNatClampNeg = vl (h + 1) := by rw [e4]
  refine And.intro i1 (nm_r k1 (br_f a5 (br_f a6 (br_f (show ¬ nI 2 = 1 by decide) (br_f a4 ?_)))))
  refine nm_r (e' := nI h) e0 (And.intro i3 (nm_r d1 (And.intro i4 (nm_r d2 (And.intro i3 (br_t c1 (And.intro i4 (br_t c2 ?_))))))))
  have Z : ∀ z, z = cc_op (nI k) (vl h) (vl (h + 1)) → wpY_hold post (cc_ys (cn, hg, K, YP, YN, YF, sk) (li, cl, wa, nI h, ca, en, me, mt, cs, wt, vl, ic)) (nI 0) z := by
    intro z hz
    rw [hz]
    exact cc_hold (q := (cn, hg, K, YP, YN, YF, sk)) (li := li) (cl := cl) (wa := wa) (ca := ca) (en := en) (me := me) (mt := mt) (cs := cs) (wt := wt) (vl := vl) (ic := ic) (b := 0) (by omega) (by omega) hp
  unfold cc_op at Z
  by_cases q0 : nI k = 0
  · simp only [if_pos q0] at Z
    exact br_t q0 (Z _ rfl)
  · simp only [if_neg q0] at Z
    by_cases q1 : nI k = 1
    · simp only [if_pos q1] at Z
      exact br_f q0 (br_t q1 (Z _ rfl))
    · simp only [if_neg q1] at Z
      by_cases q2 : nI k = 2
      · simp only [if_pos q2] at Z
        exact br_f q0 (br_f q1 (br_t q2 (Z _ rfl)))
      · simp only [if_neg q2] at Z
        by_cases q3 : vl (h + 1) ≤ vl h
        · simp only [if_pos q3] at Z
          exact br_f q0 (br_f q1 (br_f q2 (br_t q3 (Z _ rfl))))
        · simp only [if_neg q3] at Z
          exact br_f q0 (br_f q1 (br_f q2 (br_f q3 (Z _ rfl))))
theorem cc_g0n {li cl wa : Int32} {k : Nat} (hx : x < 24) (hk : k < 4) (hK : K x = nI k) (hh : h + 2 ≤ 680) (h1 : ¬ (ic h = 0 ∧ ic (h + 1) = 0)) (hp : post (cc_ys (cn, hg, K, YP, YN, YF, sk) (li, cl, wa, nI h, ca, 2, me, mt, cs, wt, vl, ic))) : wpY_goOn post (cc_ys (cn, hg, K, YP, YN, YF, sk) (li, cl, wa, nI (h + 2), ca, en, me, mt, cs, wt, vl, ic)) (nI x) (nI 2) (nI l) := by
  have e1 : (nI x).toNatClampNeg = x := nI_clamp (by omega)
  have i1 : vp_in (nI x) 24 := vp_in_nI hx (by omega)
  have k1 : K (nI x).toNatClampNeg = nI k := by rw [e1]; exact hK
  have ⟨a5, a6, a7, a8, a9⟩ := cc_k5 k (by omega)
  have a4 : ¬ nI k = 4 := fun q => by have := (cc_k4 k (by omega)).mp q; omega
  have e0 : nI (h + 2) - 2 = nI h := by rw [show (2 : Int32) = nI 2 from rfl, pk_sub (by omega)]; rfl
  have e3 : (nI h).toNatClampNeg = h := nI_clamp (by omega)
  have e4 : (nI h + 1).toNatClampNeg = h + 1 := by rw [nI_1]; exact nI_clamp (by omega)
  have i3 : vp_in (nI h) 680 := vp_in_nI (by omega) (by omega)
  have i4 : vp_in (nI h + 1) 680 := by rw [nI_1]; exact vp_in_nI (by omega) (by omega)
  refine And.intro i1 (nm_r k1 (br_f a5 (br_f a6 (br_f (show ¬ nI 2 = 1 by decide) (br_f a4 ?_)))))
  refine nm_r (e' := nI h) e0 (And.intro i3 (nm_e (And.intro i4 (nm_e (And.intro i3 ?_)))))
  by_cases c1 : ic (nI h).toNatClampNeg = 0
  · have c2 : ¬ ic (nI h + 1).toNatClampNeg = 0 := fun c2 => h1 ⟨by rw [← e3]; exact c1, by rw [← e4]; exact c2⟩
    exact br_t c1 (And.intro i4 (br_f c2 hp))
  · exact br_f c1 hp
theorem cc_g4n {li cl wa : Int32} (hx : x < 24) (hK : K x = 4) (hh : h + 2 ≤ 680) (h1 : ic h = 0) (hp : post (cc_ys (cn, hg, K, YP, YN, YF, sk) (li, cl, wa, nI h, ca, 2, me, mt, cs, wt, vl, ic))) : wpY_goOn post (cc_ys (cn, hg, K, YP, YN, YF, sk) (li, cl, wa, nI (h + 2), ca, en, me, mt, cs, wt, vl, ic)) (nI x) (nI 2) (nI l) := by
  have e1 : (nI x).toNatClampNeg = x := nI_clamp (by omega)
  have i1 : vp_in (nI x) 24 := vp_in_nI hx (by omega)
  have k1 : K (nI x).toNatClampNeg = 4 := by rw [e1]; exact hK
  have e0 : nI (h + 2) - 2 = nI h := by rw [show (2 : Int32) = nI 2 from rfl, pk_sub (by omega)]; rfl
  have e3 : (nI h).toNatClampNeg = h := nI_clamp (by omega)
  have i3 : vp_in (nI h) 680 := vp_in_nI (by omega) (by omega)
  have c1 : ic (nI h).toNatClampNeg = 0 := by rw [e3]; exact h1
  refine And.intro i1 (nm_r k1 (br_f (by decide) (br_f (by decide) (br_f (show ¬ nI 2 = 1 by decide) (br_t rfl ?_)))))
  exact nm_r (e' := nI h) e0 (And.intro i3 (br_t c1 hp))
theorem cc_g4t {li cl wa : Int32} (hx : x < 24) (hK : K x = 4) (hh : h + 2 ≤ 680) (h1 : ¬ ic h = 0) (hp : post (cc_ys (cn, hg, K, YP, YN, YF, sk) (li, cl, wa, nI h, nI 60, 3, me, mt, cs, wt, vl, ic))) : wpY_goOn post (cc_ys (cn, hg, K, YP, YN, YF, sk) (li, cl, wa, nI (h + 2), nI 60, en, me, mt, cs, wt, vl, ic)) (nI x) (nI 2) (nI l) := by
  have e1 : (nI x).toNatClampNeg = x := nI_clamp (by omega)
  have i1 : vp_in (nI x) 24 := vp_in_nI hx (by omega)
  have k1 : K (nI x).toNatClampNeg = 4 := by rw [e1]; exact hK
  have e0 : nI (h + 2) - 2 = nI h := by rw [show (2 : Int32) = nI 2 from rfl, pk_sub (by omega)]; rfl
  have e3 : (nI h).toNatClampNeg = h := nI_clamp (by omega)
  have i3 : vp_in (nI h) 680 := vp_in_nI (by omega) (by omega)
  have c1 : ¬ ic (nI h).toNatClampNeg = 0 := by rw [e3]; exact h1
  refine And.intro i1 (nm_r k1 (br_f (by decide) (br_f (by decide) (br_f (show ¬ nI 2 = 1 by decide) (br_t rfl ?_)))))
  exact nm_r (e' := nI h) e0 (And.intro i3 (br_f c1 (br_t (show nI 60 = 60 from rfl) hp)))
theorem cc_g4 {cl : Int32} {d g j kk y ff fv b : Nat} (hx : x < 24) (hK : K x = 4) (hw : w < 680) (hh : h + 2 ≤ 680) (hL : L + 2 ≤ 800) (hkk : kk ≠ 60) (hk2 : kk < 100) (h1 : ic h = 1) (h2 : vl h = nI d) (hd : d < 740) (h3 : cs d = nI (32 * j + g)) (hj : j < 1000) (hgg : g < 24) (hff : ff < 4) (hfv : fv < 4) (hN : YN g = nI (4 * ff + fv)) (hb : b < 2) (h4 : ic (h + 1) = nI b) (hA : YP (3 * g) = nI y)
    (hp : post (cc_ys (cn, hg, K, YP, YN, YF, sk) (nI (L + 2), cl, nI (w + 1), nI h, nI (kk + 1), en, upd (upd me L (nI (8 * j + 2 * ff + 1))) (L + 1) (nI (8 * (L + 1) + 2 * fv + b)), upd (upd mt L (nI d)) (L + 1) (vl (h + 1)), cs, upd wt w (nI ((32 * (L + 2) + y) * 4 + 0)), vl, ic))) : wpY_goOn post (cc_ys (cn, hg, K, YP, YN, YF, sk) (nI L, cl, nI w, nI (h + 2), nI kk, en, me, mt, cs, wt, vl, ic)) (nI x) (nI 2) (nI l) := by
  have e1 : (nI x).toNatClampNeg = x := nI_clamp (by omega)
  have i1 : vp_in (nI x) 24 := vp_in_nI hx (by omega)
  have k1 : K (nI x).toNatClampNeg = 4 := by rw [e1]; exact hK
  have e0 : nI (h + 2) - 2 = nI h := by rw [show (2 : Int32) = nI 2 from rfl, pk_sub (by omega)]; rfl
  have e3 : (nI h).toNatClampNeg = h := nI_clamp (by omega)
  have e4 : (nI h + 1).toNatClampNeg = h + 1 := by rw [nI_1]; exact nI_clamp (by omega)
  have i3 : vp_in (nI h) 680 := vp_in_nI (by omega) (by omega)
  have i4 : vp_in (nI h + 1) 680 := by rw [nI_1]; exact vp_in_nI (by omega) (by omega)
  have c1 : ¬ ic (nI h).toNatClampNeg = 0 := by rw [e3, h1]; decide
  have k60 : ¬ nI kk = 60 := fun q => hkk ((nI_eq (b := 60) (by omega) (by omega)).mp q)
  have c2 : vl (nI h).toNatClampNeg = nI d := by rw [e3]; exact h2
  have e5 : (nI d).toNatClampNeg = d := nI_clamp (by omega)
  have i5 : vp_in (nI d) 740 := vp_in_nI hd (by omega)
  have c3 : cs (nI d).toNatClampNeg = nI (32 * j + g) := by rw [e5]; exact h3
  have n32 : ¬ (32 : Int32) = 0 := by decide
  have n4 : ¬ (4 : Int32) = 0 := by decide
  have c4 : cs (nI d).toNatClampNeg - cs (nI d).toNatClampNeg / 32 * 32 = nI g := by
    rw [c3, show (32 : Int32) = nI 32 from rfl, pk_rem (by omega) (by omega) (by omega)]
    exact congrArg nI (by omega)
  have c5 : cs (nI d).toNatClampNeg / 32 = nI j := by
    rw [c3, show (32 : Int32) = nI 32 from rfl, pk_div (by omega) (by omega) (by omega)]
    exact congrArg nI (by omega)
  have e6 : (nI g).toNatClampNeg = g := nI_clamp (by omega)
  have i6 : vp_in (nI g) 24 := vp_in_nI hgg (by omega)
  have c6 : YN (nI g).toNatClampNeg / 4 = nI ff := by
    rw [e6, hN, show (4 : Int32) = nI 4 from rfl, pk_div (by omega) (by omega) (by omega)]
    exact congrArg nI (by omega)
  have c7 : YN (nI g).toNatClampNeg - YN (nI g).toNatClampNeg / 4 * 4 = nI fv := by
    rw [e6, hN, show (4 : Int32) = nI 4 from rfl, pk_rem (by omega) (by omega) (by omega)]
    exact congrArg nI (by omega)
  have c8 : ic (nI h + 1).toNatClampNeg = nI b := by rw [e4]; exact h4
  have c9 : vl (nI h + 1).toNatClampNeg = vl (h + 1) := by rw [e4]
  have e7 : 3 * nI g = nI (3 * g) := by rw [show (3 : Int32) = nI 3 from rfl, pk_mul]
  have i7 : vp_in (3 * nI g) 72 := by rw [e7]; exact vp_in_nI (by omega) (by omega)
  have k2 : YP (3 * nI g).toNatClampNeg = nI y := by rw [e7, nI_clamp (by omega)]; exact hA
  refine And.intro i1 (nm_r k1 (br_f (by decide) (br_f (by decide) (br_f (show ¬ nI 2 = 1 by decide) (br_t rfl ?_)))))
  refine nm_r (e' := nI h) e0 (And.intro i3 (br_f c1 (br_f k60 (nm_r (e' := nI (kk + 1)) (nI_1 kk) (And.intro i3 (nm_r (e' := nI d) c2 (And.intro i5 (And.intro n32 (nm_r (e' := nI g) c4 (And.intro i5 (And.intro n32 (And.intro i6 (And.intro n4 ?_)))))))))))))
  show wpY_mean _ _ (cs (nI d).toNatClampNeg / 32) (YN (nI g).toNatClampNeg / 4) (nI 1) (nI d)
  rw [c5, c6]
  refine cc_mean (q := (cn, hg, K, YP, YN, YF, sk)) (cl := cl) (wa := nI w) (he := nI h) (ca := nI (kk + 1)) (en := en) (me := me) (mt := mt) (cs := cs) (wt := wt) (vl := vl) (ic := ic) (L := L) (b := 1) (by omega) (by omega) ?_
  refine And.intro i6 (And.intro n4 (And.intro i4 (And.intro i4 ?_)))
  show wpY_mean _ _ (nI (L + 1)) (YN (nI g).toNatClampNeg - YN (nI g).toNatClampNeg / 4 * 4) (ic (nI h + 1).toNatClampNeg) (vl (nI h + 1).toNatClampNeg)
  rw [c7, c8, c9]
  refine cc_mean (q := (cn, hg, K, YP, YN, YF, sk)) (cl := cl) (wa := nI w) (he := nI h) (ca := nI (kk + 1)) (en := en) (me := upd me L (nI (8 * j + 2 * ff + 1))) (mt := upd mt L (nI d)) (cs := cs) (wt := wt) (vl := vl) (ic := ic) (L := L + 1) (l := L + 1) (m := fv) (b := b) (by omega) hb ?_
  refine And.intro i7 ?_
  show wpY_wait _ _ (YP (3 * nI g).toNatClampNeg) (nI 0) (nI (L + 2))
  rw [k2]
  exact cc_wait (q := (cn, hg, K, YP, YN, YF, sk)) (li := nI (L + 2)) (cl := cl) (he := nI h) (ca := nI (kk + 1)) (en := en) (me := upd (upd me L (nI (8 * j + 2 * ff + 1))) (L + 1) (nI (8 * (L + 1) + 2 * fv + b))) (mt := upd (upd mt L (nI d)) (L + 1) (vl (h + 1))) (cs := cs) (wt := wt) (vl := vl) (ic := ic) (w := w) (x := y) (s := 0) (l := L + 2) hw hp
end
end
section
/-! the reference's work against the evaluator -/
abbrev cc_TY : Type := (Nat → Int32) × (Nat → Int32) × (Nat → Int32) × (Nat → Int32) × (Nat → Int32) × (Nat → Int32)
/-- the parts and notes in the reference's arrays -/
def cc_YX (K N YP YN : Nat → Int32) (A B C : Nat → Nat) (x : Nat) : Prop := (K x ≠ 8 → K x ≠ 9 → YP (3 * x) = nI (A x)) ∧ (K x ≠ 7 → K x ≠ 8 → K x ≠ 9 → YP (3 * x + 1) = nI (B x)) ∧ (K x = 5 → YP (3 * x + 2) = nI (C x)) ∧ (K x = 6 ∨ K x = 7 ∨ K x = 8 ∨ K x = 9 → YN x = N x)
def cc_YS (n : Nat) (K N W P : Nat → Int32) (A B C z : Nat → Nat) (fr : Nat → Nat → Bool) (YP YN : Nat → Int32) : Prop := n ≤ 24 ∧ (∀ x, x < n → cc_Nd K N W P A B C z fr x) ∧ (∀ x, x < n → cc_YX K N YP YN A B C x)
def cc_YC (L : Nat) (E : Nat → cc_E) (s : cc_S) (cs : Nat → Int32) : Prop := ∀ c, c < s.2.1 → ∃ l, l ≤ L ∧ cs c = nI (32 * l + (s.2.2 c).1) ∧ E l = (s.2.2 c).2
def cc_Ky (w h L : Nat) (o o' : cc_TY) (E E' : Nat → cc_E) : Prop := (∀ j, j < w → o'.2.2.2.1 j = o.2.2.2.1 j) ∧ (∀ j, j < h → o'.2.2.2.2.1 j = o.2.2.2.2.1 j ∧ o'.2.2.2.2.2 j = o.2.2.2.2.2 j) ∧ (∀ j, j ≤ L → E' j = E j)
def cc_YH (n : Nat) (K : Nat → Int32) (z : Nat → Nat) (x : Nat) (e : cc_E) (s : cc_S) (l w h L : Nat) (o : cc_TY) (E : Nat → cc_E) : Prop :=
  (x < n ∧ z x ≤ 24 ∧ l ≤ L ∧ 2 * w + z x + 22 * (60 - s.1) ≤ 1345 ∧ 2 * h + z x + 22 * (60 - s.1) ≤ 1345 ∧ 2 * L + z x + 26 * (60 - s.1) ≤ 1584 ∧ 2 * s.2.1 + z x + 24 * (60 - s.1) ≤ 1464) ∧
  o.2.2.2.1 w = nI ((32 * l + x) * 4 + 0) ∧ E l = e ∧ cc_EO s.2.1 e ∧ cc_SO n K z s ∧ cc_WL L o.1 o.2.1 E ∧ cc_YC L E s o.2.2.1
def cc_YO (K YP YN YF sk : Nat → Int32) (cn hg : Int32) (z : Nat → Nat) (x : Nat) (s : cc_S) (w h L : Nat) (o : cc_TY) (E : Nat → cc_E) (r : cc_R) : Prop :=
  ∃ (w' h' L' : Nat) (en : Int32) (o' : cc_TY) (E' : Nat → cc_E), cc_RY (cc_ys (cn, hg, K, YP, YN, YF, sk) (nI L, nI s.2.1, nI (w + 1), nI h, nI s.1, -4, o)) (cc_ys (cn, hg, K, YP, YN, YF, sk) (nI L', nI r.2.2.2.1, nI w', nI h', nI r.2.2.1, en, o')) ∧
    (r.1 = -1 → en = -4 ∧ w' = w ∧ h' = h + 1 ∧ o'.2.2.2.2.2 h = r.2.1.1 ∧ o'.2.2.2.2.1 h = r.2.1.2 ∧ cc_Ky w h L o o' E E' ∧ cc_WL L' o'.1 o'.2.1 E' ∧ cc_YC L' E' r.2.2 o'.2.2.1 ∧ L ≤ L' ∧ 2 * L' + 1 + 26 * (60 - r.2.2.1) ≤ 2 * L + z x + 26 * (60 - s.1)) ∧ (r.1 ≠ -1 → en = r.1)
def cc_YI (n : Nat) (K N : Nat → Int32) (A B C z : Nat → Nat) (YP YN YF sk : Nat → Int32) (cn hg : Int32) (g : Nat) : Prop :=
  ∀ (x : Nat) (e : cc_E) (s : cc_S) (l w h L : Nat) (o : cc_TY) (E : Nat → cc_E), cc_YH n K z x e s l w h L o E → (cc_ev K N A B C g x e s).1 ≠ 9 → cc_YO K YP YN YF sk cn hg z x s w h L o E (cc_ev K N A B C g x e s)
def cc_ext (E : Nat → cc_E) (k : Nat) (e : cc_E) : Nat → cc_E := fun j => if j = k then e else E j
theorem cc_ext_s {E : Nat → cc_E} {k : Nat} {e : cc_E} : cc_ext E k e k = e := if_pos rfl
theorem cc_ext_n {E : Nat → cc_E} {k j : Nat} {e : cc_E} (h : j ≠ k) : cc_ext E k e j = E j := if_neg h
theorem cc_WL_s {L l m b : Nat} {me mt : Nat → Int32} {E : Nat → cc_E} {d : Int32} (h : cc_WL L me mt E) (hl : l ≤ L) (hm : m < 4) (hb : b < 2) : cc_WL (L + 1) (upd me L (nI (8 * l + 2 * m + b))) (upd mt L d) (cc_ext E (L + 1) (cc_set (E l) m (nI b, d))) := by
  refine ⟨by rw [cc_ext_n (by omega)]; exact h.1, fun j hj => ?_⟩
  by_cases q : j = L
  · rw [q]
    exact ⟨l, m, b, hl, hm, hb, pk_us, by rw [cc_ext_s, cc_ext_n (by omega), pk_us]⟩
  · obtain ⟨l', m', b', h1, h2, h3, h4, h5⟩ := h.2 j (by omega)
    exact ⟨l', m', b', h1, h2, h3, by rw [pk_un q]; exact h4, by rw [cc_ext_n (by omega), cc_ext_n (by omega), pk_un q]; exact h5⟩
theorem cc_YC_m {L L' : Nat} {E E' : Nat → cc_E} {s : cc_S} {cs : Nat → Int32} (h : cc_YC L E s cs) (hL : L ≤ L') (hE : ∀ j, j ≤ L → E' j = E j) : cc_YC L' E' s cs := by
  intro c hc
  obtain ⟨l, h1, h2, h3⟩ := h c hc
  exact ⟨l, by omega, h2, by rw [hE l h1]; exact h3⟩
theorem cc_Ky_t {w h L w1 h1 L1 : Nat} {o o1 o2 : cc_TY} {E E1 E2 : Nat → cc_E} (a : cc_Ky w h L o o1 E E1) (b : cc_Ky w1 h1 L1 o1 o2 E1 E2) (l1 : w ≤ w1) (l2 : h ≤ h1) (l3 : L ≤ L1) : cc_Ky w h L o o2 E E2 :=
  ⟨fun j hj => (b.1 j (by omega)).trans (a.1 j hj), fun j hj => ⟨(b.2.1 j (by omega)).1.trans (a.2.1 j hj).1, (b.2.1 j (by omega)).2.trans (a.2.1 j hj).2⟩, fun j hj => (b.2.2 j (by omega)).trans (a.2.2 j hj)⟩
theorem cc_Vb {m : Nat} {v : cc_V} (h : cc_VO m v) : ∃ b, b < 2 ∧ v.1 = nI b := by
  rcases h with h | h
  · exact ⟨0, by omega, h⟩
  · exact ⟨1, by omega, h.1⟩
section
variable {n : Nat} {K N W P : Nat → Int32} {A B C z : Nat → Nat} {fr : Nat → Nat → Bool} {YP YN YF sk : Nat → Int32} {cn hg : Int32} {g x l w h L : Nat} {e : cc_E} {s : cc_S} {o : cc_TY} {E : Nat → cc_E}
theorem cc_y_part {F : cc_V → cc_S → cc_R} {xp l1 w1 h1 L1 : Nat} {e1 : cc_E} {s1 : cc_S} {o1 : cc_TY} {E1 : Nat → cc_E} (hS : cc_YS n K N W P A B C z fr YP YN) (hI : cc_YI n K N A B C z YP YN YF sk cn hg g)
    (R : cc_RY (cc_ys (cn, hg, K, YP, YN, YF, sk) (nI L, nI s.2.1, nI (w + 1), nI h, nI s.1, -4, o)) (cc_ys (cn, hg, K, YP, YN, YF, sk) (nI L1, nI s1.2.1, nI (w1 + 1), nI h1, nI s1.1, -4, o1)))
    (H : cc_YH n K z xp e1 s1 l1 w1 h1 L1 o1 E1)
    (h9 : (cc_then (cc_ev K N A B C g xp e1 s1) F).1 ≠ 9)
    (hF : ∀ (v : cc_V) (s2 : cc_S) (L2 : Nat) (o2 : cc_TY) (E2 : Nat → cc_E), cc_RY (cc_ys (cn, hg, K, YP, YN, YF, sk) (nI L, nI s.2.1, nI (w + 1), nI h, nI s.1, -4, o)) (cc_ys (cn, hg, K, YP, YN, YF, sk) (nI L2, nI s2.2.1, nI w1, nI (h1 + 1), nI s2.1, -4, o2)) → s1.1 ≤ s2.1 → s1.2.1 ≤ s2.2.1 → 2 * s2.2.1 + 24 * (60 - s2.1) ≤ 2 * s1.2.1 + z xp + 24 * (60 - s1.1) → cc_VO s2.2.1 v → cc_SO n K z s2 → o2.2.2.2.2.2 h1 = v.1 → o2.2.2.2.2.1 h1 = v.2 → cc_Ky w1 h1 L1 o1 o2 E1 E2 → cc_WL L2 o2.1 o2.2.1 E2 → cc_YC L2 E2 s2 o2.2.2.1 → L1 ≤ L2 → 2 * L2 + 1 + 26 * (60 - s2.1) ≤ 2 * L1 + z xp + 26 * (60 - s1.1) → (F v s2).1 ≠ 9 → cc_YO K YP YN YF sk cn hg z x s w h L o E (F v s2)) :
    cc_YO K YP YN YF sk cn hg z x s w h L o E (cc_then (cc_ev K N A B C g xp e1 s1) F) := by
  have O1 := hI xp e1 s1 l1 w1 h1 L1 o1 E1 H (cc_th9 h9)
  obtain ⟨⟨u1, u2, u3, u4, u5, u6, u7⟩, _, _, hE, hO, _⟩ := H
  have Q1 := cc_ev_ok hS.2.1 g xp e1 s1 u1 u2 hE hO (by omega)
  generalize cc_ev K N A B C g xp e1 s1 = r1 at *
  obtain ⟨w2, h2, L2, en2, o2, E2, R2, ok2, no2⟩ := O1
  obtain ⟨_, l1, l2, l3, l4, l5, l6⟩ := Q1
  by_cases k1 : r1.1 = -1
  · rw [cc_th_y k1] at h9 ⊢
    obtain ⟨rfl, rfl, rfl, g1, g2, kp, wl, yc, lL, lc⟩ := ok2 k1
    exact hF r1.2.1 r1.2.2 L2 o2 E2 (cc_RY_t R R2) l1 l2 l6 (l5 k1) l4 g1 g2 kp wl yc lL lc h9
  · rw [cc_th_n k1]
    exact ⟨w2, h2, L2, en2, o2, E2, cc_RY_t R R2, fun h => absurd h k1, no2⟩
/-- a program with parts begins with its first -/
theorem cc_y_a {F : cc_V → cc_S → cc_R} (hS : cc_YS n K N W P A B C z fr YP YN) (hI : cc_YI n K N A B C z YP YN YF sk cn hg g) (hH : cc_YH n K z x e s l w h L o E) (h7 : K x ≠ 7) (h8 : K x ≠ 8) (hk9 : K x ≠ 9) (hA : A x < x) (hz : z (A x) + 2 ≤ z x)
    (h9 : (cc_then (cc_ev K N A B C g (A x) e s) F).1 ≠ 9)
    (hF : ∀ (v : cc_V) (s1 : cc_S) (L1 : Nat) (o1 : cc_TY) (E1 : Nat → cc_E), cc_RY (cc_ys (cn, hg, K, YP, YN, YF, sk) (nI L, nI s.2.1, nI (w + 1), nI h, nI s.1, -4, o)) (cc_ys (cn, hg, K, YP, YN, YF, sk) (nI L1, nI s1.2.1, nI (w + 1), nI (h + 1), nI s1.1, -4, o1)) → o1.2.2.2.1 w = nI ((32 * l + x) * 4 + 1) → s.1 ≤ s1.1 → s.2.1 ≤ s1.2.1 → 2 * s1.2.1 + 24 * (60 - s1.1) ≤ 2 * s.2.1 + z (A x) + 24 * (60 - s.1) → cc_VO s1.2.1 v → cc_SO n K z s1 → o1.2.2.2.2.2 h = v.1 → o1.2.2.2.2.1 h = v.2 → cc_Ky w h L o o1 E E1 → cc_WL L1 o1.1 o1.2.1 E1 → cc_YC L1 E1 s1 o1.2.2.1 → L ≤ L1 → 2 * L1 + 1 + 26 * (60 - s1.1) ≤ 2 * L + z (A x) + 26 * (60 - s.1) → (F v s1).1 ≠ 9 → cc_YO K YP YN YF sk cn hg z x s w h L o E (F v s1)) :
    cc_YO K YP YN YF sk cn hg z x s w h L o E (cc_then (cc_ev K N A B C g (A x) e s) F) := by
  obtain ⟨⟨u1, u2, u3, u4, u5, u6, u7⟩, hw, hEl, hE, hO, hW, hC⟩ := hH
  have hn := hS.1
  have zA := cc_z1 (hS.2.1 (A x) (by omega))
  have eA := (hS.2.2 x u1).1 h8 hk9
  obtain ⟨me, mt, cs, wt, vl, ic⟩ := o
  have R := cc_RY_b (q := (cn, hg, K, YP, YN, YF, sk)) (q' := (cn, hg, K, YP, YN, YF, sk)) (li := nI L) (cl := nI s.2.1) (he := nI h) (ca := nI s.1) (me := me) (mt := mt) (cs := cs) (wt := wt) (vl := vl) (ic := ic) (w := w) (l := l) (x := x) (by omega) (by omega) (by omega) hw (fun post hp => cc_b0 (l := l) (by omega) (by omega) h7 h8 hk9 eA hp)
  refine cc_y_part (l1 := l) (w1 := w + 1) (h1 := h) (L1 := L) (E1 := E) hS hI R ⟨⟨by omega, by omega, u3, by omega, by omega, by omega, by omega⟩, pk_us, hEl, hE, hO, hW, hC⟩ h9 ?_
  intro v s1 L1 o1 E1 R1 m1 m2 m3 m4 m5 m6 m7 kp wl yc lL lc h9'
  refine hF v s1 L1 o1 E1 R1 ?_ m1 m2 m3 m4 m5 m6 m7 ?_ wl yc lL lc h9'
  · rw [kp.1 w (by omega)]
    show upd (upd wt w (nI ((32 * l + x) * 4 + 1))) (w + 1) (nI ((32 * l + A x) * 4 + 0)) w = _
    rw [pk_un (by omega), pk_us]
  · refine ⟨fun j hj => ?_, fun j hj => kp.2.1 j hj, kp.2.2⟩
    rw [kp.1 j (by omega)]
    show upd (upd wt w (nI ((32 * l + x) * 4 + 1))) (w + 1) (nI ((32 * l + A x) * 4 + 0)) j = wt j
    rw [pk_un (by omega), pk_un (by omega)]
theorem cc_yt8 (hS : cc_YS n K N W P A B C z fr YP YN) (hH : cc_YH n K z x e s l w h L o E) (h8 : K x = 8) : cc_YO K YP YN YF sk cn hg z x s w h L o E (-1, (0, N x), s) := by
  obtain ⟨⟨u1, u2, u3, u4, u5, u6, u7⟩, hw, hEl, hE, hO, hW, hC⟩ := hH
  have hn := hS.1
  have zx := cc_z1 (hS.2.1 x u1)
  have eN := (hS.2.2 x u1).2.2.2 (Or.inr (Or.inr (Or.inl h8)))
  obtain ⟨me, mt, cs, wt, vl, ic⟩ := o
  have R := cc_RY_b (q := (cn, hg, K, YP, YN, YF, sk)) (q' := (cn, hg, K, YP, YN, YF, sk)) (li := nI L) (cl := nI s.2.1) (he := nI h) (ca := nI s.1) (me := me) (mt := mt) (cs := cs) (wt := wt) (vl := vl) (ic := ic) (w := w) (l := l) (x := x) (by omega) (by omega) (by omega) hw (fun post hp => cc_b8 (l := l) (by omega) (by omega) h8 hp)
  refine ⟨w, h + 1, L, -4, _, E, R, fun _ => ⟨rfl, rfl, rfl, pk_us, pk_us.trans eN, ⟨fun _ _ => rfl, fun j hj => ⟨pk_un (by omega), pk_un (by omega)⟩, fun _ _ => rfl⟩, hW, hC, Nat.le_refl _, by show 2 * L + 1 + 26 * (60 - s.1) ≤ _; omega⟩, fun q => absurd rfl q⟩
theorem cc_yt9 {v : Nat} (hS : cc_YS n K N W P A B C z fr YP YN) (hH : cc_YH n K z x e s l w h L o E) (h9 : K x = 9) (hv : v < 4) (hN : N x = nI v) : cc_YO K YP YN YF sk cn hg z x s w h L o E (if (e (N x).toNatClampNeg).1 = 2 then (2, (0, 0), s) else (-1, e (N x).toNatClampNeg, s)) := by
  obtain ⟨⟨u1, u2, u3, u4, u5, u6, u7⟩, hw, hEl, hE, hO, hW, hC⟩ := hH
  have hn := hS.1
  have zx := cc_z1 (hS.2.1 x u1)
  have eN := (hS.2.2 x u1).2.2.2 (Or.inr (Or.inr (Or.inr h9)))
  rw [hN] at eN
  rw [hN, nI_clamp (by omega), ← hEl]
  obtain ⟨me, mt, cs, wt, vl, ic⟩ := o
  by_cases t2 : (E l v).1 = 2
  · rw [if_pos t2]
    have R := cc_RY_b (q := (cn, hg, K, YP, YN, YF, sk)) (q' := (cn, hg, K, YP, YN, YF, sk)) (s' := (nI L, nI s.2.1, nI w, nI h, nI s.1, 2, me, mt, cs, wt, vl, ic)) (li := nI L) (cl := nI s.2.1) (he := nI h) (ca := nI s.1) (me := me) (mt := mt) (cs := cs) (wt := wt) (vl := vl) (ic := ic) (w := w) (l := l) (x := x) (by omega) (by omega) (by omega) hw (fun post hp => cc_b9 (l := l) (E := E) (by omega) (by omega) (by omega) hv u3 hW h9 eN (by rw [if_pos t2]; exact hp))
    exact ⟨w, h, L, 2, _, E, R, fun q => absurd q (show ¬ (2 : Int32) = -1 by decide), fun _ => rfl⟩
  · rw [if_neg t2]
    have R := cc_RY_b (q := (cn, hg, K, YP, YN, YF, sk)) (q' := (cn, hg, K, YP, YN, YF, sk)) (s' := (nI L, nI s.2.1, nI w, nI (h + 1), nI s.1, -4, me, mt, cs, wt, upd vl h (E l v).2, upd ic h (E l v).1)) (li := nI L) (cl := nI s.2.1) (he := nI h) (ca := nI s.1) (me := me) (mt := mt) (cs := cs) (wt := wt) (vl := vl) (ic := ic) (w := w) (l := l) (x := x) (by omega) (by omega) (by omega) hw (fun post hp => cc_b9 (l := l) (E := E) (by omega) (by omega) (by omega) hv u3 hW h9 eN (by rw [if_neg t2]; exact hp))
    exact ⟨w, h + 1, L, -4, _, E, R, fun _ => ⟨rfl, rfl, rfl, pk_us, pk_us, ⟨fun _ _ => rfl, fun j hj => ⟨pk_un (by omega), pk_un (by omega)⟩, fun _ _ => rfl⟩, hW, hC, Nat.le_refl _, by show 2 * L + 1 + 26 * (60 - s.1) ≤ _; omega⟩, fun q => absurd rfl q⟩
theorem cc_yt7 (hS : cc_YS n K N W P A B C z fr YP YN) (hH : cc_YH n K z x e s l w h L o E) (h7 : K x = 7) : cc_YO K YP YN YF sk cn hg z x s w h L o E (-1, (1, nI s.2.1), (s.1, s.2.1 + 1, fun j => if j = s.2.1 then (x, e) else s.2.2 j)) := by
  obtain ⟨⟨u1, u2, u3, u4, u5, u6, u7⟩, hw, hEl, hE, hO, hW, hC⟩ := hH
  have hn := hS.1
  have zx := cc_z1 (hS.2.1 x u1)
  obtain ⟨me, mt, cs, wt, vl, ic⟩ := o
  have R := cc_RY_b (q := (cn, hg, K, YP, YN, YF, sk)) (q' := (cn, hg, K, YP, YN, YF, sk)) (li := nI L) (cl := nI s.2.1) (he := nI h) (ca := nI s.1) (me := me) (mt := mt) (cs := cs) (wt := wt) (vl := vl) (ic := ic) (w := w) (l := l) (x := x) (by omega) (by omega) (by omega) hw (fun post hp => cc_b7 (l := l) (m := s.2.1) (by omega) (by omega) (by omega) h7 hp)
  refine ⟨w, h + 1, L, -4, _, E, R, fun _ => ⟨rfl, rfl, rfl, pk_us, pk_us, ⟨fun _ _ => rfl, fun j hj => ⟨pk_un (by omega), pk_un (by omega)⟩, fun _ _ => rfl⟩, hW, ?_, Nat.le_refl _, by show 2 * L + 1 + 26 * (60 - s.1) ≤ _; omega⟩, fun q => absurd rfl q⟩
  intro c hc
  have hc' : c < s.2.1 + 1 := hc
  show ∃ l', l' ≤ L ∧ upd cs s.2.1 (nI (32 * l + x)) c = nI (32 * l' + (if c = s.2.1 then (x, e) else s.2.2 c : Nat × cc_E).1) ∧ E l' = (if c = s.2.1 then (x, e) else s.2.2 c : Nat × cc_E).2
  by_cases k1 : c = s.2.1
  · rw [if_pos k1, k1]
    exact ⟨l, u3, pk_us, hEl⟩
  · rw [if_neg k1, pk_un k1]
    exact hC c (by omega)
end
end
section
/-! the reference's work against the evaluator: programs with parts -/
section
variable {n : Nat} {K N W P : Nat → Int32} {A B C z : Nat → Nat} {fr : Nat → Nat → Bool} {YP YN YF sk : Nat → Int32} {cn hg : Int32} {g x l w h L : Nat} {e : cc_E} {s : cc_S} {o : cc_TY} {E : Nat → cc_E}
/-- both parts of an operation -/
theorem cc_y_ab {F : cc_V → cc_V → cc_S → cc_R} {k : Nat} (hS : cc_YS n K N W P A B C z fr YP YN) (hI : cc_YI n K N A B C z YP YN YF sk cn hg g) (hH : cc_YH n K z x e s l w h L o E) (hk : k < 5) (hK : K x = nI k) (hA : A x < x) (hB : B x < x) (hz : z x = 1 + z (A x) + z (B x))
    (h9 : (cc_then (cc_ev K N A B C g (A x) e s) (fun v1 s1 => cc_then (cc_ev K N A B C g (B x) e s1) (fun v2 s2 => F v1 v2 s2))).1 ≠ 9)
    (hF : ∀ (v1 v2 : cc_V) (s2 : cc_S) (L2 : Nat) (o2 : cc_TY) (E2 : Nat → cc_E), cc_RY (cc_ys (cn, hg, K, YP, YN, YF, sk) (nI L, nI s.2.1, nI (w + 1), nI h, nI s.1, -4, o)) (cc_ys (cn, hg, K, YP, YN, YF, sk) (nI L2, nI s2.2.1, nI (w + 1), nI (h + 2), nI s2.1, -4, o2)) → o2.2.2.2.1 w = nI ((32 * l + x) * 4 + 2) → s.1 ≤ s2.1 → s.2.1 ≤ s2.2.1 → 2 * s2.2.1 + 24 * (60 - s2.1) + 1 ≤ 2 * s.2.1 + z x + 24 * (60 - s.1) → cc_VO s2.2.1 v1 → cc_VO s2.2.1 v2 → cc_SO n K z s2 → o2.2.2.2.2.2 h = v1.1 → o2.2.2.2.2.1 h = v1.2 → o2.2.2.2.2.2 (h + 1) = v2.1 → o2.2.2.2.2.1 (h + 1) = v2.2 → cc_Ky w h L o o2 E E2 → cc_WL L2 o2.1 o2.2.1 E2 → cc_YC L2 E2 s2 o2.2.2.1 → L ≤ L2 → 2 * L2 + 3 + 26 * (60 - s2.1) ≤ 2 * L + z x + 26 * (60 - s.1) → (F v1 v2 s2).1 ≠ 9 → cc_YO K YP YN YF sk cn hg z x s w h L o E (F v1 v2 s2)) :
    cc_YO K YP YN YF sk cn hg z x s w h L o E (cc_then (cc_ev K N A B C g (A x) e s) (fun v1 s1 => cc_then (cc_ev K N A B C g (B x) e s1) (fun v2 s2 => F v1 v2 s2))) := by
  have ⟨a5, a6, a7, a8, a9⟩ := cc_k5 k hk
  have k5 : K x ≠ 5 := by rw [hK]; exact a5
  have k6 : K x ≠ 6 := by rw [hK]; exact a6
  have k7 : K x ≠ 7 := by rw [hK]; exact a7
  have k8 : K x ≠ 8 := by rw [hK]; exact a8
  have k9 : K x ≠ 9 := by rw [hK]; exact a9
  have hH' := hH
  obtain ⟨⟨u1, u2, u3, u4, u5, u6, u7⟩, hw, hEl, hE, hO, hW, hC⟩ := hH'
  have hn := hS.1
  have zA := cc_z1 (hS.2.1 (A x) (by omega))
  have zB := cc_z1 (hS.2.1 (B x) (by omega))
  have eB := (hS.2.2 x u1).2.1 k7 k8 k9
  refine cc_y_a hS hI hH k7 k8 k9 hA (by omega) h9 ?_
  intro v1 s1 L1 o1 E1 R1 hw1 m1 m2 m3 m4 m5 m6 m7 kp wl yc lL lc h9'
  obtain ⟨me, mt, cs, wt, vl, ic⟩ := o1
  have R2 := cc_RY_g (q := (cn, hg, K, YP, YN, YF, sk)) (q' := (cn, hg, K, YP, YN, YF, sk)) (he := nI (h + 1)) (li := nI L1) (cl := nI s1.2.1) (ca := nI s1.1) (me := me) (mt := mt) (cs := cs) (wt := wt) (vl := vl) (ic := ic) (w := w) (l := l) (x := x) (s := 1) (by omega) (by omega) (by omega) (by omega) (by omega) hw1 (fun post hp => cc_g1 (l := l) (by omega) (by omega) k5 k6 eB hp)
  refine cc_y_part (l1 := l) (w1 := w + 1) (h1 := h + 1) (L1 := L1) (E1 := E1) hS hI (cc_RY_t R1 R2) ⟨⟨by omega, by omega, by omega, by omega, by omega, by omega, by omega⟩, pk_us, by rw [kp.2.2 l u3]; exact hEl, cc_EOm hE m2, m5, wl, yc⟩ h9' ?_
  intro v2 s2 L2 o2 E2 R3 p1 p2 p3 p4 p5 p6 p7 kp2 wl2 yc2 lL2 lc2 h9''
  refine hF v1 v2 s2 L2 o2 E2 R3 ?_ (by omega) (by omega) (by omega) (cc_VOm m4 p2) p4 p5 ((kp2.2.1 h (by omega)).2.trans m6) ((kp2.2.1 h (by omega)).1.trans m7) p6 p7 ?_ wl2 yc2 (by omega) (by omega) h9''
  · rw [kp2.1 w (by omega)]
    show upd (upd wt w (nI ((32 * l + x) * 4 + 2))) (w + 1) (nI ((32 * l + B x) * 4 + 0)) w = _
    rw [pk_un (by omega), pk_us]
  · refine ⟨fun j hj => ?_, fun j hj => ⟨(kp2.2.1 j (by omega)).1.trans (kp.2.1 j hj).1, (kp2.2.1 j (by omega)).2.trans (kp.2.1 j hj).2⟩, fun j hj => (kp2.2.2 j (by omega)).trans (kp.2.2 j hj)⟩
    rw [kp2.1 j (by omega), ← kp.1 j hj]
    show upd (upd wt w (nI ((32 * l + x) * 4 + 2))) (w + 1) (nI ((32 * l + B x) * 4 + 0)) j = wt j
    rw [pk_un (by omega), pk_un (by omega)]
theorem cc_yt0 {k : Nat} (hS : cc_YS n K N W P A B C z fr YP YN) (hI : cc_YI n K N A B C z YP YN YF sk cn hg g) (hH : cc_YH n K z x e s l w h L o E) (hk : k < 4) (hK : K x = nI k) (hA : A x < x) (hB : B x < x) (hz : z x = 1 + z (A x) + z (B x)) (h9 : (cc_ev K N A B C (g + 1) x e s).1 ≠ 9) : cc_YO K YP YN YF sk cn hg z x s w h L o E (cc_ev K N A B C (g + 1) x e s) := by
  rw [cc_ev0 hk hK] at h9 ⊢
  refine cc_y_ab hS hI hH (by omega) hK hA hB hz h9 ?_
  obtain ⟨⟨u1, u2, u3, u4, u5, u6, u7⟩, hw, hEl, hE, hO, hW, hC⟩ := hH
  have hn := hS.1
  have zA := cc_z1 (hS.2.1 (A x) (by omega))
  have zB := cc_z1 (hS.2.1 (B x) (by omega))
  intro v1 v2 s1 L1 o1 E1 R hw1 m1 m2 m3 V1 V2 m5 g1 g2 g3 g4 kp wl yc lL lc _
  obtain ⟨me, mt, cs, wt, vl, ic⟩ := o1
  have g1 : ic h = v1.1 := g1
  have g2 : vl h = v1.2 := g2
  have g3 : ic (h + 1) = v2.1 := g3
  have g4 : vl (h + 1) = v2.2 := g4
  have hst : ¬ (ic h = 0 ∧ ic (h + 1) = 0) → cc_YO K YP YN YF sk cn hg z x s w h L o E (2, (0, 0), s1) := by
    intro hno
    have R3 := cc_RY_g (q := (cn, hg, K, YP, YN, YF, sk)) (q' := (cn, hg, K, YP, YN, YF, sk)) (he := nI (h + 2)) (li := nI L1) (cl := nI s1.2.1) (ca := nI s1.1) (me := me) (mt := mt) (cs := cs) (wt := wt) (vl := vl) (ic := ic) (w := w) (l := l) (x := x) (s := 2) (by omega) (by omega) (by omega) (by omega) (by omega) hw1 (fun post hp => cc_g0n (l := l) (by omega) hk hK (by omega) hno hp)
    exact ⟨w, h, L1, 2, _, E1, cc_RY_t R R3, fun q => absurd q (show ¬ (2 : Int32) = -1 by decide), fun _ => rfl⟩
  by_cases t1 : v1.1 = 0
  · rw [if_pos t1]
    by_cases t2 : v2.1 = 0
    · rw [if_pos t2]
      have R3 := cc_RY_g (q := (cn, hg, K, YP, YN, YF, sk)) (q' := (cn, hg, K, YP, YN, YF, sk)) (he := nI (h + 2)) (li := nI L1) (cl := nI s1.2.1) (ca := nI s1.1) (me := me) (mt := mt) (cs := cs) (wt := wt) (vl := vl) (ic := ic) (w := w) (l := l) (x := x) (s := 2) (by omega) (by omega) (by omega) (by omega) (by omega) hw1 (fun post hp => cc_g0 (l := l) (by omega) hk hK (by omega) (g1.trans t1) (g3.trans t2) hp)
      refine ⟨w, h + 1, L1, -4, _, E1, cc_RY_t R R3, fun _ => ⟨rfl, rfl, rfl, pk_us, ?_, ?_, wl, yc, lL, by show 2 * L1 + 1 + 26 * (60 - s1.1) ≤ _; omega⟩, fun q => absurd rfl q⟩
      · show upd vl h (cc_op (nI k) (vl h) (vl (h + 1))) h = cc_op (K x) v1.2 v2.2
        rw [pk_us, g2, g4, hK]
      · exact cc_Ky_t kp ⟨fun _ _ => rfl, fun j hj => ⟨pk_un (by omega), pk_un (by omega)⟩, fun _ _ => rfl⟩ (Nat.le_refl _) (Nat.le_refl _) lL
    · rw [if_neg t2]
      exact hst (fun q => t2 (g3.symm.trans q.2))
  · rw [if_neg t1]
    exact hst (fun q => t1 (g1.symm.trans q.1))
end
end
section
/-! the reference's work against the evaluator: calls -/
section
variable {n : Nat} {K N W P : Nat → Int32} {A B C z : Nat → Nat} {fr : Nat → Nat → Bool} {YP YN YF sk : Nat → Int32} {cn hg : Int32} {g x l w h L : Nat} {e : cc_E} {s : cc_S} {o : cc_TY} {E : Nat → cc_E}
theorem cc_yt4 (hS : cc_YS n K N W P A B C z fr YP YN) (hI : cc_YI n K N A B C z YP YN YF sk cn hg g) (hH : cc_YH n K z x e s l w h L o E) (hK : K x = 4) (hA : A x < x) (hB : B x < x) (hz : z x = 1 + z (A x) + z (B x)) (h9 : (cc_ev K N A B C (g + 1) x e s).1 ≠ 9) : cc_YO K YP YN YF sk cn hg z x s w h L o E (cc_ev K N A B C (g + 1) x e s) := by
  have hK' : K x = nI 4 := hK
  rw [cc_ev4 hK] at h9 ⊢
  refine cc_y_ab hS hI hH (k := 4) (by omega) hK' hA hB hz h9 ?_
  obtain ⟨⟨u1, u2, u3, u4, u5, u6, u7⟩, hw, hEl, hE, hO, hW, hC⟩ := hH
  have hn := hS.1
  have zA := cc_z1 (hS.2.1 (A x) (by omega))
  have zB := cc_z1 (hS.2.1 (B x) (by omega))
  intro v1 v2 s1 L1 o1 E1 R hw1 m1 m2 m3 V1 V2 m5 g1 g2 g3 g4 kp wl yc lL lc h9'
  obtain ⟨me, mt, cs, wt, vl, ic⟩ := o1
  have g1 : ic h = v1.1 := g1
  have g2 : vl h = v1.2 := g2
  have g3 : ic (h + 1) = v2.1 := g3
  have g4 : vl (h + 1) = v2.2 := g4
  by_cases t1 : v1.1 = 1
  · rw [if_pos t1] at h9' ⊢
    have i1 : ¬ ic h = 0 := by rw [g1, t1]; decide
    by_cases t2 : s1.1 = 60
    · rw [if_pos t2]
      have R3 := cc_RY_g (q := (cn, hg, K, YP, YN, YF, sk)) (q' := (cn, hg, K, YP, YN, YF, sk)) (s' := (nI L1, nI s1.2.1, nI w, nI h, nI 60, 3, me, mt, cs, wt, vl, ic)) (he := nI (h + 2)) (li := nI L1) (cl := nI s1.2.1) (ca := nI 60) (me := me) (mt := mt) (cs := cs) (wt := wt) (vl := vl) (ic := ic) (w := w) (l := l) (x := x) (s := 2) (by omega) (by omega) (by omega) (by omega) (by omega) hw1 (fun post hp => cc_g4t (l := l) (by omega) hK (by omega) i1 hp)
      rw [← t2] at R3
      exact ⟨w, h, L1, 3, _, E1, cc_RY_t R R3, fun q => absurd q (show ¬ (3 : Int32) = -1 by decide), fun _ => rfl⟩
    · rw [if_neg t2] at h9' ⊢
      have V1' := V1
      rcases V1 with V1 | ⟨_, c, hc, ec⟩
      · exact absurd (t1.symm.trans V1) (by decide)
      · have hcl : v1.2.toNatClampNeg = c := by rw [ec]; exact nI_clamp (by omega)
        rw [hcl] at h9' ⊢
        obtain ⟨f1, f7, f3, f4⟩ := m5.2 c hc
        have s60 := m5.1
        obtain ⟨j, yc1, yc2, yc3⟩ := yc c hc
        have yc2 : cs c = nI (32 * j + (s1.2.2 c).1) := yc2
        obtain ⟨fA, fW, fp, fz, ff, fw, hff, hfw, fN, ffr⟩ := cc_nd7 (hS.2.1 _ f1) f7
        have zf := cc_z1 (hS.2.1 (A (s1.2.2 c).1) (by omega))
        have eN := (hS.2.2 _ f1).2.2.2 (Or.inr (Or.inl f7))
        rw [fN] at eN
        have eA := (hS.2.2 _ f1).1 (by rw [f7]; decide) (by rw [f7]; decide)
        obtain ⟨b, hb, eb⟩ := cc_Vb V2
        have R3 := cc_RY_g (q := (cn, hg, K, YP, YN, YF, sk)) (q' := (cn, hg, K, YP, YN, YF, sk)) (he := nI (h + 2)) (li := nI L1) (cl := nI s1.2.1) (ca := nI s1.1) (me := me) (mt := mt) (cs := cs) (wt := wt) (vl := vl) (ic := ic) (w := w) (l := l) (x := x) (s := 2) (by omega) (by omega) (by omega) (by omega) (by omega) hw1 (fun post hp => cc_g4 (l := l) (by omega) hK (by omega) (by omega) (by omega) t2 (by omega) (g1.trans t1) (g2.trans ec) (by omega) yc2 (by omega) (by omega) hff hfw eN hb (g3.trans eb) eA hp)
        have W1 := cc_WL_s (l := j) (m := ff) (b := 1) (d := nI c) wl yc1 hff (by omega)
        have W2 := cc_WL_s (l := L1 + 1) (m := fw) (b := b) (d := vl (h + 1)) W1 (Nat.le_refl _) hfw hb
        obtain ⟨E3, eE3⟩ : ∃ E3, E3 = cc_ext (cc_ext E1 (L1 + 1) (cc_set (E1 j) ff (nI 1, nI c))) (L1 + 1 + 1) (cc_set (cc_ext E1 (L1 + 1) (cc_set (E1 j) ff (nI 1, nI c)) (L1 + 1)) fw (nI b, vl (h + 1))) := ⟨_, rfl⟩
        rw [← eE3] at W2
        have agr : ∀ i, i ≤ L1 → E3 i = E1 i := fun i hi => by rw [eE3, cc_ext_n (by omega), cc_ext_n (by omega)]
        have e1 : (nI 1, nI c) = v1 := by rw [← ec, ← show v1.1 = nI 1 from t1]
        have e2 : (nI b, vl (h + 1)) = v2 := by rw [g4, ← eb]
        have eE : E3 (L1 + 2) = cc_arg N (s1.2.2 c) v1 v2 := by
          rw [eE3]
          show cc_ext _ (L1 + 1 + 1) _ (L1 + 1 + 1) = _
          rw [cc_ext_s, cc_ext_s, yc3, e1, e2]
          unfold cc_arg
          rw [fN, nI_clamp (by omega), show (4 * ff + fw) / 4 = ff by omega, show (4 * ff + fw) % 4 = fw by omega]
        rw [← cc_th_id (cc_ev K N A B C g (A (s1.2.2 c).1) (cc_arg N (s1.2.2 c) v1 v2) (s1.1 + 1, s1.2))] at h9' ⊢
        refine cc_y_part (s1 := (s1.1 + 1, s1.2)) (l1 := L1 + 2) (w1 := w) (h1 := h) (L1 := L1 + 2) (E1 := E3) hS hI (cc_RY_t R R3) ⟨⟨by omega, by omega, Nat.le_refl _, by show _ + 22 * (60 - (s1.1 + 1)) ≤ _; omega, by show _ + 22 * (60 - (s1.1 + 1)) ≤ _; omega, by show _ + 26 * (60 - (s1.1 + 1)) ≤ _; omega, by show 2 * s1.2.1 + _ + 24 * (60 - (s1.1 + 1)) ≤ _; omega⟩, pk_us, eE, cc_EOs (cc_EOs f4 V1') V2, ⟨by show s1.1 + 1 ≤ 60; omega, m5.2⟩, W2, cc_YC_m (L := L1) yc (by omega) agr⟩ h9' ?_
        intro v3 s2 L2 o2 E2 R4 p1 p2 p3 p4 p5 p6 p7 kp2 wl2 yc4 lL2 lc2 _
        have p1 : s1.1 + 1 ≤ s2.1 := p1
        have lc2 : 2 * L2 + 1 + 26 * (60 - s2.1) ≤ 2 * (L1 + 2) + z (A (s1.2.2 c).1) + 26 * (60 - (s1.1 + 1)) := lc2
        refine ⟨w, h + 1, L2, -4, o2, E2, R4, fun _ => ⟨rfl, rfl, rfl, p6, p7, ?_, wl2, yc4, by omega, by show 2 * L2 + 1 + 26 * (60 - s2.1) ≤ _; omega⟩, fun q => absurd rfl q⟩
        have kpm : cc_Ky w h L1 (me, mt, cs, wt, vl, ic) (upd (upd me L1 (nI (8 * j + 2 * ff + 1))) (L1 + 1) (nI (8 * (L1 + 1) + 2 * fw + b)), upd (upd mt L1 (nI c)) (L1 + 1) (vl (h + 1)), cs, upd wt w (nI ((32 * (L1 + 2) + A (s1.2.2 c).1) * 4 + 0)), vl, ic) E1 E3 := ⟨fun i hi => pk_un (by omega), fun i hi => ⟨rfl, rfl⟩, agr⟩
        exact cc_Ky_t kp (cc_Ky_t kpm kp2 (Nat.le_refl _) (Nat.le_refl _) (by omega)) (Nat.le_refl _) (Nat.le_refl _) lL
  · rw [if_neg t1]
    have i0 : ic h = 0 := by
      rcases V1 with V1 | V1
      · exact g1.trans V1
      · exact absurd V1.1 t1
    have R3 := cc_RY_g (q := (cn, hg, K, YP, YN, YF, sk)) (q' := (cn, hg, K, YP, YN, YF, sk)) (he := nI (h + 2)) (li := nI L1) (cl := nI s1.2.1) (ca := nI s1.1) (me := me) (mt := mt) (cs := cs) (wt := wt) (vl := vl) (ic := ic) (w := w) (l := l) (x := x) (s := 2) (by omega) (by omega) (by omega) (by omega) (by omega) hw1 (fun post hp => cc_g4n (l := l) (by omega) hK (by omega) i0 hp)
    exact ⟨w, h, L1, 2, _, E1, cc_RY_t R R3, fun q => absurd q (show ¬ (2 : Int32) = -1 by decide), fun _ => rfl⟩
end
end
section
/-! the reference's work against the evaluator: the rest -/
section
variable {n : Nat} {K N W P : Nat → Int32} {A B C z : Nat → Nat} {fr : Nat → Nat → Bool} {YP YN YF sk : Nat → Int32} {cn hg : Int32} {g x l w h L : Nat} {e : cc_E} {s : cc_S} {o : cc_TY} {E : Nat → cc_E}
theorem cc_yt6 {v : Nat} (hS : cc_YS n K N W P A B C z fr YP YN) (hI : cc_YI n K N A B C z YP YN YF sk cn hg g) (hH : cc_YH n K z x e s l w h L o E) (hK : K x = 6) (hA : A x < x) (hB : B x < x) (hz : z x = 1 + z (A x) + z (B x)) (hv : v < 4) (hN : N x = nI v) (h9 : (cc_ev K N A B C (g + 1) x e s).1 ≠ 9) : cc_YO K YP YN YF sk cn hg z x s w h L o E (cc_ev K N A B C (g + 1) x e s) := by
  rw [cc_ev6 hK] at h9 ⊢
  have k7 : K x ≠ 7 := by rw [hK]; decide
  have k8 : K x ≠ 8 := by rw [hK]; decide
  have k9 : K x ≠ 9 := by rw [hK]; decide
  have hH' := hH
  obtain ⟨⟨u1, u2, u3, u4, u5, u6, u7⟩, hw, hEl, hE, hO, hW, hC⟩ := hH'
  have hn := hS.1
  have zA := cc_z1 (hS.2.1 (A x) (by omega))
  have zB := cc_z1 (hS.2.1 (B x) (by omega))
  have eB := (hS.2.2 x u1).2.1 k7 k8 k9
  have eN := (hS.2.2 x u1).2.2.2 (Or.inl hK)
  rw [hN] at eN
  refine cc_y_a hS hI hH k7 k8 k9 hA (by omega) h9 ?_
  intro v1 s1 L1 o1 E1 R1 hw1 m1 m2 m3 m4 m5 m6 m7 kp wl yc lL lc h9'
  obtain ⟨me, mt, cs, wt, vl, ic⟩ := o1
  have m6 : ic h = v1.1 := m6
  have m7 : vl h = v1.2 := m7
  obtain ⟨b, hb, eb⟩ := cc_Vb m4
  have R2 := cc_RY_g (q := (cn, hg, K, YP, YN, YF, sk)) (q' := (cn, hg, K, YP, YN, YF, sk)) (he := nI (h + 1)) (li := nI L1) (cl := nI s1.2.1) (ca := nI s1.1) (me := me) (mt := mt) (cs := cs) (wt := wt) (vl := vl) (ic := ic) (w := w) (l := l) (x := x) (s := 1) (by omega) (by omega) (by omega) (by omega) (by omega) hw1 (fun post hp => cc_g6 (l := l) (by omega) (by omega) (by omega) (by omega) hK eB eN hb (m6.trans eb) hp)
  have W1 := cc_WL_s (l := l) (m := v) (b := b) (d := vl h) wl (by omega) hv hb
  have eEl : E1 l = e := by rw [kp.2.2 l u3]; exact hEl
  have e2 : (nI b, vl h) = v1 := by rw [m7, ← eb]
  rw [eEl, e2] at W1
  have agr : ∀ i, i ≤ L1 → cc_ext E1 (L1 + 1) (cc_set e v v1) i = E1 i := fun i hi => cc_ext_n (by omega)
  rw [hN, nI_clamp (by omega), ← cc_th_id (cc_ev K N A B C g (B x) _ s1)] at h9' ⊢
  refine cc_y_part (l1 := L1 + 1) (w1 := w) (h1 := h) (L1 := L1 + 1) (E1 := cc_ext E1 (L1 + 1) (cc_set e v v1)) hS hI (cc_RY_t R1 R2) ⟨⟨by omega, by omega, Nat.le_refl _, by omega, by omega, by omega, by omega⟩, pk_us, cc_ext_s, cc_EOs (cc_EOm hE m2) m4, m5, W1, cc_YC_m (L := L1) yc (by omega) agr⟩ h9' ?_
  intro v2 s2 L2 o2 E2 R3 p1 p2 p3 p4 p5 p6 p7 kp2 wl2 yc2 lL2 lc2 _
  refine ⟨w, h + 1, L2, -4, o2, E2, R3, fun _ => ⟨rfl, rfl, rfl, p6, p7, ?_, wl2, yc2, by omega, by show 2 * L2 + 1 + 26 * (60 - s2.1) ≤ _; omega⟩, fun q => absurd rfl q⟩
  have kpm : cc_Ky w h L1 (me, mt, cs, wt, vl, ic) (upd me L1 (nI (8 * l + 2 * v + b)), upd mt L1 (vl h), cs, upd wt w (nI ((32 * (L1 + 1) + B x) * 4 + 0)), vl, ic) E1 (cc_ext E1 (L1 + 1) (cc_set e v v1)) := ⟨fun i hi => pk_un (by omega), fun i hi => ⟨rfl, rfl⟩, agr⟩
  exact cc_Ky_t kp (cc_Ky_t kpm kp2 (Nat.le_refl _) (Nat.le_refl _) (by omega)) (Nat.le_refl _) (Nat.le_refl _) lL
theorem cc_yt5 (hS : cc_YS n K N W P A B C z fr YP YN) (hI : cc_YI n K N A B C z YP YN YF sk cn hg g) (hH : cc_YH n K z x e s l w h L o E) (hK : K x = 5) (hA : A x < x) (hB : B x < x) (hC : C x < x) (hz : z x = 1 + z (A x) + z (B x) + z (C x)) (h9 : (cc_ev K N A B C (g + 1) x e s).1 ≠ 9) : cc_YO K YP YN YF sk cn hg z x s w h L o E (cc_ev K N A B C (g + 1) x e s) := by
  rw [cc_ev5 hK] at h9 ⊢
  have k7 : K x ≠ 7 := by rw [hK]; decide
  have k8 : K x ≠ 8 := by rw [hK]; decide
  have k9 : K x ≠ 9 := by rw [hK]; decide
  have hH' := hH
  obtain ⟨⟨u1, u2, u3, u4, u5, u6, u7⟩, hw, hEl, hE, hO, hW, hCl⟩ := hH'
  have hn := hS.1
  have zA := cc_z1 (hS.2.1 (A x) (by omega))
  have zB := cc_z1 (hS.2.1 (B x) (by omega))
  have zC := cc_z1 (hS.2.1 (C x) (by omega))
  have eB := (hS.2.2 x u1).2.1 k7 k8 k9
  have eC := (hS.2.2 x u1).2.2.1 hK
  refine cc_y_a hS hI hH k7 k8 k9 hA (by omega) h9 ?_
  intro v1 s1 L1 o1 E1 R1 hw1 m1 m2 m3 m4 m5 m6 m7 kp wl yc lL lc h9'
  obtain ⟨me, mt, cs, wt, vl, ic⟩ := o1
  have m6 : ic h = v1.1 := m6
  have m7 : vl h = v1.2 := m7
  have eEl : E1 l = e := by rw [kp.2.2 l u3]; exact hEl
  by_cases t1 : v1.1 = 0
  · rw [if_pos t1] at h9' ⊢
    have R2 := cc_RY_g (q := (cn, hg, K, YP, YN, YF, sk)) (q' := (cn, hg, K, YP, YN, YF, sk)) (he := nI (h + 1)) (li := nI L1) (cl := nI s1.2.1) (ca := nI s1.1) (me := me) (mt := mt) (cs := cs) (wt := wt) (vl := vl) (ic := ic) (w := w) (l := l) (x := x) (s := 1) (by omega) (by omega) (by omega) (by omega) (by omega) hw1 (fun post hp => cc_g5 (l := l) (by omega) (by omega) (by omega) hK eB eC (m6.trans t1) hp)
    by_cases t2 : v1.2 = 0
    · rw [if_pos t2] at h9' ⊢
      rw [if_pos (m7.trans t2)] at R2
      rw [← cc_th_id (cc_ev K N A B C g (C x) e s1)] at h9' ⊢
      refine cc_y_part (l1 := l) (w1 := w) (h1 := h) (L1 := L1) (E1 := E1) hS hI (cc_RY_t R1 R2) ⟨⟨by omega, by omega, by omega, by omega, by omega, by omega, by omega⟩, pk_us, eEl, cc_EOm hE m2, m5, wl, yc⟩ h9' ?_
      intro v2 s2 L2 o2 E2 R3 p1 p2 p3 p4 p5 p6 p7 kp2 wl2 yc2 lL2 lc2 _
      refine ⟨w, h + 1, L2, -4, o2, E2, R3, fun _ => ⟨rfl, rfl, rfl, p6, p7, ?_, wl2, yc2, by omega, by show 2 * L2 + 1 + 26 * (60 - s2.1) ≤ _; omega⟩, fun q => absurd rfl q⟩
      have kpm : cc_Ky w h L1 (me, mt, cs, wt, vl, ic) (me, mt, cs, upd wt w (nI ((32 * l + C x) * 4 + 0)), vl, ic) E1 E1 := ⟨fun i hi => pk_un (by omega), fun i hi => ⟨rfl, rfl⟩, fun _ _ => rfl⟩
      exact cc_Ky_t kp (cc_Ky_t kpm kp2 (Nat.le_refl _) (Nat.le_refl _) (Nat.le_refl _)) (Nat.le_refl _) (Nat.le_refl _) lL
    · rw [if_neg t2] at h9' ⊢
      rw [if_neg (fun q => t2 (m7.symm.trans q))] at R2
      rw [← cc_th_id (cc_ev K N A B C g (B x) e s1)] at h9' ⊢
      refine cc_y_part (l1 := l) (w1 := w) (h1 := h) (L1 := L1) (E1 := E1) hS hI (cc_RY_t R1 R2) ⟨⟨by omega, by omega, by omega, by omega, by omega, by omega, by omega⟩, pk_us, eEl, cc_EOm hE m2, m5, wl, yc⟩ h9' ?_
      intro v2 s2 L2 o2 E2 R3 p1 p2 p3 p4 p5 p6 p7 kp2 wl2 yc2 lL2 lc2 _
      refine ⟨w, h + 1, L2, -4, o2, E2, R3, fun _ => ⟨rfl, rfl, rfl, p6, p7, ?_, wl2, yc2, by omega, by show 2 * L2 + 1 + 26 * (60 - s2.1) ≤ _; omega⟩, fun q => absurd rfl q⟩
      have kpm : cc_Ky w h L1 (me, mt, cs, wt, vl, ic) (me, mt, cs, upd wt w (nI ((32 * l + B x) * 4 + 0)), vl, ic) E1 E1 := ⟨fun i hi => pk_un (by omega), fun i hi => ⟨rfl, rfl⟩, fun _ _ => rfl⟩
      exact cc_Ky_t kp (cc_Ky_t kpm kp2 (Nat.le_refl _) (Nat.le_refl _) (Nat.le_refl _)) (Nat.le_refl _) (Nat.le_refl _) lL
  · rw [if_neg t1]
    have R2 := cc_RY_g (q := (cn, hg, K, YP, YN, YF, sk)) (q' := (cn, hg, K, YP, YN, YF, sk)) (he := nI (h + 1)) (li := nI L1) (cl := nI s1.2.1) (ca := nI s1.1) (me := me) (mt := mt) (cs := cs) (wt := wt) (vl := vl) (ic := ic) (w := w) (l := l) (x := x) (s := 1) (by omega) (by omega) (by omega) (by omega) (by omega) hw1 (fun post hp => cc_g5n (l := l) (by omega) (by omega) hK (fun q => t1 (m6.symm.trans q)) hp)
    exact ⟨w, h, L1, 2, _, E1, cc_RY_t R1 R2, fun q => absurd q (show ¬ (2 : Int32) = -1 by decide), fun _ => rfl⟩
theorem cc_yt (hS : cc_YS n K N W P A B C z fr YP YN) : ∀ g, cc_YI n K N A B C z YP YN YF sk cn hg g := by
  intro g
  induction g with
  | zero => intro x e s l w h L o E hH h9; exact absurd rfl h9
  | succ g ih =>
    intro x e s l w h L o E hH h9
    rcases hS.2.1 x hH.1.1 with q | q | q | q | q | ⟨k, hk, q⟩
    · rw [cc_ev8 q.1]
      exact cc_yt8 hS hH q.1
    · obtain ⟨k9, _, w', hw, hN, hf⟩ := q
      rw [cc_ev9 k9]
      exact cc_yt9 hS hH k9 hw hN
    · rw [cc_ev7 q.1]
      exact cc_yt7 hS hH q.1
    · obtain ⟨h6, hA, hB, hWA, hpA, hWB, hpB, hzx, w', hw, hN, hf⟩ := q
      exact cc_yt6 hS ih hH h6 hA hB hzx hw hN h9
    · obtain ⟨h5, hA, hB, hC, hWA, hpA, hWB, hpB, hWC, hpC, hzx, hf⟩ := q
      exact cc_yt5 hS ih hH h5 hA hB hC hzx h9
    · obtain ⟨hkx, hA, hB, hWA, hpA, hWB, hpB, hzx, hf⟩ := q
      by_cases k4 : k = 4
      · exact cc_yt4 hS ih hH (by rw [hkx, k4]; rfl) hA hB hzx h9
      · exact cc_yt0 hS ih hH (k := k) (by omega) hkx hA hB hzx h9
end
end
section
/-! work, as a whole -/
section
variable {n : Nat} {K N W P : Nat → Int32} {A B C z : Nat → Nat} {fr : Nat → Nat → Bool} {YP YN YF sk : Nat → Int32} {cn : Int32}
theorem cc_w145 {post : SY → Prop} {h : Nat} {li cl wa he ca en : Int32} {me mt cs wt vl ic : Nat → Int32} (hh : h < 6) (he4 : en ≠ -4) (hp : post (cc_ys (cn, nI (h + 1), K, YP, YN, YF, sk) (li, cl, wa, he, ca, en, me, mt, cs, wt, vl, ic))) : cc_LY post 1 (cc_ys (cn, nI (h + 1), K, YP, YN, YF, sk) (li, cl, wa, he, ca, en, me, mt, cs, wt, vl, ic)) := by
  have hd : ¬ nI (h + 1) ≤ 0 := nI_nle (by omega) (by omega)
  refine br_c (fun _ => br_f hd (br_f he4 hp)) (fun _ => br_f he4 (br_f hd (br_f he4 hp)))
theorem cc_w145v {post : SY → Prop} {h : Nat} {li cl he ca e : Int32} {me mt cs wt vl ic : Nat → Int32} (hh : h < 6) (h0 : ic 0 = e) (h1 : e = 0 ∨ e = 1) (hp : post (cc_ys (cn, nI (h + 1), K, YP, YN, YF, sk) (li, cl, nI 0, he, ca, e, me, mt, cs, wt, vl, ic))) : cc_LY post 1 (cc_ys (cn, nI (h + 1), K, YP, YN, YF, sk) (li, cl, nI 0, he, ca, -4, me, mt, cs, wt, vl, ic)) := by
  have hd : ¬ nI (h + 1) ≤ 0 := nI_nle (by omega) (by omega)
  rcases h1 with h1 | h1
  · subst h1
    exact br_t (show nI 0 ≤ 0 by decide) (br_f hd (br_t rfl (br_t h0 hp)))
  · subst h1
    have h2 : ¬ ic 0 = 0 := by rw [h0]; decide
    exact br_t (show nI 0 ≤ 0 by decide) (br_f hd (br_t rfl (br_f h2 hp)))
theorem cc_work (hS : cc_YS n K N W P A B C z fr YP YN) {x h : Nat} (hx : x < n) (hz : z x ≤ 24) (hh : h < 6) (hs : sk h = nI x) {s0 : cc_TS} :
    ∃ (li wa he : Int32) (o : cc_TY), ((cc_ev K N A B C 2000 x cc_e_0 cc_s_0).1 = -1 → o.2.2.2.2.1 0 = (cc_ev K N A B C 2000 x cc_e_0 cc_s_0).2.1.2) ∧
      ∀ post : SY → Prop, post (cc_ys (cn, nI (h + 1), K, YP, YN, YF, sk) (li, nI (cc_ev K N A B C 2000 x cc_e_0 cc_s_0).2.2.2.1, wa, he, nI (cc_ev K N A B C 2000 x cc_e_0 cc_s_0).2.2.1, cc_end (cc_ev K N A B C 2000 x cc_e_0 cc_s_0), o)) → wpY_work post (cc_ys (cn, nI (h + 1), K, YP, YN, YF, sk) s0) := by
  obtain ⟨i1, i2, i3, i4, i5, i6, me, mt, cs, wt, vl, ic⟩ := s0
  have hn := hS.1
  have hP := hS.2.1
  have h9 : (cc_ev K N A B C 2000 x cc_e_0 cc_s_0).1 ≠ 9 := cc_ev_fuel hn hP 2000 x cc_e_0 cc_s_0 (by show 25 * (60 - 0) + x < 2000; omega) hx hz cc_eo0 cc_so0 (by show 2 * 0 + z x + 24 * (60 - 0) < _; omega)
  have Q := cc_ev_ok hP 2000 x cc_e_0 cc_s_0 hx hz cc_eo0 cc_so0 (by show 2 * 0 + z x + 24 * (60 - 0) < _; omega)
  have O := cc_yt (YF := YF) (sk := sk) (cn := cn) (hg := nI (h + 1)) hS 2000 x cc_e_0 cc_s_0 0 0 0 0 (me, mt, cs, upd wt 0 (nI ((32 * 0 + x) * 4 + 0)), vl, ic) (fun _ => cc_e_0) ⟨⟨hx, hz, Nat.le_refl _, by show _ + 22 * (60 - 0) ≤ _; omega, by show _ + 22 * (60 - 0) ≤ _; omega, by show _ + 26 * (60 - 0) ≤ _; omega, by show 2 * 0 + _ + 24 * (60 - 0) ≤ _; omega⟩, (show upd wt 0 (nI ((32 * 0 + x) * 4 + 0)) 0 = nI ((32 * 0 + x) * 4 + 0) from pk_us), rfl, cc_eo0, cc_so0, ⟨rfl, fun j hj => absurd hj (Nat.not_lt_zero j)⟩, fun c hc => absurd hc (Nat.not_lt_zero c)⟩ h9
  have E := cc_end_r Q h9
  generalize cc_ev K N A B C 2000 x cc_e_0 cc_s_0 = r at *
  obtain ⟨w', h', L', en, o', E', ⟨k, R⟩, ok, no⟩ := O
  have e1 : nI (h + 1) - 1 = nI h := nI_pred h
  have j1 : vp_in (nI (h + 1) - 1) 6 := by rw [e1]; exact vp_in_nI hh (by omega)
  have e2 : sk (nI (h + 1) - 1).toNatClampNeg = nI x := by rw [e1, nI_clamp (by omega)]; exact hs
  have fin : ∀ post : SY → Prop, (∃ n : Nat, cc_LY post n (cc_ys (cn, nI (h + 1), K, YP, YN, YF, sk) (nI 0, nI 0, nI (0 + 1), nI 0, nI 0, -4, me, mt, cs, upd wt 0 (nI ((32 * 0 + x) * 4 + 0)), vl, ic))) → wpY_work post (cc_ys (cn, nI (h + 1), K, YP, YN, YF, sk) (i1, i2, i3, i4, i5, i6, me, mt, cs, wt, vl, ic)) := by
    intro post hp
    refine br_f (nI_nle (n := h + 1) (by omega) (by omega)) (And.intro j1 ?_)
    show wpY_wait _ _ (sk (nI (h + 1) - 1).toNatClampNeg) (nI 0) (nI 0)
    rw [e2]
    exact cc_wait (q := (cn, nI (h + 1), K, YP, YN, YF, sk)) (li := nI 0) (cl := nI 0) (he := nI 0) (ca := nI 0) (en := -4) (me := me) (mt := mt) (cs := cs) (wt := wt) (vl := vl) (ic := ic) (w := 0) (x := x) (s := 0) (l := 0) (by omega) hp
  obtain ⟨me', mt', cs', wt', vl', ic'⟩ := o'
  by_cases r1 : r.1 = -1
  · obtain ⟨rfl, rfl, rfl, g1, g2, _⟩ := ok r1
    have e3 : cc_end r = r.2.1.1 := by unfold cc_end; rw [if_pos r1]
    have e4 : r.2.1.1 = 0 ∨ r.2.1.1 = 1 := by
      rcases Q.2.2.2.2.2.1 r1 with w | w
      · exact Or.inl w
      · exact Or.inr w.1
    refine ⟨nI L', nI 0, nI (0 + 1), (me', mt', cs', wt', vl', ic'), fun _ => g2, fun post hp => fin post ⟨1 + k, R post 1 ?_⟩⟩
    rw [e3] at hp
    exact cc_w145v hh g1 e4 hp
  · have e3 : cc_end r = r.1 := by unfold cc_end; rw [if_neg r1]
    have e4 := no r1
    refine ⟨nI L', nI w', nI h', (me', mt', cs', wt', vl', ic'), fun q => absurd q r1, fun post hp => fin post ⟨1 + k, R post 1 ?_⟩⟩
    rw [e4, ← e3]
    refine cc_w145 hh ?_ hp
    rcases E.1 with w | w | w | w <;> rw [w] <;> decide
theorem cc_work0 {post : SY → Prop} {i1 i2 i3 i4 i5 i6 : Int32} {o : cc_TY} (hp : post (cc_ys (cn, 0, K, YP, YN, YF, sk) (0, 0, 0, 0, 0, -4, o))) : wpY_work post (cc_ys (cn, 0, K, YP, YN, YF, sk) (i1, i2, i3, i4, i5, i6, o)) :=
  br_t (show (0 : Int32) ≤ 0 by decide) ⟨1, br_t (show (0 : Int32) ≤ 0 by decide) (br_t (show (0 : Int32) ≤ 0 by decide) hp)⟩
end
end
section
/-! the relation of the two programs, and a new program on top -/
def cc_mk (b : Nat → Bool) : Int32 := (if b 0 = true then 1 else 0) ||| (if b 1 = true then 2 else 0) ||| (if b 2 = true then 4 else 0) ||| (if b 3 = true then 8 else 0)
def cc_m4 (a b c d : Bool) : Int32 := (if a = true then 1 else 0) ||| (if b = true then 2 else 0) ||| (if c = true then 4 else 0) ||| (if d = true then 8 else 0)
theorem cc_m4_or : ∀ a b c d a' b' c' d', cc_m4 (a || a') (b || b') (c || c') (d || d') = cc_m4 a b c d ||| cc_m4 a' b' c' d' := by decide
theorem cc_m4_0 : ∀ a b c d, cc_m4 a b c d &&& (((1 : Int32) <<< (nI 0 &&& 31)) ^^^ (-1)) = cc_m4 false b c d := by decide
theorem cc_m4_1 : ∀ a b c d, cc_m4 a b c d &&& (((1 : Int32) <<< (nI 1 &&& 31)) ^^^ (-1)) = cc_m4 a false c d := by decide
theorem cc_m4_2 : ∀ a b c d, cc_m4 a b c d &&& (((1 : Int32) <<< (nI 2 &&& 31)) ^^^ (-1)) = cc_m4 a b false d := by decide
theorem cc_m4_3 : ∀ a b c d, cc_m4 a b c d &&& (((1 : Int32) <<< (nI 3 &&& 31)) ^^^ (-1)) = cc_m4 a b c false := by decide
theorem cc_mk_or (a b : Nat → Bool) : cc_mk (fun v => a v || b v) = cc_mk a ||| cc_mk b := cc_m4_or _ _ _ _ _ _ _ _
theorem cc_mk_n (a : Nat → Bool) {w : Nat} (hw : w < 4) : cc_mk (fun v => a v && !decide (v = w)) = cc_mk a &&& (((1 : Int32) <<< (nI w &&& 31)) ^^^ (-1)) := by
  rcases (show w = 0 ∨ w = 1 ∨ w = 2 ∨ w = 3 by omega) with h | h | h | h <;> subst h
  · refine Eq.trans ?_ (cc_m4_0 (a 0) (a 1) (a 2) (a 3)).symm
    show cc_m4 (a 0 && false) (a 1 && true) (a 2 && true) (a 3 && true) = _
    simp
  · refine Eq.trans ?_ (cc_m4_1 (a 0) (a 1) (a 2) (a 3)).symm
    show cc_m4 (a 0 && true) (a 1 && false) (a 2 && true) (a 3 && true) = _
    simp
  · refine Eq.trans ?_ (cc_m4_2 (a 0) (a 1) (a 2) (a 3)).symm
    show cc_m4 (a 0 && true) (a 1 && true) (a 2 && false) (a 3 && true) = _
    simp
  · refine Eq.trans ?_ (cc_m4_3 (a 0) (a 1) (a 2) (a 3)).symm
    show cc_m4 (a 0 && true) (a 1 && true) (a 2 && true) (a 3 && false) = _
    simp
theorem cc_mk_1 {w : Nat} (hw : w < 4) : cc_mk (fun v => decide (v = w)) = (1 : Int32) <<< (nI w &&& 31) := by
  rcases (show w = 0 ∨ w = 1 ∨ w = 2 ∨ w = 3 by omega) with h | h | h | h <;> subst h <;> decide
theorem cc_mk_0 : cc_mk (fun _ => false) = 0 := by decide
theorem cc_mk_e {a b : Nat → Bool} (h : ∀ v, a v = b v) : cc_mk a = cc_mk b := by
  rw [show a = b from funext h]
def cc_un (f : Nat → Nat) (k x : Nat) : Nat → Nat := fun j => if j = k then x else f j
theorem cc_un_s {f : Nat → Nat} {k x : Nat} : cc_un f k x k = x := if_pos rfl
theorem cc_un_n {f : Nat → Nat} {k x j : Nat} (h : j ≠ k) : cc_un f k x j = f j := if_neg h
def cc_uf (f : Nat → Nat → Bool) (k : Nat) (x : Nat → Bool) : Nat → Nat → Bool := fun j => if j = k then x else f j
theorem cc_uf_s {f : Nat → Nat → Bool} {k : Nat} {x : Nat → Bool} : cc_uf f k x k = x := if_pos rfl
theorem cc_uf_n {f : Nat → Nat → Bool} {k j : Nat} {x : Nat → Bool} (h : j ≠ k) : cc_uf f k x j = f j := if_neg h
def cc_sm (f : Nat → Nat) : Nat → Nat
  | 0 => 0
  | k + 1 => cc_sm f k + f k
theorem cc_sm_c {f g : Nat → Nat} : ∀ k, (∀ j, j < k → f j = g j) → cc_sm f k = cc_sm g k := by
  intro k
  induction k with
  | zero => intro _; rfl
  | succ k ih => intro h; rw [cc_sm, cc_sm, ih (fun j hj => h j (by omega)), h k (by omega)]
theorem cc_sm_1 {f : Nat → Nat} {j : Nat} : ∀ k, j < k → f j ≤ cc_sm f k := by
  intro k
  induction k with
  | zero => intro h; omega
  | succ k ih =>
    intro h
    rw [cc_sm]
    by_cases q : j = k
    · rw [q]; omega
    · have := ih (by omega); omega
/-- a program is a root, or a part of a later one -/
def cc_Uf (n : Nat) (K W P : Nat → Int32) (A B C : Nat → Nat) (x : Nat) : Prop := W x = -1 ∨ ∃ w, W x = nI w ∧ x < w ∧ w < n ∧ ((P x = 0 ∧ A w = x ∧ K w ≠ 8 ∧ K w ≠ 9) ∨ (P x = 1 ∧ B w = x ∧ K w ≠ 7 ∧ K w ≠ 8 ∧ K w ≠ 9) ∨ (P x = 2 ∧ C w = x ∧ K w = 5))
def cc_N1 (n : Nat) (K PA PB PC N W P YP YN YF : Nat → Int32) (A B C z : Nat → Nat) (fr : Nat → Nat → Bool) (x : Nat) : Prop :=
  cc_Uf n K W P A B C x ∧ cc_Nd K N W P A B C z fr x ∧ cc_XP K PA PB PC A B C x ∧ cc_YX K N YP YN A B C x ∧ YF x = cc_mk (fr x)
def cc_I2 (n h : Nat) (K PA PB PC N W P sk YP YN YF : Nat → Int32) (A B C z st : Nat → Nat) (fr : Nat → Nat → Bool) : Prop :=
  (n ≤ 24 ∧ h ≤ 6 ∧ cc_sm (fun j => z (st j)) h ≤ n) ∧ (∀ x, x < n → cc_N1 n K PA PB PC N W P YP YN YF A B C z fr x) ∧ (∀ j, j < h → sk j = nI (st j) ∧ st j < n ∧ W (st j) = -1) ∧ (∀ i j, i < j → j < h → st i < st j)
def cc_IR (cn hg : Int32) (K PA PB PC N W P sk YP YN YF : Nat → Int32) : Prop := ∃ (n h : Nat) (A B C z st : Nat → Nat) (fr : Nat → Nat → Bool), cn = nI n ∧ hg = nI h ∧ cc_I2 n h K PA PB PC N W P sk YP YN YF A B C z st fr
section
variable {n : Nat} {K PA PB PC N W P sk YP YN YF K' PA' PB' PC' N' W' P' sk' YP' YN' YF' : Nat → Int32} {A B C z st A' B' C' z' : Nat → Nat} {fr fr' : Nat → Nat → Bool}
theorem cc_nIm {a : Nat} (h : a < 2 ^ 30) : nI a ≠ -1 := by
  intro q
  have := congrArg Int32.toInt q
  rw [nI_toInt (by omega), show (-1 : Int32).toInt = -1 by decide] at this
  omega
/-- the new program n over the topmost t = h - h0 of the stack -/
theorem cc_new {h0 t : Nat} (hI : cc_I2 n (h0 + t) K PA PB PC N W P sk YP YN YF A B C z st fr) (hn : n < 24) (hh : h0 + 1 ≤ 6)
    (cK : ∀ y, y < n → K' y = K y ∧ N' y = N y ∧ PA' y = PA y ∧ PB' y = PB y ∧ PC' y = PC y ∧ YN' y = YN y ∧ YF' y = YF y)
    (cA : ∀ y, y < n → A' y = A y ∧ B' y = B y ∧ C' y = C y ∧ z' y = z y ∧ fr' y = fr y)
    (cY : ∀ y, y < 3 * n → YP' y = YP y)
    (w1 : W' n = -1) (w2 : ∀ i, i < t → W' (st (h0 + i)) = nI n ∧ P' (st (h0 + i)) = nI i) (w3 : ∀ y, y < n → (∀ i, i < t → y ≠ st (h0 + i)) → W' y = W y ∧ P' y = P y)
    (hpt : ∀ i, i < t → (i = 0 ∧ A' n = st (h0 + i) ∧ K' n ≠ 8 ∧ K' n ≠ 9) ∨ (i = 1 ∧ B' n = st (h0 + i) ∧ K' n ≠ 7 ∧ K' n ≠ 8 ∧ K' n ≠ 9) ∨ (i = 2 ∧ C' n = st (h0 + i) ∧ K' n = 5))
    (hz : z' n ≤ 1 + cc_sm (fun i => z (st (h0 + i))) t) (hs : sk' h0 = nI n) (cs : ∀ j, j < h0 → sk' j = sk j)
    (hN : cc_Nd K' N' W' P' A' B' C' z' fr' n) (hX : cc_XP K' PA' PB' PC' A' B' C' n) (hY : cc_YX K' N' YP' YN' A' B' C' n) (hF : YF' n = cc_mk (fr' n)) :
    cc_I2 (n + 1) (h0 + 1) K' PA' PB' PC' N' W' P' sk' YP' YN' YF' A' B' C' z' (cc_un st h0 n) fr' := by
  obtain ⟨⟨n24, h6, hsm⟩, hx, hst, hin⟩ := hI
  have wr : ∀ y, y < n → W y ≠ -1 → W' y = W y ∧ P' y = P y := by
    intro y hy hw
    exact w3 y hy (fun i hi q => hw (by rw [q]; exact (hst (h0 + i) (by omega)).2.2))
  have smA : ∀ t', t' ≤ t → cc_sm (fun j => z (st j)) (h0 + t') = cc_sm (fun j => z (st j)) h0 + cc_sm (fun i => z (st (h0 + i))) t' := by
    intro t'
    induction t' with
    | zero => intro _; rw [Nat.add_zero, cc_sm, Nat.add_zero]
    | succ t' ih =>
      intro ht
      rw [← Nat.add_assoc, cc_sm, cc_sm, ih (by omega), Nat.add_assoc]
  have sm2 := smA t (Nat.le_refl _)
  refine ⟨⟨by omega, hh, ?_⟩, ?_, ?_, ?_⟩
  · rw [cc_sm, cc_un_s]
    have : cc_sm (fun j => z' (cc_un st h0 n j)) h0 = cc_sm (fun j => z (st j)) h0 := by
      refine cc_sm_c h0 (fun j hj => ?_)
      rw [cc_un_n (by omega), (cA _ (hst j (by omega)).2.1).2.2.2.1]
    rw [this]
    omega
  · intro x hxn
    by_cases xn : x = n
    · subst xn
      exact ⟨Or.inl w1, hN, hX, hY, hF⟩
    · have xl : x < n := by omega
      obtain ⟨q1, q2, q3, q4, q5⟩ := hx x xl
      obtain ⟨k1, k2, k3, k4, k5, k6, k7⟩ := cK x xl
      obtain ⟨a1, a2, a3, a4, a5⟩ := cA x xl
      refine ⟨?_, ?_, ?_, ?_, ?_⟩
      · by_cases ad : ∃ i, i < t ∧ x = st (h0 + i)
        · obtain ⟨i, hi, ei⟩ := ad
          have wi := w2 i hi
          rw [← ei] at wi
          refine Or.inr ⟨n, wi.1, xl, by omega, ?_⟩
          rcases hpt i hi with p | p | p
          · left; rw [wi.2, p.1, ei]; exact ⟨rfl, p.2.1, p.2.2⟩
          · right; left; rw [wi.2, p.1, ei]; exact ⟨rfl, p.2.1, p.2.2⟩
          · right; right; rw [wi.2, p.1, ei]; exact ⟨rfl, p.2.1, p.2.2⟩
        · obtain ⟨e1, e2⟩ := w3 x xl (fun i hi q => ad ⟨i, hi, q⟩)
          rcases q1 with q1 | ⟨w, b1, b2, b3, b4⟩
          · left; rw [e1]; exact q1
          · right
            obtain ⟨ck1, _⟩ := cK w b3
            obtain ⟨ca1, ca2, ca3, _⟩ := cA w b3
            refine ⟨w, by rw [e1]; exact b1, b2, by omega, ?_⟩
            rw [e2, ca1, ca2, ca3, ck1]
            exact b4
      · unfold cc_Nd at q2 ⊢
        rw [k1, k2, a1, a2, a3, a4, a5]
        have sub : ∀ y, y < x → W y = nI x → W' y = W y ∧ P' y = P y := fun y hy hw => wr y (by omega) (by rw [hw]; exact cc_nIm (by omega))
        rcases q2 with q | q | q | q | q | ⟨k, hk, q⟩
        · exact Or.inl q
        · exact Or.inr (Or.inl q)
        · obtain ⟨c1, c2, c3, c4, c5, c6⟩ := q
          have sA := sub (A x) c2 c3
          have cA1 := cA (A x) (by omega)
          rw [sA.1, sA.2, cA1.2.2.2.1, cA1.2.2.2.2]
          exact Or.inr (Or.inr (Or.inl ⟨c1, c2, c3, c4, c5, c6⟩))
        · obtain ⟨c1, c2, c3, c4, c5, c6, c7, c8, c9⟩ := q
          have sA := sub (A x) c2 c4
          have sB := sub (B x) c3 c6
          have cA1 := cA (A x) (by omega)
          have cB1 := cA (B x) (by omega)
          rw [sA.1, sA.2, sB.1, sB.2, cA1.2.2.2.1, cA1.2.2.2.2, cB1.2.2.2.1, cB1.2.2.2.2]
          exact Or.inr (Or.inr (Or.inr (Or.inl ⟨c1, c2, c3, c4, c5, c6, c7, c8, c9⟩)))
        · obtain ⟨c1, c2, c3, c4, c5, c6, c7, c8, c9, c10, c11, c12⟩ := q
          have sA := sub (A x) c2 c5
          have sB := sub (B x) c3 c7
          have sC := sub (C x) c4 c9
          have cA1 := cA (A x) (by omega)
          have cB1 := cA (B x) (by omega)
          have cC1 := cA (C x) (by omega)
          rw [sA.1, sA.2, sB.1, sB.2, sC.1, sC.2, cA1.2.2.2.1, cA1.2.2.2.2, cB1.2.2.2.1, cB1.2.2.2.2, cC1.2.2.2.1, cC1.2.2.2.2]
          exact Or.inr (Or.inr (Or.inr (Or.inr (Or.inl ⟨c1, c2, c3, c4, c5, c6, c7, c8, c9, c10, c11, c12⟩))))
        · obtain ⟨c1, c2, c3, c4, c5, c6, c7, c8, c9⟩ := q
          have sA := sub (A x) c2 c4
          have sB := sub (B x) c3 c6
          have cA1 := cA (A x) (by omega)
          have cB1 := cA (B x) (by omega)
          rw [sA.1, sA.2, sB.1, sB.2, cA1.2.2.2.1, cA1.2.2.2.2, cB1.2.2.2.1, cB1.2.2.2.2]
          exact Or.inr (Or.inr (Or.inr (Or.inr (Or.inr ⟨k, hk, c1, c2, c3, c4, c5, c6, c7, c8, c9⟩))))
      · unfold cc_XP at q3 ⊢
        rw [k1, k3, k4, k5, a1, a2, a3]
        exact q3
      · unfold cc_YX at q4 ⊢
        rw [k1, k2, k6, a1, a2, a3, cY _ (by omega), cY _ (by omega), cY _ (by omega)]
        exact q4
      · rw [k7, a5]
        exact q5
  · intro j hj
    by_cases jh : j = h0
    · rw [jh, cc_un_s]
      exact ⟨hs, by omega, w1⟩
    · obtain ⟨s1, s2, s3⟩ := hst j (by omega)
      rw [cc_un_n jh, cs j (by omega)]
      refine ⟨s1, by omega, ?_⟩
      rw [(w3 (st j) s2 (fun i hi => by have := hin j (h0 + i) (by omega) (by omega); omega)).1]
      exact s3
  · intro i j hij hj
    by_cases jh : j = h0
    · rw [jh, cc_un_s, cc_un_n (by omega)]
      exact (hst i (by omega)).2.1
    · rw [cc_un_n jh, cc_un_n (by omega)]
      exact hin i j hij (by omega)
end
end
section
/-! making programs: the walks of both sides -/
def cc_ad (W : Nat → Int32) (a x : Int32) : Nat → Int32 := if a < 0 then W else upd W a.toNatClampNeg x
theorem cc_ad_n (W : Nat → Int32) (x : Int32) : cc_ad W (-1) x = W := if_pos (by decide)
theorem cc_ad_y (W : Nat → Int32) (x : Int32) {q : Nat} (h : q < 2 ^ 31) : cc_ad W (nI q) x = upd W q x := by
  unfold cc_ad
  rw [if_neg (nI_pos h), nI_clamp h]
def cc_ao (a : Int32) : Prop := a = -1 ∨ ∃ q, q < 24 ∧ a = nI q
section
variable {cn hg : Int32} {K PA PB PC N W P sk : Nat → Int32} {c : cc_TC} {t : cc_TT} {f : cc_TF} {r : cc_TR}
theorem cc_adopt {post : SX → Prop} {a w : Int32} (ha : cc_ao a) (hp : post (cc_xs (cn, hg, K, PA, PB, PC, N, cc_ad W a cn, cc_ad P a w, sk) c t f r)) : wpX_adopt post (cc_xs (cn, hg, K, PA, PB, PC, N, W, P, sk) c t f r) a w := by
  rcases ha with h | ⟨q, hq, h⟩
  · subst h
    rw [cc_ad_n, cc_ad_n] at hp
    exact br_t (show (-1 : Int32) < 0 by decide) hp
  · subst h
    rw [cc_ad_y _ _ (by omega), cc_ad_y _ _ (by omega)] at hp
    have e1 : (nI q).toNatClampNeg = q := nI_clamp (by omega)
    have i1 : vp_in (nI q) 24 := vp_in_nI hq (by omega)
    exact br_f (nI_pos (by omega)) (And.intro i1 (nm_r (cc_u W e1 cn) (And.intro i1 (nm_r (cc_u P e1 w) hp))))
theorem cc_make {post : Int32 → SX → Prop} {n : Nat} {k a b d : Int32} (hn : n < 24) (ha : cc_ao a) (hb : cc_ao b) (hd : cc_ao d) (hp : post (nI n) (cc_xs (nI (n + 1), hg, upd K n k, upd PA n a, upd PB n b, upd PC n d, N, cc_ad (cc_ad (cc_ad (upd W n (-1)) a (nI n)) b (nI n)) d (nI n), cc_ad (cc_ad (cc_ad P a 0) b 1) d 2, sk) c t f r)) : wpX_make post (cc_xs (nI n, hg, K, PA, PB, PC, N, W, P, sk) c t f r) k a b d := by
  have e1 : (nI n).toNatClampNeg = n := nI_clamp (by omega)
  have i1 : vp_in (nI n) 24 := vp_in_nI hn (by omega)
  refine And.intro i1 (nm_r (cc_u K e1 k) (And.intro i1 (nm_r (cc_u PA e1 a) (And.intro i1 (nm_r (cc_u PB e1 b) (And.intro i1 (nm_r (cc_u PC e1 d) (And.intro i1 (nm_r (cc_u W e1 (-1)) ?_)))))))))
  refine cc_adopt (cn := nI n) (hg := hg) (K := upd K n k) (PA := upd PA n a) (PB := upd PB n b) (PC := upd PC n d) (N := N) (W := upd W n (-1)) (P := P) (sk := sk) (c := c) (t := t) (f := f) (r := r) ha ?_
  refine cc_adopt (cn := nI n) (hg := hg) (K := upd K n k) (PA := upd PA n a) (PB := upd PB n b) (PC := upd PC n d) (N := N) (W := cc_ad (upd W n (-1)) a (nI n)) (P := cc_ad P a 0) (sk := sk) (c := c) (t := t) (f := f) (r := r) hb ?_
  refine cc_adopt (cn := nI n) (hg := hg) (K := upd K n k) (PA := upd PA n a) (PB := upd PB n b) (PC := upd PC n d) (N := N) (W := cc_ad (cc_ad (upd W n (-1)) a (nI n)) b (nI n)) (P := cc_ad (cc_ad P a 0) b 1) (sk := sk) (c := c) (t := t) (f := f) (r := r) hd ?_
  refine nm_r (e' := nI (n + 1)) (nI_1 n) ?_
  show post (nI (n + 1) - 1) _
  rw [nI_pred]
  exact hp
theorem cc_xleaf {post : Int32 → SX → Prop} {n h : Nat} {k m : Int32} (hn : n < 24) (hh : h < 6) (hp : post (nI (h + 1)) (cc_xs (nI (n + 1), nI (h + 1), upd K n k, upd PA n (-1), upd PB n (-1), upd PC n (-1), upd N n m, upd W n (-1), P, upd sk h (nI n)) c t f r)) : wpX_leaf post (cc_xs (nI n, nI h, K, PA, PB, PC, N, W, P, sk) c t f r) k m := by
  have e1 : (nI n).toNatClampNeg = n := nI_clamp (by omega)
  have i1 : vp_in (nI n) 24 := vp_in_nI hn (by omega)
  have e2 : (nI h).toNatClampNeg = h := nI_clamp (by omega)
  have i2 : vp_in (nI h) 6 := vp_in_nI hh (by omega)
  have n1 : ¬ nI n = 24 := fun q => by have := (nI_eq (b := 24) (by omega) (by omega)).mp q; omega
  have n2 : ¬ nI h = 6 := fun q => by have := (nI_eq (b := 6) (by omega) (by omega)).mp q; omega
  have am : cc_ao (-1) := Or.inl rfl
  refine br_f n1 (br_f n2 ?_)
  refine cc_make (hg := nI h) (K := K) (PA := PA) (PB := PB) (PC := PC) (N := N) (W := W) (P := P) (sk := sk) (c := c) (t := t) (f := f) (r := r) hn am am am ?_
  rw [cc_ad_n, cc_ad_n, cc_ad_n, cc_ad_n, cc_ad_n, cc_ad_n]
  exact And.intro i1 (nm_r (cc_u N e1 m) (And.intro i2 (nm_r (cc_u sk e2 (nI n)) (nm_r (e' := nI (h + 1)) (nI_1 h) hp))))
end
/-- the parts as the reference copies them -/
def cc_yp (YP sk : Nat → Int32) (n h0 : Nat) : Nat → Nat → Int32
  | 0 => YP
  | t + 1 => upd (cc_yp YP sk n h0 t) (3 * n + t) (sk (h0 + t))
theorem cc_yp_o {YP sk : Nat → Int32} {n h0 y : Nat} : ∀ t, y < 3 * n → cc_yp YP sk n h0 t y = YP y := by
  intro t
  induction t with
  | zero => intro _; rfl
  | succ t ih => intro h; rw [cc_yp, pk_un (by omega)]; exact ih h
theorem cc_yp_i {YP sk : Nat → Int32} {n h0 i : Nat} : ∀ t, i < t → cc_yp YP sk n h0 t (3 * n + i) = sk (h0 + i) := by
  intro t
  induction t with
  | zero => intro h; omega
  | succ t ih =>
    intro h
    rw [cc_yp]
    by_cases q : i = t
    · rw [q, pk_us]
    · rw [pk_un (by omega)]; exact ih (by omega)
section
variable {f_listed f_closed f_waiting f_held f_called f_ending : Int32} {a_meanings a_meant a_closures a_waits a_values a_isClosure : Nat → Int32}
theorem cc_nl {post : Int32 → SY → Prop} {n h0 T : Nat} {K YP YN YF sk : Nat → Int32} {k m fe : Int32} (hn : n < 24) (hT : T ≤ 3) (hh : h0 + T ≤ 6) (h1 : h0 + 1 ≤ 6) : ∀ d t, t + d = T →
    post (nI (h0 + 1)) (nI (n + 1), nI (h0 + 1), f_listed, f_closed, f_waiting, f_held, f_called, f_ending, upd K n k, cc_yp YP sk n h0 T, upd YN n m, upd YF n fe, upd sk h0 (nI n), a_meanings, a_meant, a_closures, a_waits, a_values, a_isClosure) →
    wY_note_13 post k (nI T) m fe (nI n) (nI h0) f_listed f_closed f_waiting f_held f_called f_ending (d + 1) (nI t) K (cc_yp YP sk n h0 t) YN YF sk a_meanings a_meant a_closures a_waits a_values a_isClosure := by
  intro d
  have e1 : (nI n).toNatClampNeg = n := nI_clamp (by omega)
  have i1 : vp_in (nI n) 24 := vp_in_nI hn (by omega)
  have e2 : (nI h0).toNatClampNeg = h0 := nI_clamp (by omega)
  have i2 : vp_in (nI h0) 6 := vp_in_nI (by omega) (by omega)
  induction d with
  | zero =>
    intro t ht hp
    have e : t = T := by omega
    subst e
    exact br_t (Int32.le_refl _) (And.intro i1 (nm_r (cc_u K e1 k) (And.intro i1 (nm_r (cc_u YN e1 m) (And.intro i1 (nm_r (cc_u YF e1 fe) (And.intro i2 (nm_r (cc_u sk e2 (nI n)) (nm_r (e' := nI (n + 1)) (nI_1 n) (nm_r (e' := nI (h0 + 1)) (nI_1 h0) hp))))))))))
  | succ d ih =>
    intro t ht hp
    have e3 : nI h0 + nI t = nI (h0 + t) := nI_add h0 t
    have i3 : vp_in (nI h0 + nI t) 6 := by rw [e3]; exact vp_in_nI (by omega) (by omega)
    have e4 : 3 * nI n + nI t = nI (3 * n + t) := by rw [show (3 : Int32) = nI 3 from rfl, pk_mul, nI_add]
    have i4 : vp_in (3 * nI n + nI t) 72 := by rw [e4]; exact vp_in_nI (by omega) (by omega)
    have e5 : upd (cc_yp YP sk n h0 t) (3 * nI n + nI t).toNatClampNeg (sk (nI h0 + nI t).toNatClampNeg) = cc_yp YP sk n h0 (t + 1) := by
      rw [e4, e3, nI_clamp (by omega), nI_clamp (by omega)]
      rfl
    exact br_f (nI_ge (by omega) (by omega)) (And.intro i3 (And.intro i4 (nm_r e5 (nm_r (nI_1 t) (ih (t + 1) (by omega) hp)))))
end
theorem cc_sb (h T : Nat) : nI (h + T) - nI T = nI h := by
  rw [pk_sub (by omega)]; exact congrArg nI (by omega)
theorem cc_note {post : Int32 → SY → Prop} {n h0 T : Nat} {K YP YN YF sk : Nat → Int32} {k m fe : Int32} {s : cc_TS} (hn : n < 24) (hT : T ≤ 3) (hh : h0 + T ≤ 6) (h1 : h0 + 1 ≤ 6) (hp : post (nI (h0 + 1)) (cc_ys (nI (n + 1), nI (h0 + 1), upd K n k, cc_yp YP sk n h0 T, upd YN n m, upd YF n fe, upd sk h0 (nI n)) s)) : wpY_note post (cc_ys (nI n, nI (h0 + T), K, YP, YN, YF, sk) s) k (nI T) m fe :=
  nm_r (e' := nI h0) (cc_sb h0 T) ⟨T + 1, cc_nl hn hT hh h1 T 0 (by omega) hp⟩
section
variable {n h : Nat} {K YP YN YF sk : Nat → Int32} {s : cc_TS}
theorem cc_yleaf {post : Int32 → SY → Prop} {k m fe : Int32} (hn : n < 24) (hh : h < 6) (hp : post (nI (h + 1)) (cc_ys (nI (n + 1), nI (h + 1), upd K n k, YP, upd YN n m, upd YF n fe, upd sk h (nI n)) s)) : wpY_leaf post (cc_ys (nI n, nI h, K, YP, YN, YF, sk) s) k m fe := by
  have n1 : ¬ nI n = 24 := fun q => by have := (nI_eq (b := 24) (by omega) (by omega)).mp q; omega
  have n2 : ¬ nI h = 6 := fun q => by have := (nI_eq (b := 6) (by omega) (by omega)).mp q; omega
  exact br_f n1 (br_f n2 (cc_note (n := n) (h0 := h) (T := 0) (K := K) (YP := YP) (YN := YN) (YF := YF) (sk := sk) (s := s) hn (by omega) (by omega) (by omega) hp))
theorem cc_ymake {post : Int32 → SY → Prop} {k m fe : Int32} {T : Nat} (hn : n < 24) (hT : T ≤ 3) (hh : h + T ≤ 6) (h1 : h + 1 ≤ 6) (hp : post (nI (h + 1)) (cc_ys (nI (n + 1), nI (h + 1), upd K n k, cc_yp YP sk n h T, upd YN n m, upd YF n fe, upd sk h (nI n)) s)) : wpY_make post (cc_ys (nI n, nI (h + T), K, YP, YN, YF, sk) s) k (nI T) m fe := by
  have n1 : ¬ nI n = 24 := fun q => by have := (nI_eq (b := 24) (by omega) (by omega)).mp q; omega
  exact br_f n1 (br_t (nI_le (by omega) (by omega)) (cc_note (n := n) (h0 := h) (T := T) (K := K) (YP := YP) (YN := YN) (YF := YF) (sk := sk) (s := s) hn hT hh h1 hp))
theorem cc_ymake_f {post : Int32 → SY → Prop} {hg k m fe t : Int32} (hp : post (-2) (cc_ys (nI 24, hg, K, YP, YN, YF, sk) s)) : wpY_make post (cc_ys (nI 24, hg, K, YP, YN, YF, sk) s) k t m fe :=
  br_t (show nI 24 = 24 from rfl) hp
theorem cc_ymake_t {post : Int32 → SY → Prop} {k m fe : Int32} {T : Nat} (hn : n < 24) (hT : h < T) (hT2 : T < 100) (hp : post (-3) (cc_ys (nI n, nI h, K, YP, YN, YF, sk) s)) : wpY_make post (cc_ys (nI n, nI h, K, YP, YN, YF, sk) s) k (nI T) m fe := by
  have n1 : ¬ nI n = 24 := fun q => by have := (nI_eq (b := 24) (by omega) (by omega)).mp q; omega
  exact br_f n1 (br_f (nI_ge hT (by omega)) hp)
/-- what is free in the i-th program from the top -/
def cc_fa (fr : Nat → Nat → Bool) (st : Nat → Nat) (h i : Nat) : Int32 := if i < h then cc_mk (fr (st (h - 1 - i))) else 0
theorem cc_freeAt {post : Int32 → Prop} {cn : Int32} {i : Nat} {st : Nat → Nat} {fr : Nat → Nat → Bool} (hn : n ≤ 24) (hh : h ≤ 6) (hi : i < 6) (hst : ∀ j, j < h → sk j = nI (st j) ∧ st j < n) (hF : ∀ x, x < n → YF x = cc_mk (fr x)) (hp : post (cc_fa fr st h i)) : wpY_freeAt post (cc_ys (cn, nI h, K, YP, YN, YF, sk) s) (nI i) := by
  unfold cc_fa at hp
  by_cases q : i < h
  · rw [if_pos q] at hp
    obtain ⟨s1, s2⟩ := hst (h - 1 - i) (by omega)
    have e1 : nI h - 1 - nI i = nI (h - 1 - i) := by
      rw [show (1 : Int32) = nI 1 from rfl, pk_sub (by omega), pk_sub (by omega)]
    have i1 : vp_in (nI h - 1 - nI i) 6 := by rw [e1]; exact vp_in_nI (by omega) (by omega)
    have e2 : sk (nI h - 1 - nI i).toNatClampNeg = nI (st (h - 1 - i)) := by rw [e1, nI_clamp (by omega)]; exact s1
    have i2 : vp_in (sk (nI h - 1 - nI i).toNatClampNeg) 24 := by rw [e2]; exact vp_in_nI (by omega) (by omega)
    have e3 : YF (sk (nI h - 1 - nI i).toNatClampNeg).toNatClampNeg = cc_mk (fr (st (h - 1 - i))) := by rw [e2, nI_clamp (by omega)]; exact hF _ s2
    rw [← e3] at hp
    exact br_f (nI_ge q (by omega)) (And.intro i1 (And.intro i2 hp))
  · rw [if_neg q] at hp
    exact br_t (nI_le (by omega) (by omega)) hp
end
end
section
/-! new programs, by kind -/
section
variable {n h0 : Nat} {K PA PB PC N W P sk YP YN YF : Nat → Int32} {A B C z st : Nat → Nat} {fr : Nat → Nat → Bool}
theorem cc_nw8 {m : Int32} (hI : cc_I2 n h0 K PA PB PC N W P sk YP YN YF A B C z st fr) (hn : n < 24) (hh : h0 < 6) : cc_I2 (n + 1) (h0 + 1) (upd K n 8) (upd PA n (-1)) (upd PB n (-1)) (upd PC n (-1)) (upd N n m) (upd W n (-1)) P (upd sk h0 (nI n)) YP (upd YN n m) (upd YF n 0) A B C (cc_un z n 1) (cc_un st h0 n) (cc_uf fr n (fun _ => false)) := by
  have u : ∀ {f : Nat → Int32} {x : Int32} {y : Nat}, y < n → upd f n x y = f y := fun h => pk_un (by omega)
  refine cc_new (t := 0) hI hn (by omega) (fun y hy => ⟨u hy, u hy, u hy, u hy, u hy, u hy, u hy⟩) (fun y hy => ⟨rfl, rfl, rfl, cc_un_n (by omega), cc_uf_n (by omega)⟩) (fun y _ => rfl) pk_us (fun i hi => absurd hi (Nat.not_lt_zero i)) (fun y hy _ => ⟨u hy, rfl⟩) (fun i hi => absurd hi (Nat.not_lt_zero i)) (by rw [cc_un_s]; omega) pk_us (fun j hj => pk_un (by omega)) ?_ ?_ ?_ ?_
  · exact Or.inl ⟨pk_us, cc_un_s, fun v => by rw [cc_uf_s]⟩
  · refine ⟨fun q => absurd pk_us q, fun _ q => absurd pk_us q, fun q => ?_⟩
    rw [pk_us] at q; exact absurd q (by decide)
  · refine ⟨fun q => absurd pk_us q, fun _ q => absurd pk_us q, fun q => ?_, fun _ => by rw [pk_us, pk_us]⟩
    rw [pk_us] at q; exact absurd q (by decide)
  · rw [pk_us, cc_uf_s]; exact cc_mk_0.symm
theorem cc_nw9 {w : Nat} (hw : w < 4) (hI : cc_I2 n h0 K PA PB PC N W P sk YP YN YF A B C z st fr) (hn : n < 24) (hh : h0 < 6) : cc_I2 (n + 1) (h0 + 1) (upd K n 9) (upd PA n (-1)) (upd PB n (-1)) (upd PC n (-1)) (upd N n (nI w)) (upd W n (-1)) P (upd sk h0 (nI n)) YP (upd YN n (nI w)) (upd YF n ((1 : Int32) <<< (nI w &&& 31))) A B C (cc_un z n 1) (cc_un st h0 n) (cc_uf fr n (fun v => decide (v = w))) := by
  have u : ∀ {f : Nat → Int32} {x : Int32} {y : Nat}, y < n → upd f n x y = f y := fun h => pk_un (by omega)
  refine cc_new (t := 0) hI hn (by omega) (fun y hy => ⟨u hy, u hy, u hy, u hy, u hy, u hy, u hy⟩) (fun y hy => ⟨rfl, rfl, rfl, cc_un_n (by omega), cc_uf_n (by omega)⟩) (fun y _ => rfl) pk_us (fun i hi => absurd hi (Nat.not_lt_zero i)) (fun y hy _ => ⟨u hy, rfl⟩) (fun i hi => absurd hi (Nat.not_lt_zero i)) (by rw [cc_un_s]; omega) pk_us (fun j hj => pk_un (by omega)) ?_ ?_ ?_ ?_
  · exact Or.inr (Or.inl ⟨pk_us, cc_un_s, w, hw, pk_us, fun v => by rw [cc_uf_s]⟩)
  · refine ⟨fun _ q => absurd pk_us q, fun _ _ q => absurd pk_us q, fun q => ?_⟩
    rw [pk_us] at q; exact absurd q (by decide)
  · refine ⟨fun _ q => absurd pk_us q, fun _ _ q => absurd pk_us q, fun q => ?_, fun _ => by rw [pk_us, pk_us]⟩
    rw [pk_us] at q; exact absurd q (by decide)
  · rw [pk_us, cc_uf_s]; exact (cc_mk_1 hw).symm
theorem cc_nw7 {ff fw : Nat} (hff : ff < 4) (hfw : fw < 4) (hI : cc_I2 n (h0 + 1) K PA PB PC N W P sk YP YN YF A B C z st fr) (hn : n < 24) : cc_I2 (n + 1) (h0 + 1) (upd K n 7) (upd PA n (nI (st h0))) (upd PB n (-1)) (upd PC n (-1)) (upd N n (nI (4 * ff + fw))) (upd (upd W n (-1)) (st h0) (nI n)) (upd P (st h0) 0) (upd sk h0 (nI n)) (cc_yp YP sk n h0 1) (upd YN n (nI (4 * ff + fw))) (upd YF n ((cc_mk (fr (st h0)) &&& (((1 : Int32) <<< (nI ff &&& 31)) ^^^ (-1))) &&& (((1 : Int32) <<< (nI fw &&& 31)) ^^^ (-1)))) (cc_un A n (st h0)) B C (cc_un z n (1 + z (st h0))) (cc_un st h0 n) (cc_uf fr n (fun v => fr (st h0) v && !decide (v = ff) && !decide (v = fw))) := by
  have u : ∀ {f : Nat → Int32} {x : Int32} {y : Nat}, y < n → upd f n x y = f y := fun h => pk_un (by omega)
  have hI' := hI
  obtain ⟨⟨n24, h6, hsm⟩, hx, hst, hin⟩ := hI'
  obtain ⟨s1, s2, s3⟩ := hst h0 (by omega)
  refine cc_new (t := 1) hI hn (by omega) (fun y hy => ⟨u hy, u hy, u hy, u hy, u hy, u hy, u hy⟩) (fun y hy => ⟨cc_un_n (by omega), rfl, rfl, cc_un_n (by omega), cc_uf_n (by omega)⟩) (fun y hy => cc_yp_o 1 hy) ?_ ?_ ?_ ?_ ?_ pk_us (fun j hj => pk_un (by omega)) ?_ ?_ ?_ ?_
  · rw [pk_un (by omega), pk_us]
  · intro i hi
    have e : i = 0 := by omega
    subst e
    rw [Nat.add_zero h0]
    exact ⟨pk_us, pk_us⟩
  · intro y hy hne
    have := hne 0 (by omega)
    rw [Nat.add_zero h0] at this
    exact ⟨by rw [pk_un this, pk_un (by omega)], pk_un this⟩
  · intro i hi
    left
    have e : i = 0 := by omega
    subst e
    refine ⟨rfl, by rw [cc_un_s, Nat.add_zero h0], ?_, ?_⟩ <;> rw [pk_us] <;> decide
  · rw [cc_un_s, cc_sm, cc_sm, Nat.add_zero h0, Nat.zero_add]; exact Nat.le_refl _
  · refine Or.inr (Or.inr (Or.inl ⟨pk_us, by rw [cc_un_s]; exact s2, by rw [cc_un_s, pk_us], by rw [cc_un_s, pk_us], by rw [cc_un_s, cc_un_s, cc_un_n (by omega)], ff, fw, hff, hfw, pk_us, fun v => by rw [cc_uf_s, cc_un_s, cc_uf_n (by omega)]⟩))
  · refine ⟨fun _ _ => by rw [pk_us, cc_un_s], fun q => absurd pk_us q, fun q => ?_⟩
    rw [pk_us] at q; exact absurd q (by decide)
  · refine ⟨fun _ _ => ?_, fun q => absurd pk_us q, fun q => ?_, fun _ => by rw [pk_us, pk_us]⟩
    · have := cc_yp_i (YP := YP) (sk := sk) (n := n) (h0 := h0) (i := 0) 1 (by omega)
      rw [Nat.add_zero h0, Nat.add_zero (3 * n)] at this
      rw [this, s1, cc_un_s]
    · rw [pk_us] at q; exact absurd q (by decide)
  · rw [pk_us, cc_uf_s, cc_mk_n _ hfw, cc_mk_n _ hff]
theorem cc_w2 {a b : Nat} (ha : a < n) (hb : b < n) (hab : a < b) (y : Nat) (hy : y < n) (h1 : y ≠ a) (h2 : y ≠ b) : upd (upd (upd W n (-1)) a (nI n)) b (nI n) y = W y ∧ upd (upd P a 0) b 1 y = P y :=
  ⟨by rw [pk_un h2, pk_un h1, pk_un (by omega)], by rw [pk_un h2, pk_un h1]⟩
theorem cc_nw2 {k : Nat} {N' YN' : Nat → Int32} {fn : Nat → Bool} {m : Int32} (hI : cc_I2 n (h0 + 2) K PA PB PC N W P sk YP YN YF A B C z st fr) (hn : n < 24) (hN : ∀ y, y < n → N' y = N y ∧ YN' y = YN y) (hm : m = cc_mk fn)
    (hk : (k < 5 ∧ ∀ v, fn v = (fr (st h0) v || fr (st (h0 + 1)) v)) ∨ (k = 6 ∧ N' n = YN' n ∧ ∃ w, w < 4 ∧ N' n = nI w ∧ ∀ v, fn v = (fr (st h0) v || (fr (st (h0 + 1)) v && !decide (v = w))))) : cc_I2 (n + 1) (h0 + 1) (upd K n (nI k)) (upd PA n (nI (st h0))) (upd PB n (nI (st (h0 + 1)))) (upd PC n (-1)) N' (upd (upd (upd W n (-1)) (st h0) (nI n)) (st (h0 + 1)) (nI n)) (upd (upd P (st h0) 0) (st (h0 + 1)) 1) (upd sk h0 (nI n)) (cc_yp YP sk n h0 2) YN' (upd YF n m) (cc_un A n (st h0)) (cc_un B n (st (h0 + 1))) C (cc_un z n (1 + z (st h0) + z (st (h0 + 1)))) (cc_un st h0 n) (cc_uf fr n fn) := by
  have u : ∀ {f : Nat → Int32} {x : Int32} {y : Nat}, y < n → upd f n x y = f y := fun h => pk_un (by omega)
  have hI' := hI
  obtain ⟨⟨n24, h6, hsm⟩, hx, hst, hin⟩ := hI'
  obtain ⟨s1, s2, s3⟩ := hst h0 (by omega)
  obtain ⟨t1, t2, t3⟩ := hst (h0 + 1) (by omega)
  have lt := hin h0 (h0 + 1) (by omega) (by omega)
  have k789 : nI k ≠ 5 ∧ nI k ≠ 7 ∧ nI k ≠ 8 ∧ nI k ≠ 9 := by
    rcases hk with ⟨hk, _⟩ | ⟨hk, _⟩
    · have ⟨a5, a6, a7, a8, a9⟩ := cc_k5 k hk
      exact ⟨a5, a7, a8, a9⟩
    · rw [hk]; decide
  obtain ⟨k5, k7, k8, k9⟩ := k789
  refine cc_new (t := 2) hI hn (by omega) (fun y hy => ⟨u hy, (hN y hy).1, u hy, u hy, u hy, (hN y hy).2, u hy⟩) (fun y hy => ⟨cc_un_n (by omega), cc_un_n (by omega), rfl, cc_un_n (by omega), cc_uf_n (by omega)⟩) (fun y hy => cc_yp_o 2 hy) ?_ ?_ ?_ ?_ ?_ pk_us (fun j hj => pk_un (by omega)) ?_ ?_ ?_ ?_
  · rw [pk_un (by omega), pk_un (by omega), pk_us]
  · intro i hi
    rcases (show i = 0 ∨ i = 1 by omega) with e | e
    · subst e
      rw [Nat.add_zero h0, pk_un (by omega), pk_us, pk_un (by omega), pk_us]
      exact ⟨rfl, rfl⟩
    · subst e
      exact ⟨pk_us, pk_us⟩
  · intro y hy hne
    have q0 := hne 0 (by omega)
    rw [Nat.add_zero h0] at q0
    exact cc_w2 s2 t2 lt y hy q0 (hne 1 (by omega))
  · intro i hi
    rw [pk_us]
    rcases (show i = 0 ∨ i = 1 by omega) with e | e
    · left; subst e
      exact ⟨rfl, by rw [cc_un_s, Nat.add_zero h0], k8, k9⟩
    · right; left; subst e
      exact ⟨rfl, by rw [cc_un_s], k7, k8, k9⟩
  · rw [cc_un_s, cc_sm, cc_sm, cc_sm, Nat.add_zero h0, Nat.zero_add, Nat.add_assoc]; exact Nat.le_refl _
  · rcases hk with ⟨hk, hf⟩ | ⟨hk, e1, w, hw, hNn, hf⟩
    · refine Or.inr (Or.inr (Or.inr (Or.inr (Or.inr ⟨k, hk, pk_us, by rw [cc_un_s]; exact s2, by rw [cc_un_s]; exact t2, ?_, ?_, by rw [cc_un_s, pk_us], by rw [cc_un_s, pk_us], ?_, ?_⟩))))
      · rw [cc_un_s, pk_un (by omega), pk_us]
      · rw [cc_un_s, pk_un (by omega), pk_us]
      · rw [cc_un_s, cc_un_s, cc_un_s, cc_un_n (by omega), cc_un_n (by omega)]
      · intro v
        rw [cc_uf_s, cc_un_s, cc_un_s, cc_uf_n (by omega), cc_uf_n (by omega)]
        exact hf v
    · refine Or.inr (Or.inr (Or.inr (Or.inl ⟨by rw [pk_us, hk]; rfl, by rw [cc_un_s]; exact s2, by rw [cc_un_s]; exact t2, ?_, ?_, by rw [cc_un_s, pk_us], by rw [cc_un_s, pk_us], ?_, w, hw, hNn, ?_⟩)))
      · rw [cc_un_s, pk_un (by omega), pk_us]
      · rw [cc_un_s, pk_un (by omega), pk_us]
      · rw [cc_un_s, cc_un_s, cc_un_s, cc_un_n (by omega), cc_un_n (by omega)]
      · intro v
        rw [cc_uf_s, cc_un_s, cc_un_s, cc_uf_n (by omega), cc_uf_n (by omega)]
        exact hf v
  · refine ⟨fun _ _ => by rw [pk_us, cc_un_s], fun _ _ _ => by rw [pk_us, cc_un_s], fun q => ?_⟩
    rw [pk_us] at q; exact absurd q k5
  · refine ⟨fun _ _ => ?_, fun _ _ _ => ?_, fun q => ?_, fun q => ?_⟩
    · have := cc_yp_i (YP := YP) (sk := sk) (n := n) (h0 := h0) (i := 0) 2 (by omega)
      rw [Nat.add_zero h0, Nat.add_zero (3 * n)] at this
      rw [this, s1, cc_un_s]
    · rw [cc_yp_i 2 (by omega), t1, cc_un_s]
    · rw [pk_us] at q; exact absurd q k5
    · rw [pk_us] at q
      rcases hk with ⟨hk, _⟩ | ⟨hk, e1, _⟩
      · have ⟨a5, a6, a7, a8, a9⟩ := cc_k5 k hk
        rcases q with q | q | q | q
        · exact absurd q a6
        · exact absurd q a7
        · exact absurd q a8
        · exact absurd q a9
      · exact e1.symm
  · rw [pk_us, cc_uf_s]; exact hm
theorem cc_nw5 {YN' : Nat → Int32} {fn : Nat → Bool} {m : Int32} (hI : cc_I2 n (h0 + 3) K PA PB PC N W P sk YP YN YF A B C z st fr) (hn : n < 24) (hN : ∀ y, y < n → YN' y = YN y) (hm : m = cc_mk fn) (hf : ∀ v, fn v = (fr (st h0) v || fr (st (h0 + 1)) v || fr (st (h0 + 2)) v)) :
    cc_I2 (n + 1) (h0 + 1) (upd K n 5) (upd PA n (nI (st h0))) (upd PB n (nI (st (h0 + 1)))) (upd PC n (nI (st (h0 + 2)))) N (upd (upd (upd (upd W n (-1)) (st h0) (nI n)) (st (h0 + 1)) (nI n)) (st (h0 + 2)) (nI n)) (upd (upd (upd P (st h0) 0) (st (h0 + 1)) 1) (st (h0 + 2)) 2) (upd sk h0 (nI n)) (cc_yp YP sk n h0 3) YN' (upd YF n m) (cc_un A n (st h0)) (cc_un B n (st (h0 + 1))) (cc_un C n (st (h0 + 2))) (cc_un z n (1 + z (st h0) + z (st (h0 + 1)) + z (st (h0 + 2)))) (cc_un st h0 n) (cc_uf fr n fn) := by
  have u : ∀ {f : Nat → Int32} {x : Int32} {y : Nat}, y < n → upd f n x y = f y := fun h => pk_un (by omega)
  have hI' := hI
  obtain ⟨⟨n24, h6, hsm⟩, hx, hst, hin⟩ := hI'
  obtain ⟨s1, s2, s3⟩ := hst h0 (by omega)
  obtain ⟨t1, t2, t3⟩ := hst (h0 + 1) (by omega)
  obtain ⟨r1, r2, r3⟩ := hst (h0 + 2) (by omega)
  have lt := hin h0 (h0 + 1) (by omega) (by omega)
  have lt2 := hin (h0 + 1) (h0 + 2) (by omega) (by omega)
  refine cc_new (t := 3) hI hn (by omega) (fun y hy => ⟨u hy, rfl, u hy, u hy, u hy, hN y hy, u hy⟩) (fun y hy => ⟨cc_un_n (by omega), cc_un_n (by omega), cc_un_n (by omega), cc_un_n (by omega), cc_uf_n (by omega)⟩) (fun y hy => cc_yp_o 3 hy) ?_ ?_ ?_ ?_ ?_ pk_us (fun j hj => pk_un (by omega)) ?_ ?_ ?_ ?_
  · rw [pk_un (by omega), pk_un (by omega), pk_un (by omega), pk_us]
  · intro i hi
    rcases (show i = 0 ∨ i = 1 ∨ i = 2 by omega) with e | e | e
    · subst e
      rw [Nat.add_zero h0, pk_un (by omega), pk_un (by omega), pk_us, pk_un (by omega), pk_un (by omega), pk_us]
      exact ⟨rfl, rfl⟩
    · subst e
      rw [pk_un (by omega), pk_us, pk_un (by omega), pk_us]
      exact ⟨rfl, rfl⟩
    · subst e
      exact ⟨pk_us, pk_us⟩
  · intro y hy hne
    have q0 := hne 0 (by omega)
    rw [Nat.add_zero h0] at q0
    obtain ⟨g1, g2⟩ := cc_w2 (W := W) (P := P) s2 t2 lt y hy q0 (hne 1 (by omega))
    have q2 := hne 2 (by omega)
    exact ⟨by rw [pk_un q2]; exact g1, by rw [pk_un q2]; exact g2⟩
  · intro i hi
    rw [pk_us]
    rcases (show i = 0 ∨ i = 1 ∨ i = 2 by omega) with e | e | e
    · left; subst e
      exact ⟨rfl, by rw [cc_un_s, Nat.add_zero h0], by decide, by decide⟩
    · right; left; subst e
      exact ⟨rfl, by rw [cc_un_s], by decide, by decide, by decide⟩
    · right; right; subst e
      exact ⟨rfl, by rw [cc_un_s], rfl⟩
  · rw [cc_un_s, cc_sm, cc_sm, cc_sm, cc_sm, Nat.add_zero h0, Nat.zero_add]; omega
  · refine Or.inr (Or.inr (Or.inr (Or.inr (Or.inl ⟨pk_us, by rw [cc_un_s]; exact s2, by rw [cc_un_s]; exact t2, by rw [cc_un_s]; exact r2, ?_, ?_, ?_, ?_, by rw [cc_un_s, pk_us], by rw [cc_un_s, pk_us], ?_, ?_⟩))))
    · rw [cc_un_s, pk_un (by omega), pk_un (by omega), pk_us]
    · rw [cc_un_s, pk_un (by omega), pk_un (by omega), pk_us]
    · rw [cc_un_s, pk_un (by omega), pk_us]
    · rw [cc_un_s, pk_un (by omega), pk_us]
    · rw [cc_un_s, cc_un_s, cc_un_s, cc_un_s, cc_un_n (by omega), cc_un_n (by omega), cc_un_n (by omega)]
    · intro v
      rw [cc_uf_s, cc_un_s, cc_un_s, cc_un_s, cc_uf_n (by omega), cc_uf_n (by omega), cc_uf_n (by omega)]
      exact hf v
  · exact ⟨fun _ _ => by rw [pk_us, cc_un_s], fun _ _ _ => by rw [pk_us, cc_un_s], fun _ => by rw [pk_us, cc_un_s]⟩
  · refine ⟨fun _ _ => ?_, fun _ _ _ => ?_, fun _ => ?_, fun q => ?_⟩
    · have := cc_yp_i (YP := YP) (sk := sk) (n := n) (h0 := h0) (i := 0) 3 (by omega)
      rw [Nat.add_zero h0, Nat.add_zero (3 * n)] at this
      rw [this, s1, cc_un_s]
    · rw [cc_yp_i 3 (by omega), t1, cc_un_s]
    · rw [cc_yp_i 3 (by omega), r1, cc_un_s]
    · rw [pk_us] at q; exact absurd q (by decide)
  · rw [pk_us, cc_uf_s]; exact hm
end
end
section
/-! free names: outwards from the leaves -/
def cc_in (W : Nat → Int32) (t x : Nat) : Bool :=
  if x = t then true
  else if h : ¬ W x < 0 ∧ x < (W x).toNatClampNeg ∧ (W x).toNatClampNeg < 24 then cc_in W t (W x).toNatClampNeg else false
termination_by 24 - x
decreasing_by omega
/-- nothing is found from x outwards -/
def cc_fu (K N W P : Nat → Int32) (v x : Nat) : Bool :=
  if h : ¬ (cc_lo K N W P v x).2.2 < 0 ∧ x < (cc_lo K N W P v x).2.2.toNatClampNeg ∧ (cc_lo K N W P v x).2.2.toNatClampNeg < 24 then cc_fu K N W P v (cc_lo K N W P v x).2.2.toNatClampNeg else decide ((cc_lo K N W P v x).1 = 15)
termination_by 24 - x
decreasing_by omega
section
variable {n : Nat} {K N W P : Nat → Int32} {A B C z : Nat → Nat} {fr : Nat → Nat → Bool}
theorem cc_in_t {t : Nat} : cc_in W t t = true := by rw [cc_in, if_pos rfl]
theorem cc_in_w {t x w : Nat} (h : W x = nI w) (h1 : x < w) (h2 : w < 24) (hx : x ≠ t) : cc_in W t x = cc_in W t w := by
  have u : ¬ W x < 0 ∧ x < (W x).toNatClampNeg ∧ (W x).toNatClampNeg < 24 := cc_upd h h1 h2
  have c : (W x).toNatClampNeg = w := by rw [h]; exact nI_clamp (by omega)
  rw [cc_in, if_neg hx, dif_pos u, c]
theorem cc_in_r {t x : Nat} (h : W x = -1) (hx : x ≠ t) : cc_in W t x = false := by
  rw [cc_in, if_neg hx, dif_neg]
  rw [h]
  exact fun q => q.1 (by decide)
theorem cc_in_p {t x w : Nat} (h : W x = nI w) (h1 : x < w) (h2 : w < 24) (hw : cc_in W t w = true) : cc_in W t x = true := by
  by_cases q : x = t
  · rw [q]; exact cc_in_t
  · rw [cc_in_w h h1 h2 q]; exact hw
theorem cc_fu_0 {v x : Nat} (h : (cc_lo K N W P v x).2.2 < 0) : cc_fu K N W P v x = decide ((cc_lo K N W P v x).1 = 15) := by
  rw [cc_fu, dif_neg (fun q => q.1 h)]
theorem cc_fu_1 {v x w : Nat} (h : (cc_lo K N W P v x).2.2 = nI w) (h1 : x < w) (h2 : w < 24) : cc_fu K N W P v x = cc_fu K N W P v w := by
  have c : (cc_lo K N W P v x).2.2.toNatClampNeg = w := by rw [h]; exact nI_clamp (by omega)
  rw [cc_fu, dif_pos, c]
  rw [c, h]
  exact ⟨nI_pos (by omega), h1, h2⟩
theorem cc_fu_e (hn : n ≤ 24) (hU : ∀ x, x < n → cc_Up n W x) {v x w : Nat} (hv : v < 4) (hw : w < n) (hx : x < w) (h : cc_lo K N W P v x = cc_lo K N W P v w) : cc_fu K N W P v x = cc_fu K N W P v w := by
  by_cases c : (cc_lo K N W P v w).2.2 < 0
  · rw [cc_fu_0 c, cc_fu_0 (by rw [h]; exact c), h]
  · obtain ⟨y, y1, y2, y3, y4⟩ := cc_lo_c hn hU hv hw c
    have e : (cc_lo K N W P v w).2.2 = nI y := by rw [y4]
    rw [cc_fu_1 e y1 (by omega), cc_fu_1 (h ▸ e) (by omega) (by omega)]
/-- from a part to its whole: what is not found goes on, what is found ends -/
theorem cc_fu_w (hn : n ≤ 24) (hU : ∀ x, x < n → cc_Up n W x) {v x w : Nat} (hv : v < 4) (hw : w < n) (hx : x < w) (hW : W x = nI w) : (cc_fu K N W P v x = true → cc_fu K N W P v w = true ∧ ¬ (K w = 6 ∧ P x = 1 ∧ N w = nI v) ∧ ¬ (K w = 7 ∧ (N w &&& 3 = nI v ∨ N w >>> ((2 : Int32) &&& 31) = nI v))) ∧ (cc_fu K N W P v w = true → ¬ (K w = 6 ∧ P x = 1 ∧ N w = nI v) → ¬ (K w = 7 ∧ (N w &&& 3 = nI v ∨ N w >>> ((2 : Int32) &&& 31) = nI v)) → cc_fu K N W P v x = true) := by
  have el := cc_lo_w (K := K) (N := N) (P := P) (v := v) hW hx (by omega)
  by_cases c6 : K w = 6 ∧ P x = 1 ∧ N w = nI v
  · rw [if_pos c6] at el
    have e0 : cc_fu K N W P v x = false := by
      rw [cc_fu_0 (by rw [el]; exact (show (-1 : Int32) < 0 by decide)), el]
      exact decide_eq_false (show ¬ (11 : Int32) = 15 by decide)
    exact ⟨fun q => absurd (e0.symm.trans q) (by decide), fun _ q => absurd c6 q⟩
  · rw [if_neg c6] at el
    by_cases c7 : K w = 7
    · rw [if_pos c7] at el
      by_cases a1 : N w &&& 3 = nI v
      · rw [if_pos a1] at el
        have e0 : cc_fu K N W P v x = false := by
          rw [cc_fu_0 (by rw [el]; exact (show (-1 : Int32) < 0 by decide)), el]
          exact decide_eq_false (show ¬ (12 : Int32) = 15 by decide)
        exact ⟨fun q => absurd (e0.symm.trans q) (by decide), fun _ _ q => absurd ⟨c7, Or.inl a1⟩ q⟩
      · rw [if_neg a1] at el
        by_cases a2 : N w >>> ((2 : Int32) &&& 31) = nI v
        · rw [if_pos a2] at el
          have e0 : cc_fu K N W P v x = false := by
            rw [cc_fu_0 (by rw [el]; exact (show (-1 : Int32) < 0 by decide)), el]
            exact decide_eq_false (show ¬ (13 : Int32) = 15 by decide)
          exact ⟨fun q => absurd (e0.symm.trans q) (by decide), fun _ _ q => absurd ⟨c7, Or.inr a2⟩ q⟩
        · rw [if_neg a2] at el
          have e1 : cc_fu K N W P v x = cc_fu K N W P v w := cc_fu_1 (by rw [el]) hx (by omega)
          exact ⟨fun q => ⟨e1.symm.trans q, c6, fun c => c.2.elim a1 a2⟩, fun q _ _ => e1.trans q⟩
    · rw [if_neg c7] at el
      have e1 : cc_fu K N W P v x = cc_fu K N W P v w := cc_fu_e hn hU hv hw hx el
      exact ⟨fun q => ⟨e1.symm.trans q, c6, fun c => c7 c.1⟩, fun q _ _ => e1.trans q⟩
theorem cc_fnv {f w v : Nat} (hf : f < 4) (hw : w < 4) (hv : v < 4) : (nI (4 * f + w) &&& 3 = nI v ∨ nI (4 * f + w) >>> ((2 : Int32) &&& 31) = nI v) ↔ (v = w ∨ v = f) := by
  have ⟨a, b⟩ := cc_fn f hf w hw v hv
  rw [a, b]
theorem cc_fr_up (hn : n ≤ 24) (hF : ∀ x, x < n → cc_Uf n K W P A B C x) (hU : ∀ x, x < n → cc_Up n W x) (hP : ∀ x, x < n → cc_Nd K N W P A B C z fr x) {v t : Nat} (hv : v < 4) (ht : W t = -1) : ∀ d x, x < n → n ≤ x + d → cc_in W t x = true → cc_fu K N W P v x = true → fr x v = true → fr t v = true := by
  intro d
  induction d with
  | zero => intro x hx hd; omega
  | succ d ih =>
    intro x hx hd hin hfu hfr
    by_cases xt : x = t
    · rw [← xt]; exact hfr
    · rcases hF x hx with h | ⟨w, h, h1, h2, h3⟩
      · rw [cc_in_r h xt] at hin; exact absurd hin (by decide)
      · rw [cc_in_w h h1 (by omega) xt] at hin
        obtain ⟨f1, f2, f3⟩ := (cc_fu_w hn hU hv h2 h1 h).1 hfu
        refine ih w h2 (by omega) hin f1 ?_
        rcases h3 with ⟨p, e, k8, k9⟩ | ⟨p, e, k7, k8, k9⟩ | ⟨p, e, k5⟩
        · rcases hP w h2 with q | q | q | q | q | ⟨k, hk, q⟩
          · exact absurd q.1 k8
          · exact absurd q.1 k9
          · obtain ⟨q7, _, _, _, _, f, w', hf, hw, hN, hq⟩ := q
            have f4 : ¬ (v = w' ∨ v = f) := fun c => f3 ⟨q7, by rw [hN]; exact (cc_fnv hf hw hv).mpr c⟩
            rw [hq, e, hfr, decide_eq_false (fun c => f4 (Or.inr c)), decide_eq_false (fun c => f4 (Or.inl c))]
            rfl
          · obtain ⟨_, _, _, _, _, _, _, _, w', _, _, hq⟩ := q
            rw [hq, e, hfr]; rfl
          · rw [q.2.2.2.2.2.2.2.2.2.2.2, e, hfr]; rfl
          · rw [q.2.2.2.2.2.2.2.2, e, hfr]; rfl
        · rcases hP w h2 with q | q | q | q | q | ⟨k, hk, q⟩
          · exact absurd q.1 k8
          · exact absurd q.1 k9
          · exact absurd q.1 k7
          · obtain ⟨q6, _, _, _, _, _, _, _, w', hw, hN, hq⟩ := q
            have f4 : ¬ v = w' := fun c => f2 ⟨q6, p, by rw [hN, c]⟩
            rw [hq, e, hfr, decide_eq_false f4]
            simp
          · rw [q.2.2.2.2.2.2.2.2.2.2.2, e, hfr]; simp
          · rw [q.2.2.2.2.2.2.2.2, e, hfr]; simp
        · rcases hP w h2 with q | q | q | q | q | ⟨k, hk, q⟩
          · exact absurd (k5.symm.trans q.1) (by decide)
          · exact absurd (k5.symm.trans q.1) (by decide)
          · exact absurd (k5.symm.trans q.1) (by decide)
          · exact absurd (k5.symm.trans q.1) (by decide)
          · rw [q.2.2.2.2.2.2.2.2.2.2.2, e, hfr]; simp
          · exact absurd (q.1.symm.trans k5) (cc_k5 k hk).1
theorem cc_fr_dn (hn : n ≤ 24) (hU : ∀ x, x < n → cc_Up n W x) (hP : ∀ x, x < n → cc_Nd K N W P A B C z fr x) {v t : Nat} (hv : v < 4) : ∀ x, x < n → cc_in W t x = true → cc_fu K N W P v x = true → fr x v = true → ∃ y, y ≤ x ∧ K y = 9 ∧ N y = nI v ∧ cc_in W t y = true ∧ cc_fu K N W P v y = true := by
  intro x
  induction x using Nat.strongRecOn with
  | ind x ih =>
    intro hx hin hfu hfr
    have part : ∀ p, p < x → W p = nI x → ¬ (K x = 6 ∧ P p = 1 ∧ N x = nI v) → ¬ (K x = 7 ∧ (N x &&& 3 = nI v ∨ N x >>> ((2 : Int32) &&& 31) = nI v)) → fr p v = true → ∃ y, y ≤ x ∧ K y = 9 ∧ N y = nI v ∧ cc_in W t y = true ∧ cc_fu K N W P v y = true := by
      intro p hp hW c6 c7 hf
      obtain ⟨y, y1, y2⟩ := ih p hp (by omega) (cc_in_p hW hp (by omega) hin) ((cc_fu_w hn hU hv hx hp hW).2 hfu c6 c7) hf
      exact ⟨y, by omega, y2⟩
    rcases hP x hx with h | h | h | h | h | ⟨k, hk, h⟩
    · rw [h.2.2 v] at hfr; exact absurd hfr (by decide)
    · obtain ⟨h9, _, w, hw, hN, hf⟩ := h
      rw [hf v] at hfr
      have e : v = w := of_decide_eq_true hfr
      exact ⟨x, Nat.le_refl _, h9, by rw [hN, e], hin, hfu⟩
    · obtain ⟨h7, hA, hW, hp, hzx, f, w, hf4, hw4, hN, hf⟩ := h
      rw [hf v] at hfr
      have e1 : fr (A x) v = true := by
        revert hfr; cases fr (A x) v <;> simp
      have e2 : ¬ v = f := by
        intro q; rw [e1, q] at hfr; simp at hfr
      have e3 : ¬ v = w := by
        intro q; rw [e1, q] at hfr; simp at hfr
      exact part (A x) hA hW (fun c => absurd (h7.symm.trans c.1) (by decide)) (fun c => by rw [hN] at c; exact ((cc_fnv hf4 hw4 hv).mp c.2).elim e3 e2) e1
    · obtain ⟨h6, hA, hB, hWA, hpA, hWB, hpB, hzx, w, hw, hN, hf⟩ := h
      have c7 : ¬ (K x = 7 ∧ (N x &&& 3 = nI v ∨ N x >>> ((2 : Int32) &&& 31) = nI v)) := fun c => absurd (h6.symm.trans c.1) (by decide)
      rw [hf v] at hfr
      by_cases e1 : fr (A x) v = true
      · exact part (A x) hA hWA (fun c => absurd (hpA.symm.trans c.2.1) (by decide)) c7 e1
      · have e0 : fr (A x) v = false := by revert e1; cases fr (A x) v <;> simp
        rw [e0, Bool.false_or] at hfr
        have e2 : fr (B x) v = true := by revert hfr; cases fr (B x) v <;> simp
        have e3 : ¬ v = w := by
          intro q; rw [e2, q] at hfr; simp at hfr
        exact part (B x) hB hWB (fun c => e3 ((nI_eq (by omega) (by omega)).mp (hN.symm.trans c.2.2)).symm) c7 e2
    · obtain ⟨h5, hA, hB, hC, hWA, hpA, hWB, hpB, hWC, hpC, hzx, hf⟩ := h
      have c7 : ¬ (K x = 7 ∧ (N x &&& 3 = nI v ∨ N x >>> ((2 : Int32) &&& 31) = nI v)) := fun c => absurd (h5.symm.trans c.1) (by decide)
      have c6 : ∀ q, ¬ (K x = 6 ∧ q) := fun q c => absurd (h5.symm.trans c.1) (by decide)
      rw [hf v] at hfr
      by_cases e1 : fr (A x) v = true
      · exact part (A x) hA hWA (c6 _) c7 e1
      · by_cases e2 : fr (B x) v = true
        · exact part (B x) hB hWB (c6 _) c7 e2
        · have e3 : fr (C x) v = true := by revert hfr e1 e2; cases fr (A x) v <;> cases fr (B x) v <;> simp
          exact part (C x) hC hWC (c6 _) c7 e3
    · obtain ⟨hkx, hA, hB, hWA, hpA, hWB, hpB, hzx, hf⟩ := h
      have ⟨a5, a6, a7, a8, a9⟩ := cc_k5 k hk
      have c7 : ¬ (K x = 7 ∧ (N x &&& 3 = nI v ∨ N x >>> ((2 : Int32) &&& 31) = nI v)) := fun c => a7 (hkx.symm.trans c.1)
      have c6 : ∀ q, ¬ (K x = 6 ∧ q) := fun q c => a6 (hkx.symm.trans c.1)
      rw [hf v] at hfr
      by_cases e1 : fr (A x) v = true
      · exact part (A x) hA hWA (c6 _) c7 e1
      · have e2 : fr (B x) v = true := by revert hfr e1; cases fr (A x) v <;> simp
        exact part (B x) hB hWB (c6 _) c7 e2
/-- the names found so far -/
def cc_sf (K N W P : Nat → Int32) (t : Nat) : Nat → Nat → Bool
  | 0, _ => false
  | k + 1, v => cc_sf K N W P t k v || (decide (K k = 9) && cc_in W t k && cc_fu K N W P (N k).toNatClampNeg k && decide (v = (N k).toNatClampNeg))
theorem cc_sf_i {t v : Nat} : ∀ k, cc_sf K N W P t k v = true ↔ ∃ y, y < k ∧ K y = 9 ∧ cc_in W t y = true ∧ cc_fu K N W P (N y).toNatClampNeg y = true ∧ v = (N y).toNatClampNeg := by
  intro k
  induction k with
  | zero =>
    refine ⟨fun q => absurd q (by rw [cc_sf]; decide), ?_⟩
    rintro ⟨y, hy, _⟩
    omega
  | succ k ih =>
    rw [cc_sf, Bool.or_eq_true, ih]
    constructor
    · rintro (⟨y, hy, q⟩ | q)
      · exact ⟨y, by omega, q⟩
      · simp only [Bool.and_eq_true, decide_eq_true_eq] at q
        exact ⟨k, by omega, q.1.1.1, q.1.1.2, q.1.2, q.2⟩
    · rintro ⟨y, hy, q1, q2, q3, q4⟩
      by_cases yk : y = k
      · right
        rw [← yk]
        simp only [Bool.and_eq_true, decide_eq_true_eq]
        exact ⟨⟨⟨q1, q2⟩, q3⟩, q4⟩
      · exact Or.inl ⟨y, by omega, q1, q2, q3, q4⟩
theorem cc_sf_t (hn : n ≤ 24) (hF : ∀ x, x < n → cc_Uf n K W P A B C x) (hU : ∀ x, x < n → cc_Up n W x) (hP : ∀ x, x < n → cc_Nd K N W P A B C z fr x) {v t : Nat} (hv : v < 4) (htn : t < n) (ht : W t = -1) : cc_sf K N W P t (t + 1) v = fr t v := by
  have ft : cc_fu K N W P v t = true := by
    rw [cc_fu_0 (by rw [cc_lo_r ht]; decide), cc_lo_r ht]; rfl
  rw [Bool.eq_iff_iff, cc_sf_i]
  constructor
  · rintro ⟨y, hy, k9, hin, hfu, ev⟩
    refine cc_fr_up hn hF hU hP hv ht 24 y (by omega) (by omega) hin (by rw [ev]; exact hfu) ?_
    rcases hP y (by omega) with h | h | h | h | h | ⟨k, hk, h⟩
    · exact absurd (k9.symm.trans h.1) (by decide)
    · obtain ⟨_, _, w, hw, hN, hf⟩ := h
      rw [hf, ev, hN, nI_clamp (by omega)]
      exact decide_eq_true rfl
    · exact absurd (k9.symm.trans h.1) (by decide)
    · exact absurd (k9.symm.trans h.1) (by decide)
    · exact absurd (k9.symm.trans h.1) (by decide)
    · exact absurd (h.1.symm.trans k9) (cc_k5 k hk).2.2.2.2
  · intro hfr
    obtain ⟨y, y1, y2, y3, y4, y5⟩ := cc_fr_dn hn hU hP hv t htn cc_in_t ft hfr
    have e : (N y).toNatClampNeg = v := by rw [y3]; exact nI_clamp (by omega)
    exact ⟨y, by omega, y2, y4, by rw [e]; exact y5, e.symm⟩
end
end
section
/-! free: the component's walk -/
def cc_LF (post : Int32 → SX → Prop) (x1 : Int32) (n : Nat) (x2 x3 : Int32) (u : SX) : Prop := wX_free_26 post x1 n x2 x3 u.1 u.2.1 u.2.2.1 u.2.2.2.1 u.2.2.2.2.1 u.2.2.2.2.2.1 u.2.2.2.2.2.2.1 u.2.2.2.2.2.2.2.1 u.2.2.2.2.2.2.2.2.1 u.2.2.2.2.2.2.2.2.2.1 u.2.2.2.2.2.2.2.2.2.2.1 u.2.2.2.2.2.2.2.2.2.2.2.1 u.2.2.2.2.2.2.2.2.2.2.2.2.1 u.2.2.2.2.2.2.2.2.2.2.2.2.2.1 u.2.2.2.2.2.2.2.2.2.2.2.2.2.2.1 u.2.2.2.2.2.2.2.2.2.2.2.2.2.2.2.1 u.2.2.2.2.2.2.2.2.2.2.2.2.2.2.2.2.1 u.2.2.2.2.2.2.2.2.2.2.2.2.2.2.2.2.2.1 u.2.2.2.2.2.2.2.2.2.2.2.2.2.2.2.2.2.2.1 u.2.2.2.2.2.2.2.2.2.2.2.2.2.2.2.2.2.2.2.1 u.2.2.2.2.2.2.2.2.2.2.2.2.2.2.2.2.2.2.2.2.1 u.2.2.2.2.2.2.2.2.2.2.2.2.2.2.2.2.2.2.2.2.2.1 u.2.2.2.2.2.2.2.2.2.2.2.2.2.2.2.2.2.2.2.2.2.2.1 u.2.2.2.2.2.2.2.2.2.2.2.2.2.2.2.2.2.2.2.2.2.2.2.1 u.2.2.2.2.2.2.2.2.2.2.2.2.2.2.2.2.2.2.2.2.2.2.2.2.1 u.2.2.2.2.2.2.2.2.2.2.2.2.2.2.2.2.2.2.2.2.2.2.2.2.2.1 u.2.2.2.2.2.2.2.2.2.2.2.2.2.2.2.2.2.2.2.2.2.2.2.2.2.2.1 u.2.2.2.2.2.2.2.2.2.2.2.2.2.2.2.2.2.2.2.2.2.2.2.2.2.2.2.1 u.2.2.2.2.2.2.2.2.2.2.2.2.2.2.2.2.2.2.2.2.2.2.2.2.2.2.2.2.1 u.2.2.2.2.2.2.2.2.2.2.2.2.2.2.2.2.2.2.2.2.2.2.2.2.2.2.2.2.2.1 u.2.2.2.2.2.2.2.2.2.2.2.2.2.2.2.2.2.2.2.2.2.2.2.2.2.2.2.2.2.2.1 u.2.2.2.2.2.2.2.2.2.2.2.2.2.2.2.2.2.2.2.2.2.2.2.2.2.2.2.2.2.2.2.1 u.2.2.2.2.2.2.2.2.2.2.2.2.2.2.2.2.2.2.2.2.2.2.2.2.2.2.2.2.2.2.2.2.1 u.2.2.2.2.2.2.2.2.2.2.2.2.2.2.2.2.2.2.2.2.2.2.2.2.2.2.2.2.2.2.2.2.2.1 u.2.2.2.2.2.2.2.2.2.2.2.2.2.2.2.2.2.2.2.2.2.2.2.2.2.2.2.2.2.2.2.2.2.2.1 u.2.2.2.2.2.2.2.2.2.2.2.2.2.2.2.2.2.2.2.2.2.2.2.2.2.2.2.2.2.2.2.2.2.2.2.1 u.2.2.2.2.2.2.2.2.2.2.2.2.2.2.2.2.2.2.2.2.2.2.2.2.2.2.2.2.2.2.2.2.2.2.2.2.1 u.2.2.2.2.2.2.2.2.2.2.2.2.2.2.2.2.2.2.2.2.2.2.2.2.2.2.2.2.2.2.2.2.2.2.2.2.2.1 u.2.2.2.2.2.2.2.2.2.2.2.2.2.2.2.2.2.2.2.2.2.2.2.2.2.2.2.2.2.2.2.2.2.2.2.2.2.2.1 u.2.2.2.2.2.2.2.2.2.2.2.2.2.2.2.2.2.2.2.2.2.2.2.2.2.2.2.2.2.2.2.2.2.2.2.2.2.2.2.1 u.2.2.2.2.2.2.2.2.2.2.2.2.2.2.2.2.2.2.2.2.2.2.2.2.2.2.2.2.2.2.2.2.2.2.2.2.2.2.2.2
def cc_L5 (post : Int32 → SX → Prop) (x1 : Int32) (m : Nat) (x2 x3 : Int32) (n : Nat) (i : Int32) (u : SX) : Prop := wX_free_65 post (wX_free_26 post x1 m) x1 x2 x3 n i u.1 u.2.1 u.2.2.1 u.2.2.2.1 u.2.2.2.2.1 u.2.2.2.2.2.1 u.2.2.2.2.2.2.1 u.2.2.2.2.2.2.2.1 u.2.2.2.2.2.2.2.2.1 u.2.2.2.2.2.2.2.2.2.1 u.2.2.2.2.2.2.2.2.2.2.1 u.2.2.2.2.2.2.2.2.2.2.2.1 u.2.2.2.2.2.2.2.2.2.2.2.2.1 u.2.2.2.2.2.2.2.2.2.2.2.2.2.1 u.2.2.2.2.2.2.2.2.2.2.2.2.2.2.1 u.2.2.2.2.2.2.2.2.2.2.2.2.2.2.2.1 u.2.2.2.2.2.2.2.2.2.2.2.2.2.2.2.2.1 u.2.2.2.2.2.2.2.2.2.2.2.2.2.2.2.2.2.1 u.2.2.2.2.2.2.2.2.2.2.2.2.2.2.2.2.2.2.1 u.2.2.2.2.2.2.2.2.2.2.2.2.2.2.2.2.2.2.2.1 u.2.2.2.2.2.2.2.2.2.2.2.2.2.2.2.2.2.2.2.2.1 u.2.2.2.2.2.2.2.2.2.2.2.2.2.2.2.2.2.2.2.2.2.1 u.2.2.2.2.2.2.2.2.2.2.2.2.2.2.2.2.2.2.2.2.2.2.1 u.2.2.2.2.2.2.2.2.2.2.2.2.2.2.2.2.2.2.2.2.2.2.2.1 u.2.2.2.2.2.2.2.2.2.2.2.2.2.2.2.2.2.2.2.2.2.2.2.2.1 u.2.2.2.2.2.2.2.2.2.2.2.2.2.2.2.2.2.2.2.2.2.2.2.2.2.1 u.2.2.2.2.2.2.2.2.2.2.2.2.2.2.2.2.2.2.2.2.2.2.2.2.2.2.1 u.2.2.2.2.2.2.2.2.2.2.2.2.2.2.2.2.2.2.2.2.2.2.2.2.2.2.2.1 u.2.2.2.2.2.2.2.2.2.2.2.2.2.2.2.2.2.2.2.2.2.2.2.2.2.2.2.2.1 u.2.2.2.2.2.2.2.2.2.2.2.2.2.2.2.2.2.2.2.2.2.2.2.2.2.2.2.2.2.1 u.2.2.2.2.2.2.2.2.2.2.2.2.2.2.2.2.2.2.2.2.2.2.2.2.2.2.2.2.2.2.1 u.2.2.2.2.2.2.2.2.2.2.2.2.2.2.2.2.2.2.2.2.2.2.2.2.2.2.2.2.2.2.2.1 u.2.2.2.2.2.2.2.2.2.2.2.2.2.2.2.2.2.2.2.2.2.2.2.2.2.2.2.2.2.2.2.2.1 u.2.2.2.2.2.2.2.2.2.2.2.2.2.2.2.2.2.2.2.2.2.2.2.2.2.2.2.2.2.2.2.2.2.1 u.2.2.2.2.2.2.2.2.2.2.2.2.2.2.2.2.2.2.2.2.2.2.2.2.2.2.2.2.2.2.2.2.2.2.1 u.2.2.2.2.2.2.2.2.2.2.2.2.2.2.2.2.2.2.2.2.2.2.2.2.2.2.2.2.2.2.2.2.2.2.2.1 u.2.2.2.2.2.2.2.2.2.2.2.2.2.2.2.2.2.2.2.2.2.2.2.2.2.2.2.2.2.2.2.2.2.2.2.2.1 u.2.2.2.2.2.2.2.2.2.2.2.2.2.2.2.2.2.2.2.2.2.2.2.2.2.2.2.2.2.2.2.2.2.2.2.2.2.1 u.2.2.2.2.2.2.2.2.2.2.2.2.2.2.2.2.2.2.2.2.2.2.2.2.2.2.2.2.2.2.2.2.2.2.2.2.2.2.1 u.2.2.2.2.2.2.2.2.2.2.2.2.2.2.2.2.2.2.2.2.2.2.2.2.2.2.2.2.2.2.2.2.2.2.2.2.2.2.2.1 u.2.2.2.2.2.2.2.2.2.2.2.2.2.2.2.2.2.2.2.2.2.2.2.2.2.2.2.2.2.2.2.2.2.2.2.2.2.2.2.2
def cc_L9 (post : Int32 → SX → Prop) (x1 : Int32) (m : Nat) (x2 x3 : Int32) (u : SX) : Prop := wX_free_99 post (wX_free_26 post x1 m) x1 x2 x3 u.1 u.2.1 u.2.2.1 u.2.2.2.1 u.2.2.2.2.1 u.2.2.2.2.2.1 u.2.2.2.2.2.2.1 u.2.2.2.2.2.2.2.1 u.2.2.2.2.2.2.2.2.1 u.2.2.2.2.2.2.2.2.2.1 u.2.2.2.2.2.2.2.2.2.2.1 u.2.2.2.2.2.2.2.2.2.2.2.1 u.2.2.2.2.2.2.2.2.2.2.2.2.1 u.2.2.2.2.2.2.2.2.2.2.2.2.2.1 u.2.2.2.2.2.2.2.2.2.2.2.2.2.2.1 u.2.2.2.2.2.2.2.2.2.2.2.2.2.2.2.1 u.2.2.2.2.2.2.2.2.2.2.2.2.2.2.2.2.1 u.2.2.2.2.2.2.2.2.2.2.2.2.2.2.2.2.2.1 u.2.2.2.2.2.2.2.2.2.2.2.2.2.2.2.2.2.2.1 u.2.2.2.2.2.2.2.2.2.2.2.2.2.2.2.2.2.2.2.1 u.2.2.2.2.2.2.2.2.2.2.2.2.2.2.2.2.2.2.2.2.1 u.2.2.2.2.2.2.2.2.2.2.2.2.2.2.2.2.2.2.2.2.2.1 u.2.2.2.2.2.2.2.2.2.2.2.2.2.2.2.2.2.2.2.2.2.2.1 u.2.2.2.2.2.2.2.2.2.2.2.2.2.2.2.2.2.2.2.2.2.2.2.1 u.2.2.2.2.2.2.2.2.2.2.2.2.2.2.2.2.2.2.2.2.2.2.2.2.1 u.2.2.2.2.2.2.2.2.2.2.2.2.2.2.2.2.2.2.2.2.2.2.2.2.2.1 u.2.2.2.2.2.2.2.2.2.2.2.2.2.2.2.2.2.2.2.2.2.2.2.2.2.2.1 u.2.2.2.2.2.2.2.2.2.2.2.2.2.2.2.2.2.2.2.2.2.2.2.2.2.2.2.1 u.2.2.2.2.2.2.2.2.2.2.2.2.2.2.2.2.2.2.2.2.2.2.2.2.2.2.2.2.1 u.2.2.2.2.2.2.2.2.2.2.2.2.2.2.2.2.2.2.2.2.2.2.2.2.2.2.2.2.2.1 u.2.2.2.2.2.2.2.2.2.2.2.2.2.2.2.2.2.2.2.2.2.2.2.2.2.2.2.2.2.2.1 u.2.2.2.2.2.2.2.2.2.2.2.2.2.2.2.2.2.2.2.2.2.2.2.2.2.2.2.2.2.2.2.1 u.2.2.2.2.2.2.2.2.2.2.2.2.2.2.2.2.2.2.2.2.2.2.2.2.2.2.2.2.2.2.2.2.1 u.2.2.2.2.2.2.2.2.2.2.2.2.2.2.2.2.2.2.2.2.2.2.2.2.2.2.2.2.2.2.2.2.2.1 u.2.2.2.2.2.2.2.2.2.2.2.2.2.2.2.2.2.2.2.2.2.2.2.2.2.2.2.2.2.2.2.2.2.2.1 u.2.2.2.2.2.2.2.2.2.2.2.2.2.2.2.2.2.2.2.2.2.2.2.2.2.2.2.2.2.2.2.2.2.2.2.1 u.2.2.2.2.2.2.2.2.2.2.2.2.2.2.2.2.2.2.2.2.2.2.2.2.2.2.2.2.2.2.2.2.2.2.2.2.1 u.2.2.2.2.2.2.2.2.2.2.2.2.2.2.2.2.2.2.2.2.2.2.2.2.2.2.2.2.2.2.2.2.2.2.2.2.2.1 u.2.2.2.2.2.2.2.2.2.2.2.2.2.2.2.2.2.2.2.2.2.2.2.2.2.2.2.2.2.2.2.2.2.2.2.2.2.2.1 u.2.2.2.2.2.2.2.2.2.2.2.2.2.2.2.2.2.2.2.2.2.2.2.2.2.2.2.2.2.2.2.2.2.2.2.2.2.2.2.1 u.2.2.2.2.2.2.2.2.2.2.2.2.2.2.2.2.2.2.2.2.2.2.2.2.2.2.2.2.2.2.2.2.2.2.2.2.2.2.2.2
theorem cc_mk_4 {a b : Nat → Bool} (h : ∀ v, v < 4 → a v = b v) : cc_mk a = cc_mk b := by
  unfold cc_mk
  rw [h 0 (by omega), h 1 (by omega), h 2 (by omega), h 3 (by omega)]
section
variable {n : Nat} {K N W P : Nat → Int32} {cn hg : Int32} {PA PB PC sk : Nat → Int32} {c : cc_TC} {t : cc_TT} {f : cc_TF} {r : cc_TR}
section
variable {f_count f_height f_size f_pending f_tasks f_values f_frames f_closures f_called f_ended f_foundCode f_foundExtra f_crossed : Int32} {a_kind a_partA a_partB a_partC a_number a_place a_stack a_code a_extra a_entry a_getCode a_getExtra a_pendingFunction a_task a_phase a_hole a_tag a_datum a_back a_running a_argTag a_argDatum a_slotTag a_slotDatum a_closureOf a_keptTag a_keptDatum : Nat → Int32}
theorem cc_insl {post : Int32 → Prop} (hn : n ≤ 24) (hU : ∀ x, x < n → cc_Up n W x) {y : Nat} (hy : y < n) : ∀ (d x i : Nat), x < n → n ≤ x + d → i ≤ x → post (if cc_in W y x = true then 1 else 0) → wX_inside_5 post (nI y) f_count f_height f_size f_pending f_tasks f_values f_frames f_closures f_called f_ended f_foundCode f_foundExtra f_crossed a_kind a_partA a_partB a_partC a_number W a_place a_stack a_code a_extra a_entry a_getCode a_getExtra a_pendingFunction a_task a_phase a_hole a_tag a_datum a_back a_running a_argTag a_argDatum a_slotTag a_slotDatum a_closureOf a_keptTag a_keptDatum (d + 1) (nI x) (nI i) := by
  intro d
  induction d with
  | zero => intro x i hx hd; omega
  | succ d ih =>
    intro x i hx hd hi hp
    have e1 : (nI x).toNatClampNeg = x := nI_clamp (by omega)
    have i1 : vp_in (nI x) 24 := vp_in_nI (by omega) (by omega)
    have n1 : ¬ (24 : Int32) ≤ nI i := nI_ge (b := 24) (by omega) (by omega)
    by_cases xy : x = y
    · rw [xy, cc_in_t, if_pos rfl] at hp
      subst xy
      exact br_f n1 (br_t rfl (br_t rfl hp))
    · have xy' : ¬ nI x = nI y := fun q => xy ((nI_eq (by omega) (by omega)).mp q)
      rcases hU x hx with h | ⟨w, h, h1, h2⟩
      · rw [cc_in_r h xy, if_neg (by decide)] at hp
        have l0 : W (nI x).toNatClampNeg < 0 := by rw [e1, h]; decide
        exact br_f n1 (br_f xy' (And.intro i1 (br_t l0 (br_f xy' hp))))
      · rw [cc_in_w h h1 (by omega) xy] at hp
        have ew : W (nI x).toNatClampNeg = nI w := by rw [e1]; exact h
        have l0 : ¬ W (nI x).toNatClampNeg < 0 := by rw [ew]; exact nI_pos (by omega)
        exact br_f n1 (br_f xy' (And.intro i1 (br_f l0 (And.intro i1 (nm_r (e' := nI w) ew (nm_r (nI_1 i) (ih w (i + 1) h2 (by omega) (by omega) hp)))))))
end
theorem cc_inside {post : Int32 → Prop} (hn : n ≤ 24) (hU : ∀ x, x < n → cc_Up n W x) {x y : Nat} (hx : x < n) (hy : y < n) (hp : post (if cc_in W y x = true then 1 else 0)) : wpX_inside post (cc_xs (cn, hg, K, PA, PB, PC, N, W, P, sk) c t f r) (nI x) (nI y) :=
  ⟨25, cc_insl hn hU hy 24 x 0 hx (by omega) (by omega) hp⟩
theorem cc_f65 (hn : n ≤ 24) (hU : ∀ x, x < n → cc_Up n W x) {v k : Nat} (hv : v < 4) (hk : k < 24) (hN : N k = nI v) : ∀ (d i x : Nat), x < n → n ≤ x + d → i ≤ x → ∃ f' : cc_TF, (f'.1 = 15 ↔ cc_fu K N W P v x = true) ∧ ∀ (post : Int32 → SX → Prop) (x1 x2 : Int32) (m : Nat), cc_L9 post x1 m x2 (nI k) (cc_xs (cn, hg, K, PA, PB, PC, N, W, P, sk) c t f' r) → cc_L5 post x1 m x2 (nI k) (d + 1) (nI i) (cc_xs (cn, hg, K, PA, PB, PC, N, W, P, sk) c t (cc_lo K N W P v x) r) := by
  intro d
  induction d with
  | zero => intro i x hx hd; omega
  | succ d ih =>
    intro i x hx hd hi
    have n1 : ¬ (24 : Int32) ≤ nI i := nI_ge (b := 24) (by omega) (by omega)
    have ek : (nI k).toNatClampNeg = k := nI_clamp (by omega)
    have ik : vp_in (nI k) 24 := vp_in_nI hk (by omega)
    by_cases hc : (cc_lo K N W P v x).2.2 < 0
    · refine ⟨cc_lo K N W P v x, ?_, fun post x1 x2 m hp => br_f n1 (br_t hc hp)⟩
      rw [cc_fu_0 hc]
      exact decide_eq_true_iff.symm
    · obtain ⟨w, w1, w2, w3, w4⟩ := cc_lo_c hn hU hv hx hc
      have e3 : (cc_lo K N W P v x).2.2 = nI w := by rw [w4]
      obtain ⟨f', q1, q2⟩ := ih (i + 1) w w2 (by omega) (by omega)
      refine ⟨f', ?_, fun post x1 x2 m hp => br_f n1 (br_f hc (And.intro ik ?_))⟩
      · rw [cc_fu_1 e3 w1 (by omega)]; exact q1
      · have eN : N (nI k).toNatClampNeg = nI v := by rw [ek]; exact hN
        show wpX_lookOut _ _ (cc_lo K N W P v x).2.2 (N (nI k).toNatClampNeg)
        rw [eN, e3]
        refine cc_lk (K := K) (N := N) (W := W) (P := P) (cn := cn) (hg := hg) (PA := PA) (PB := PB) (PC := PC) (sk := sk) (c := c) (t := t) (f := cc_lo K N W P v x) (r := r) (v := v) hn hU w2 ?_
        exact nm_r (nI_1 i) (q2 post x1 x2 m hp)
theorem cc_f26 (hn : n ≤ 24) (hU : ∀ x, x < n → cc_Up n W x) (hP : ∀ x, x < n → K x = 9 → ∃ w, w < 4 ∧ N x = nI w) {y : Nat} (hy : y < n) : ∀ (d k : Nat) (f : cc_TF), k + d = y + 1 → ∃ f' : cc_TF, ∀ post : Int32 → SX → Prop, post (cc_mk (cc_sf K N W P y (y + 1))) (cc_xs (cn, hg, K, PA, PB, PC, N, W, P, sk) c t f' r) → cc_LF post (nI y) (d + 1) (cc_mk (cc_sf K N W P y k)) (nI k) (cc_xs (cn, hg, K, PA, PB, PC, N, W, P, sk) c t f r) := by
  intro d
  induction d with
  | zero =>
    intro k f hk
    refine ⟨f, fun post hp => br_t (nI_lt (by omega) (by omega)) ?_⟩
    have e : k = y + 1 := by omega
    rw [e]
    exact hp
  | succ d ih =>
    intro k f hk
    have nlt : ¬ nI y < nI k := nI_nlt (by omega) (by omega)
    have ek : (nI k).toNatClampNeg = k := nI_clamp (by omega)
    have ik : vp_in (nI k) 24 := vp_in_nI (by omega) (by omega)
    by_cases k9 : K k = 9
    · have k9' : K (nI k).toNatClampNeg = 9 := by rw [ek]; exact k9
      obtain ⟨w, hw, hN⟩ := hP k (by omega) k9
      have eN : N (nI k).toNatClampNeg = nI w := by rw [ek]; exact hN
      have eNw : (N k).toNatClampNeg = w := by rw [hN]; exact nI_clamp (by omega)
      by_cases hin : cc_in W y k = true
      · obtain ⟨f1, g1, g2⟩ := cc_f65 (K := K) (N := N) (W := W) (P := P) (cn := cn) (hg := hg) (PA := PA) (PB := PB) (PC := PC) (sk := sk) (c := c) (t := t) (r := r) hn hU hw (by omega) hN 24 0 k (by omega) (by omega) (by omega)
        have go : ∀ (post : Int32 → SX → Prop) (n1 : Nat), cc_L9 post (nI y) n1 (cc_mk (cc_sf K N W P y k)) (nI k) (cc_xs (cn, hg, K, PA, PB, PC, N, W, P, sk) c t f1 r) → cc_LF post (nI y) (n1 + 1) (cc_mk (cc_sf K N W P y k)) (nI k) (cc_xs (cn, hg, K, PA, PB, PC, N, W, P, sk) c t f r) := by
          intro post n1 hp
          refine br_f nlt (And.intro ik (br_t k9' ?_))
          refine cc_inside (K := K) (N := N) (W := W) (P := P) (cn := cn) (hg := hg) (PA := PA) (PB := PB) (PC := PC) (sk := sk) (c := c) (t := t) (f := f) (r := r) hn hU (by omega) hy ?_
          rw [if_pos hin]
          refine br_f (show ¬ (1 : Int32) = 0 by decide) (And.intro ik ?_)
          show wpX_lookOut _ _ (nI k) (N (nI k).toNatClampNeg)
          rw [eN]
          exact cc_lk (K := K) (N := N) (W := W) (P := P) (cn := cn) (hg := hg) (PA := PA) (PB := PB) (PC := PC) (sk := sk) (c := c) (t := t) (f := f) (r := r) (v := w) hn hU (by omega) ⟨25, g2 post _ _ _ hp⟩
        by_cases fu : cc_fu K N W P w k = true
        · have e15 : f1.1 = 15 := g1.mpr fu
          have em : cc_mk (cc_sf K N W P y k) ||| ((1 : Int32) <<< (N (nI k).toNatClampNeg &&& 31)) = cc_mk (cc_sf K N W P y (k + 1)) := by
            rw [eN, ← cc_mk_1 hw, ← cc_mk_or]
            refine cc_mk_e (fun v => ?_)
            rw [cc_sf, eNw, k9, hin, fu]
            simp
          obtain ⟨f', q⟩ := ih (k + 1) f1 (by omega)
          refine ⟨f', fun post hp => go post (d + 1) ?_⟩
          exact br_t e15 (And.intro ik (nm_r em (nm_r (nI_1 k) (q post hp))))
        · have e15 : ¬ f1.1 = 15 := fun q => fu (g1.mp q)
          have em : cc_mk (cc_sf K N W P y k) = cc_mk (cc_sf K N W P y (k + 1)) := by
            refine cc_mk_e (fun v => ?_)
            have fu' : cc_fu K N W P w k = false := by revert fu; cases cc_fu K N W P w k <;> simp
            rw [cc_sf, eNw, fu']
            simp
          obtain ⟨f', q⟩ := ih (k + 1) f1 (by omega)
          refine ⟨f', fun post hp => go post (d + 1) ?_⟩
          rw [em]
          exact br_f e15 (nm_r (nI_1 k) (q post hp))
      · have em : cc_mk (cc_sf K N W P y k) = cc_mk (cc_sf K N W P y (k + 1)) := by
          refine cc_mk_e (fun v => ?_)
          have hin' : cc_in W y k = false := by revert hin; cases cc_in W y k <;> simp
          rw [cc_sf, hin']
          simp
        obtain ⟨f', q⟩ := ih (k + 1) f (by omega)
        refine ⟨f', fun post hp => ?_⟩
        rw [em]
        refine br_f nlt (And.intro ik (br_t k9' ?_))
        refine cc_inside (K := K) (N := N) (W := W) (P := P) (cn := cn) (hg := hg) (PA := PA) (PB := PB) (PC := PC) (sk := sk) (c := c) (t := t) (f := f) (r := r) hn hU (by omega) hy ?_
        rw [if_neg hin]
        exact br_t rfl (nm_r (nI_1 k) (q post hp))
    · have k9' : ¬ K (nI k).toNatClampNeg = 9 := by rw [ek]; exact k9
      have em : cc_mk (cc_sf K N W P y k) = cc_mk (cc_sf K N W P y (k + 1)) := by
        refine cc_mk_e (fun v => ?_)
        rw [cc_sf, decide_eq_false k9]
        simp
      obtain ⟨f', q⟩ := ih (k + 1) f (by omega)
      refine ⟨f', fun post hp => ?_⟩
      rw [em]
      exact br_f nlt (And.intro ik (br_f k9' (nm_r (nI_1 k) (q post hp))))
end
end
section
/-! the component's methods that make programs -/
section
variable {n h h0 : Nat} {K PA PB PC N W P sk : Nat → Int32} {c : cc_TC} {t : cc_TT} {f : cc_TF} {r : cc_TR} {post : Int32 → SX → Prop}
theorem cc_n24 (h : n < 24) : ¬ nI n = 24 := fun q => by have := (nI_eq (b := 24) (by omega) (by omega)).mp q; omega
theorem cc_bad0 {po : Int32 → Prop} {p : cc_TP} {v : Int32} (hv : v < 0 ∨ ¬ v < 4) (hp : po 1) : wpX_badName po (cc_xs p c t f r) v := by
  by_cases h1 : v < 0
  · exact br_t h1 hp
  · exact br_f h1 (br_f (hv.resolve_left h1) hp)
theorem cc_bad1 {po : Int32 → Prop} {p : cc_TP} {w : Nat} (hw : w < 4) (hp : po 0) : wpX_badName po (cc_xs p c t f r) (nI w) :=
  br_f (nI_pos (by omega)) (br_t (nI_lt (b := 4) hw (by omega)) hp)
theorem cc_nmv (v : Int32) : (v < 0 ∨ ¬ v < 4) ∨ ∃ w, w < 4 ∧ v = nI w := by
  by_cases h1 : v < 0
  · exact Or.inl (Or.inl h1)
  · by_cases h2 : v < 4
    · obtain ⟨j, hj, rfl⟩ := nI_of h1
      exact Or.inr ⟨j, (nI_ltI (b := 4) hj (by omega)).mp h2, rfl⟩
    · exact Or.inl (Or.inr h2)
-- number
theorem cc_xnum_b {v : Int32} (hv : v < (-9) ∨ ¬ v ≤ 9) (hp : post (-1) (cc_xs (nI n, nI h, K, PA, PB, PC, N, W, P, sk) c t f r)) : wpX_number post (cc_xs (nI n, nI h, K, PA, PB, PC, N, W, P, sk) c t f r) v := by
  by_cases h1 : v < (-9)
  · exact br_t h1 hp
  · exact br_f h1 (br_f (hv.resolve_left h1) hp)
theorem cc_xleaf_f {k m : Int32} (hv : n = 24 ∨ h = 6) (hp : post (-2) (cc_xs (nI n, nI h, K, PA, PB, PC, N, W, P, sk) c t f r)) : wpX_leaf post (cc_xs (nI n, nI h, K, PA, PB, PC, N, W, P, sk) c t f r) k m := by
  by_cases h1 : n = 24
  · exact br_t (congrArg nI h1) hp
  · refine br_c (fun _ => hp) (fun _ => br_t (congrArg nI (hv.resolve_left h1)) hp)
theorem cc_xnum_f {v : Int32} (h1 : ¬ v < (-9)) (h2 : v ≤ 9) (hv : n = 24 ∨ h = 6) (hp : post (-2) (cc_xs (nI n, nI h, K, PA, PB, PC, N, W, P, sk) c t f r)) : wpX_number post (cc_xs (nI n, nI h, K, PA, PB, PC, N, W, P, sk) c t f r) v :=
  br_f h1 (br_t h2 (cc_xleaf_f (n := n) (h := h) (K := K) (PA := PA) (PB := PB) (PC := PC) (N := N) (W := W) (P := P) (sk := sk) (c := c) (t := t) (f := f) (r := r) hv hp))
theorem cc_xnum {v : Int32} (h1 : ¬ v < (-9)) (h2 : v ≤ 9) (hn : n < 24) (hh : h < 6) (hp : post (nI (h + 1)) (cc_xs (nI (n + 1), nI (h + 1), upd K n 8, upd PA n (-1), upd PB n (-1), upd PC n (-1), upd N n v, upd W n (-1), P, upd sk h (nI n)) c t f r)) : wpX_number post (cc_xs (nI n, nI h, K, PA, PB, PC, N, W, P, sk) c t f r) v :=
  br_f h1 (br_t h2 (cc_xleaf (K := K) (PA := PA) (PB := PB) (PC := PC) (N := N) (W := W) (P := P) (sk := sk) (c := c) (t := t) (f := f) (r := r) hn hh hp))
-- name
theorem cc_xnam_b {v : Int32} (hv : v < 0 ∨ ¬ v < 4) (hp : post (-1) (cc_xs (nI n, nI h, K, PA, PB, PC, N, W, P, sk) c t f r)) : wpX_name post (cc_xs (nI n, nI h, K, PA, PB, PC, N, W, P, sk) c t f r) v := by
  unfold wpX_name cc_xs
  dsimp only
  exact cc_bad0 (p := (nI n, nI h, K, PA, PB, PC, N, W, P, sk)) (c := c) (t := t) (f := f) (r := r) hv (br_f (show ¬ (1 : Int32) = 0 by decide) hp)
theorem cc_xnam_f {w : Nat} (hw : w < 4) (hv : n = 24 ∨ h = 6) (hp : post (-2) (cc_xs (nI n, nI h, K, PA, PB, PC, N, W, P, sk) c t f r)) : wpX_name post (cc_xs (nI n, nI h, K, PA, PB, PC, N, W, P, sk) c t f r) (nI w) := by
  unfold wpX_name cc_xs
  dsimp only
  refine cc_bad1 (p := (nI n, nI h, K, PA, PB, PC, N, W, P, sk)) (c := c) (t := t) (f := f) (r := r) hw (br_t rfl ?_)
  exact cc_xleaf_f (n := n) (h := h) (K := K) (PA := PA) (PB := PB) (PC := PC) (N := N) (W := W) (P := P) (sk := sk) (c := c) (t := t) (f := f) (r := r) hv hp
theorem cc_xnam {w : Nat} (hw : w < 4) (hn : n < 24) (hh : h < 6) (hp : post (nI (h + 1)) (cc_xs (nI (n + 1), nI (h + 1), upd K n 9, upd PA n (-1), upd PB n (-1), upd PC n (-1), upd N n (nI w), upd W n (-1), P, upd sk h (nI n)) c t f r)) : wpX_name post (cc_xs (nI n, nI h, K, PA, PB, PC, N, W, P, sk) c t f r) (nI w) := by
  unfold wpX_name cc_xs
  dsimp only
  refine cc_bad1 (p := (nI n, nI h, K, PA, PB, PC, N, W, P, sk)) (c := c) (t := t) (f := f) (r := r) hw (br_t rfl ?_)
  exact cc_xleaf (K := K) (PA := PA) (PB := PB) (PC := PC) (N := N) (W := W) (P := P) (sk := sk) (c := c) (t := t) (f := f) (r := r) hn hh hp
-- two
theorem cc_xtwo_b {v : Int32} (hv : v < 0 ∨ ¬ v ≤ 4) (hp : post (-1) (cc_xs (nI n, nI h, K, PA, PB, PC, N, W, P, sk) c t f r)) : wpX_two post (cc_xs (nI n, nI h, K, PA, PB, PC, N, W, P, sk) c t f r) v := by
  by_cases h1 : v < 0
  · exact br_t h1 hp
  · exact br_f h1 (br_f (hv.resolve_left h1) hp)
theorem cc_xtwo_f {k : Nat} (hk : k < 5) (hn : n = 24) (hp : post (-2) (cc_xs (nI n, nI h, K, PA, PB, PC, N, W, P, sk) c t f r)) : wpX_two post (cc_xs (nI n, nI h, K, PA, PB, PC, N, W, P, sk) c t f r) (nI k) :=
  br_f (nI_pos (by omega)) (br_t (nI_le (b := 4) (by omega) (by omega)) (br_t (congrArg nI hn) hp))
theorem cc_xtwo_t {k : Nat} (hk : k < 5) (hn : n < 24) (hh : h < 2) (hp : post (-3) (cc_xs (nI n, nI h, K, PA, PB, PC, N, W, P, sk) c t f r)) : wpX_two post (cc_xs (nI n, nI h, K, PA, PB, PC, N, W, P, sk) c t f r) (nI k) :=
  br_f (nI_pos (by omega)) (br_t (nI_le (b := 4) (by omega) (by omega)) (br_f (cc_n24 hn) (br_f (nI_ge (b := 2) hh (by omega)) hp)))
theorem cc_p1 (h : Nat) : nI (h + 1) - 1 = nI h := nI_pred h
theorem cc_xtwo {k a b : Nat} (hk : k < 5) (hn : n < 24) (hh : h0 + 2 ≤ 6) (ha : a < 24) (hb : b < 24) (sa : sk h0 = nI a) (sb : sk (h0 + 1) = nI b) (hp : post (nI (h0 + 1)) (cc_xs (nI (n + 1), nI (h0 + 1), upd K n (nI k), upd PA n (nI a), upd PB n (nI b), upd PC n (-1), N, upd (upd (upd W n (-1)) a (nI n)) b (nI n), upd (upd P a 0) b 1, upd sk h0 (nI n)) c t f r)) : wpX_two post (cc_xs (nI n, nI (h0 + 2), K, PA, PB, PC, N, W, P, sk) c t f r) (nI k) := by
  have e1 : nI (h0 + 1) - 1 = nI h0 := nI_pred h0
  have i0 : vp_in (nI (h0 + 1) - 1) 6 := by rw [e1]; exact vp_in_nI (by omega) (by omega)
  have i1 : vp_in (nI (h0 + 1)) 6 := vp_in_nI (by omega) (by omega)
  have ea : sk (nI (h0 + 1) - 1).toNatClampNeg = nI a := by rw [e1, nI_clamp (by omega)]; exact sa
  have eb : sk (nI (h0 + 1)).toNatClampNeg = nI b := by rw [nI_clamp (by omega)]; exact sb
  have e2 : (nI (h0 + 1) - 1).toNatClampNeg = h0 := by rw [e1, nI_clamp (by omega)]
  refine br_f (nI_pos (by omega)) (br_t (nI_le (b := 4) (by omega) (by omega)) (br_f (cc_n24 hn) (br_t (nI_le (a := 2) (by omega) (by omega)) (nm_r (e' := nI (h0 + 1)) (nI_pred (h0 + 1)) (And.intro i0 (And.intro i1 ?_))))))
  show wpX_make _ _ (nI k) (sk (nI (h0 + 1) - 1).toNatClampNeg) (sk (nI (h0 + 1)).toNatClampNeg) (-1)
  rw [ea, eb]
  refine cc_make (hg := nI (h0 + 1)) (K := K) (PA := PA) (PB := PB) (PC := PC) (N := N) (W := W) (P := P) (sk := sk) (c := c) (t := t) (f := f) (r := r) hn (Or.inr ⟨a, ha, rfl⟩) (Or.inr ⟨b, hb, rfl⟩) (Or.inl rfl) ?_
  rw [cc_ad_n, cc_ad_n, cc_ad_y _ _ (by omega), cc_ad_y _ _ (by omega), cc_ad_y _ _ (by omega), cc_ad_y _ _ (by omega)]
  exact And.intro i0 (nm_r (cc_u sk e2 (nI n)) hp)
-- choose
theorem cc_xcho_f (hn : n = 24) (hp : post (-2) (cc_xs (nI n, nI h, K, PA, PB, PC, N, W, P, sk) c t f r)) : wpX_choose post (cc_xs (nI n, nI h, K, PA, PB, PC, N, W, P, sk) c t f r) :=
  br_t (congrArg nI hn) hp
theorem cc_xcho_t (hn : n < 24) (hh : h < 3) (hp : post (-3) (cc_xs (nI n, nI h, K, PA, PB, PC, N, W, P, sk) c t f r)) : wpX_choose post (cc_xs (nI n, nI h, K, PA, PB, PC, N, W, P, sk) c t f r) :=
  br_f (cc_n24 hn) (br_f (nI_ge (b := 3) hh (by omega)) hp)
theorem cc_xcho {a b d : Nat} (hn : n < 24) (hh : h0 + 3 ≤ 6) (ha : a < 24) (hb : b < 24) (hd : d < 24) (sa : sk h0 = nI a) (sb : sk (h0 + 1) = nI b) (sd : sk (h0 + 2) = nI d) (hp : post (nI (h0 + 1)) (cc_xs (nI (n + 1), nI (h0 + 1), upd K n 5, upd PA n (nI a), upd PB n (nI b), upd PC n (nI d), N, upd (upd (upd (upd W n (-1)) a (nI n)) b (nI n)) d (nI n), upd (upd (upd P a 0) b 1) d 2, upd sk h0 (nI n)) c t f r)) : wpX_choose post (cc_xs (nI n, nI (h0 + 3), K, PA, PB, PC, N, W, P, sk) c t f r) := by
  have e0 : nI (h0 + 3) - 2 = nI (h0 + 1) := by rw [show (2 : Int32) = nI 2 from rfl, pk_sub (by omega)]; rfl
  have e1 : nI (h0 + 1) - 1 = nI h0 := nI_pred h0
  have e3 : nI (h0 + 1) + 1 = nI (h0 + 2) := nI_1 (h0 + 1)
  have i0 : vp_in (nI (h0 + 1) - 1) 6 := by rw [e1]; exact vp_in_nI (by omega) (by omega)
  have i1 : vp_in (nI (h0 + 1)) 6 := vp_in_nI (by omega) (by omega)
  have i2 : vp_in (nI (h0 + 1) + 1) 6 := by rw [e3]; exact vp_in_nI (by omega) (by omega)
  have ea : sk (nI (h0 + 1) - 1).toNatClampNeg = nI a := by rw [e1, nI_clamp (by omega)]; exact sa
  have eb : sk (nI (h0 + 1)).toNatClampNeg = nI b := by rw [nI_clamp (by omega)]; exact sb
  have ed : sk (nI (h0 + 1) + 1).toNatClampNeg = nI d := by rw [e3, nI_clamp (by omega)]; exact sd
  have e2 : (nI (h0 + 1) - 1).toNatClampNeg = h0 := by rw [e1, nI_clamp (by omega)]
  refine br_f (cc_n24 hn) (br_t (nI_le (a := 3) (by omega) (by omega)) (nm_r (e' := nI (h0 + 1)) e0 (And.intro i0 (And.intro i1 (And.intro i2 ?_)))))
  show wpX_make _ _ 5 (sk (nI (h0 + 1) - 1).toNatClampNeg) (sk (nI (h0 + 1)).toNatClampNeg) (sk (nI (h0 + 1) + 1).toNatClampNeg)
  rw [ea, eb, ed]
  refine cc_make (hg := nI (h0 + 1)) (K := K) (PA := PA) (PB := PB) (PC := PC) (N := N) (W := W) (P := P) (sk := sk) (c := c) (t := t) (f := f) (r := r) hn (Or.inr ⟨a, ha, rfl⟩) (Or.inr ⟨b, hb, rfl⟩) (Or.inr ⟨d, hd, rfl⟩) ?_
  rw [cc_ad_y _ _ (by omega), cc_ad_y _ _ (by omega), cc_ad_y _ _ (by omega), cc_ad_y _ _ (by omega), cc_ad_y _ _ (by omega), cc_ad_y _ _ (by omega)]
  exact And.intro i0 (nm_r (cc_u sk e2 (nI n)) hp)
-- bind
theorem cc_xbnd_b {v : Int32} (hv : v < 0 ∨ ¬ v < 4) (hp : post (-1) (cc_xs (nI n, nI h, K, PA, PB, PC, N, W, P, sk) c t f r)) : wpX_bind post (cc_xs (nI n, nI h, K, PA, PB, PC, N, W, P, sk) c t f r) v := by
  unfold wpX_bind cc_xs
  dsimp only
  exact cc_bad0 (p := (nI n, nI h, K, PA, PB, PC, N, W, P, sk)) (c := c) (t := t) (f := f) (r := r) hv (br_f (show ¬ (1 : Int32) = 0 by decide) hp)
theorem cc_xbnd_f {w : Nat} (hw : w < 4) (hn : n = 24) (hp : post (-2) (cc_xs (nI n, nI h, K, PA, PB, PC, N, W, P, sk) c t f r)) : wpX_bind post (cc_xs (nI n, nI h, K, PA, PB, PC, N, W, P, sk) c t f r) (nI w) := by
  unfold wpX_bind cc_xs
  dsimp only
  exact cc_bad1 (p := (nI n, nI h, K, PA, PB, PC, N, W, P, sk)) (c := c) (t := t) (f := f) (r := r) hw (br_t rfl (br_t (congrArg nI hn) hp))
theorem cc_xbnd_t {w : Nat} (hw : w < 4) (hn : n < 24) (hh : h < 2) (hp : post (-3) (cc_xs (nI n, nI h, K, PA, PB, PC, N, W, P, sk) c t f r)) : wpX_bind post (cc_xs (nI n, nI h, K, PA, PB, PC, N, W, P, sk) c t f r) (nI w) := by
  unfold wpX_bind cc_xs
  dsimp only
  exact cc_bad1 (p := (nI n, nI h, K, PA, PB, PC, N, W, P, sk)) (c := c) (t := t) (f := f) (r := r) hw (br_t rfl (br_f (cc_n24 hn) (br_f (nI_ge (b := 2) hh (by omega)) hp)))
theorem cc_xbnd {w a b : Nat} (hw : w < 4) (hn : n < 24) (hh : h0 + 2 ≤ 6) (ha : a < 24) (hb : b < 24) (sa : sk h0 = nI a) (sb : sk (h0 + 1) = nI b) (hp : post (nI (h0 + 1)) (cc_xs (nI (n + 1), nI (h0 + 1), upd K n 6, upd PA n (nI a), upd PB n (nI b), upd PC n (-1), upd N n (nI w), upd (upd (upd W n (-1)) a (nI n)) b (nI n), upd (upd P a 0) b 1, upd sk h0 (nI n)) c t f r)) : wpX_bind post (cc_xs (nI n, nI (h0 + 2), K, PA, PB, PC, N, W, P, sk) c t f r) (nI w) := by
  have e1 : nI (h0 + 1) - 1 = nI h0 := nI_pred h0
  have i0 : vp_in (nI (h0 + 1) - 1) 6 := by rw [e1]; exact vp_in_nI (by omega) (by omega)
  have i1 : vp_in (nI (h0 + 1)) 6 := vp_in_nI (by omega) (by omega)
  have ea : sk (nI (h0 + 1) - 1).toNatClampNeg = nI a := by rw [e1, nI_clamp (by omega)]; exact sa
  have eb : sk (nI (h0 + 1)).toNatClampNeg = nI b := by rw [nI_clamp (by omega)]; exact sb
  have e2 : (nI (h0 + 1) - 1).toNatClampNeg = h0 := by rw [e1, nI_clamp (by omega)]
  have e3 : (nI n).toNatClampNeg = n := nI_clamp (by omega)
  have i3 : vp_in (nI n) 24 := vp_in_nI hn (by omega)
  unfold wpX_bind cc_xs
  dsimp only
  refine cc_bad1 (p := (nI n, nI (h0 + 2), K, PA, PB, PC, N, W, P, sk)) (c := c) (t := t) (f := f) (r := r) hw (br_t rfl (br_f (cc_n24 hn) (br_t (nI_le (a := 2) (by omega) (by omega)) (nm_r (e' := nI (h0 + 1)) (nI_pred (h0 + 1)) (And.intro i0 (And.intro i1 ?_))))))
  rw [ea, eb]
  refine cc_make (hg := nI (h0 + 1)) (K := K) (PA := PA) (PB := PB) (PC := PC) (N := N) (W := W) (P := P) (sk := sk) (c := c) (t := t) (f := f) (r := r) hn (Or.inr ⟨a, ha, rfl⟩) (Or.inr ⟨b, hb, rfl⟩) (Or.inl rfl) ?_
  rw [cc_ad_n, cc_ad_n, cc_ad_y _ _ (by omega), cc_ad_y _ _ (by omega), cc_ad_y _ _ (by omega), cc_ad_y _ _ (by omega)]
  exact And.intro i3 (nm_r (cc_u N e3 (nI w)) (And.intro i0 (nm_r (cc_u sk e2 (nI n)) hp)))
-- function
theorem cc_xfun_b {v v2 : Int32} (hv : v < 0 ∨ ¬ v < 4) (hp : post (-1) (cc_xs (nI n, nI h, K, PA, PB, PC, N, W, P, sk) c t f r)) : wpX_function post (cc_xs (nI n, nI h, K, PA, PB, PC, N, W, P, sk) c t f r) v v2 := by
  unfold wpX_function cc_xs
  dsimp only
  exact cc_bad0 (p := (nI n, nI h, K, PA, PB, PC, N, W, P, sk)) (c := c) (t := t) (f := f) (r := r) hv (br_f (show ¬ (1 : Int32) = 0 by decide) hp)
theorem cc_xfun_b2 {w : Nat} {v2 : Int32} (hw : w < 4) (hv : v2 < 0 ∨ ¬ v2 < 4) (hp : post (-1) (cc_xs (nI n, nI h, K, PA, PB, PC, N, W, P, sk) c t f r)) : wpX_function post (cc_xs (nI n, nI h, K, PA, PB, PC, N, W, P, sk) c t f r) (nI w) v2 := by
  unfold wpX_function cc_xs
  dsimp only
  refine cc_bad1 (p := (nI n, nI h, K, PA, PB, PC, N, W, P, sk)) (c := c) (t := t) (f := f) (r := r) hw (br_t rfl ?_)
  exact cc_bad0 (p := (nI n, nI h, K, PA, PB, PC, N, W, P, sk)) (c := c) (t := t) (f := f) (r := r) hv (br_f (show ¬ (1 : Int32) = 0 by decide) hp)
theorem cc_xfun_f {w w2 : Nat} (hw : w < 4) (hw2 : w2 < 4) (hn : n = 24) (hp : post (-2) (cc_xs (nI n, nI h, K, PA, PB, PC, N, W, P, sk) c t f r)) : wpX_function post (cc_xs (nI n, nI h, K, PA, PB, PC, N, W, P, sk) c t f r) (nI w) (nI w2) := by
  unfold wpX_function cc_xs
  dsimp only
  refine cc_bad1 (p := (nI n, nI h, K, PA, PB, PC, N, W, P, sk)) (c := c) (t := t) (f := f) (r := r) hw (br_t rfl ?_)
  exact cc_bad1 (p := (nI n, nI h, K, PA, PB, PC, N, W, P, sk)) (c := c) (t := t) (f := f) (r := r) hw2 (br_t rfl (br_t (congrArg nI hn) hp))
theorem cc_xfun_t {w w2 : Nat} (hw : w < 4) (hw2 : w2 < 4) (hn : n < 24) (hh : h = 0) (hp : post (-3) (cc_xs (nI n, nI h, K, PA, PB, PC, N, W, P, sk) c t f r)) : wpX_function post (cc_xs (nI n, nI h, K, PA, PB, PC, N, W, P, sk) c t f r) (nI w) (nI w2) := by
  unfold wpX_function cc_xs
  dsimp only
  refine cc_bad1 (p := (nI n, nI h, K, PA, PB, PC, N, W, P, sk)) (c := c) (t := t) (f := f) (r := r) hw (br_t rfl ?_)
  exact cc_bad1 (p := (nI n, nI h, K, PA, PB, PC, N, W, P, sk)) (c := c) (t := t) (f := f) (r := r) hw2 (br_t rfl (br_f (cc_n24 hn) (br_t (congrArg nI hh) hp)))
theorem cc_xfun {w w2 a : Nat} (hw : w < 4) (hw2 : w2 < 4) (hn : n < 24) (hh : h0 + 1 ≤ 6) (ha : a < 24) (sa : sk h0 = nI a) (hp : post (nI (h0 + 1)) (cc_xs (nI (n + 1), nI (h0 + 1), upd K n 7, upd PA n (nI a), upd PB n (-1), upd PC n (-1), upd N n (nI (4 * w + w2)), upd (upd W n (-1)) a (nI n), upd P a 0, upd sk h0 (nI n)) c t f r)) : wpX_function post (cc_xs (nI n, nI (h0 + 1), K, PA, PB, PC, N, W, P, sk) c t f r) (nI w) (nI w2) := by
  have e1 : nI (h0 + 1) - 1 = nI h0 := nI_pred h0
  have i0 : vp_in (nI (h0 + 1) - 1) 6 := by rw [e1]; exact vp_in_nI (by omega) (by omega)
  have ea : sk (nI (h0 + 1) - 1).toNatClampNeg = nI a := by rw [e1, nI_clamp (by omega)]; exact sa
  have e2 : (nI (h0 + 1) - 1).toNatClampNeg = h0 := by rw [e1, nI_clamp (by omega)]
  have e3 : (nI n).toNatClampNeg = n := nI_clamp (by omega)
  have i3 : vp_in (nI n) 24 := vp_in_nI hn (by omega)
  have e4 : 4 * nI w + nI w2 = nI (4 * w + w2) := by rw [show (4 : Int32) = nI 4 from rfl, pk_mul, nI_add]
  have e5 : upd N (nI n).toNatClampNeg (4 * nI w + nI w2) = upd N n (nI (4 * w + w2)) := by rw [e3, e4]
  unfold wpX_function cc_xs
  dsimp only
  refine cc_bad1 (p := (nI n, nI (h0 + 1), K, PA, PB, PC, N, W, P, sk)) (c := c) (t := t) (f := f) (r := r) hw (br_t rfl ?_)
  refine cc_bad1 (p := (nI n, nI (h0 + 1), K, PA, PB, PC, N, W, P, sk)) (c := c) (t := t) (f := f) (r := r) hw2 (br_t rfl (br_f (cc_n24 hn) (br_f (nI_ne0 (by omega) (by omega)) (And.intro i0 ?_))))
  rw [ea]
  refine cc_make (hg := nI (h0 + 1)) (K := K) (PA := PA) (PB := PB) (PC := PC) (N := N) (W := W) (P := P) (sk := sk) (c := c) (t := t) (f := f) (r := r) hn (Or.inr ⟨a, ha, rfl⟩) (Or.inl rfl) (Or.inl rfl) ?_
  rw [cc_ad_n, cc_ad_n, cc_ad_n, cc_ad_n, cc_ad_y _ _ (by omega), cc_ad_y _ _ (by omega)]
  exact And.intro i3 (nm_r e5 (And.intro i0 (nm_r (cc_u sk e2 (nI n)) hp)))
end
end
section
/-! the reference's methods that make programs -/
section
variable {n h h0 : Nat} {K YP YN YF sk : Nat → Int32} {s : cc_TS} {st : Nat → Nat} {fr : Nat → Nat → Bool} {post : Int32 → SY → Prop}
theorem cc_isn0 {po : Int32 → Prop} {q : cc_TQ} {v : Int32} (hv : v < 0 ∨ ¬ v < 4) (hp : po 0) : wpY_isName po (cc_ys q s) v := by
  by_cases h1 : v < 0
  · exact br_t h1 hp
  · have h2 : (3 : Int32) < v := by
      have := hv.resolve_left h1
      rw [Int32.lt_iff_toInt_lt] at this ⊢
      rw [show (4 : Int32).toInt = 4 by decide] at this
      rw [show (3 : Int32).toInt = 3 by decide]
      omega
    exact br_f h1 (br_t h2 hp)
theorem cc_isn1 {po : Int32 → Prop} {q : cc_TQ} {w : Nat} (hw : w < 4) (hp : po 1) : wpY_isName po (cc_ys q s) (nI w) :=
  br_f (nI_pos (by omega)) (br_f (nI_nlt (b := w) (a := 3) (by omega) (by omega)) hp)
theorem cc_ynum_b {v : Int32} (hv : v < (-9) ∨ ¬ v ≤ 9) (hp : post (-1) (cc_ys (nI n, nI h, K, YP, YN, YF, sk) s)) : wpY_number post (cc_ys (nI n, nI h, K, YP, YN, YF, sk) s) v := by
  by_cases h1 : v < (-9)
  · exact br_t h1 hp
  · exact br_f h1 (br_f (hv.resolve_left h1) hp)
theorem cc_yleaf_f {k m fe : Int32} (hv : n = 24 ∨ h = 6) (hp : post (-2) (cc_ys (nI n, nI h, K, YP, YN, YF, sk) s)) : wpY_leaf post (cc_ys (nI n, nI h, K, YP, YN, YF, sk) s) k m fe := by
  by_cases h1 : n = 24
  · exact br_t (congrArg nI h1) hp
  · refine br_c (fun _ => hp) (fun _ => br_t (congrArg nI (hv.resolve_left h1)) hp)
theorem cc_ynum_f {v : Int32} (h1 : ¬ v < (-9)) (h2 : v ≤ 9) (hv : n = 24 ∨ h = 6) (hp : post (-2) (cc_ys (nI n, nI h, K, YP, YN, YF, sk) s)) : wpY_number post (cc_ys (nI n, nI h, K, YP, YN, YF, sk) s) v :=
  br_f h1 (br_t h2 (cc_yleaf_f (n := n) (h := h) (K := K) (YP := YP) (YN := YN) (YF := YF) (sk := sk) (s := s) hv hp))
theorem cc_ynum {v : Int32} (h1 : ¬ v < (-9)) (h2 : v ≤ 9) (hn : n < 24) (hh : h < 6) (hp : post (nI (h + 1)) (cc_ys (nI (n + 1), nI (h + 1), upd K n 8, YP, upd YN n v, upd YF n 0, upd sk h (nI n)) s)) : wpY_number post (cc_ys (nI n, nI h, K, YP, YN, YF, sk) s) v :=
  br_f h1 (br_t h2 (cc_yleaf (K := K) (YP := YP) (YN := YN) (YF := YF) (sk := sk) (s := s) hn hh hp))
theorem cc_ynam_b {v : Int32} (hv : v < 0 ∨ ¬ v < 4) (hp : post (-1) (cc_ys (nI n, nI h, K, YP, YN, YF, sk) s)) : wpY_name post (cc_ys (nI n, nI h, K, YP, YN, YF, sk) s) v := by
  unfold wpY_name cc_ys
  dsimp only
  exact cc_isn0 (q := (nI n, nI h, K, YP, YN, YF, sk)) (s := s) hv (br_t rfl hp)
theorem cc_ynam_f {w : Nat} (hw : w < 4) (hv : n = 24 ∨ h = 6) (hp : post (-2) (cc_ys (nI n, nI h, K, YP, YN, YF, sk) s)) : wpY_name post (cc_ys (nI n, nI h, K, YP, YN, YF, sk) s) (nI w) := by
  unfold wpY_name cc_ys
  dsimp only
  refine cc_isn1 (q := (nI n, nI h, K, YP, YN, YF, sk)) (s := s) hw (br_f (show ¬ (1 : Int32) = 0 by decide) ?_)
  exact cc_yleaf_f (n := n) (h := h) (K := K) (YP := YP) (YN := YN) (YF := YF) (sk := sk) (s := s) hv hp
theorem cc_ynam {w : Nat} (hw : w < 4) (hn : n < 24) (hh : h < 6) (hp : post (nI (h + 1)) (cc_ys (nI (n + 1), nI (h + 1), upd K n 9, YP, upd YN n (nI w), upd YF n ((1 : Int32) <<< (nI w &&& 31)), upd sk h (nI n)) s)) : wpY_name post (cc_ys (nI n, nI h, K, YP, YN, YF, sk) s) (nI w) := by
  unfold wpY_name cc_ys
  dsimp only
  refine cc_isn1 (q := (nI n, nI h, K, YP, YN, YF, sk)) (s := s) hw (br_f (show ¬ (1 : Int32) = 0 by decide) ?_)
  exact cc_yleaf (K := K) (YP := YP) (YN := YN) (YF := YF) (sk := sk) (s := s) hn hh hp
theorem cc_ytwo_b {v : Int32} (hn : n ≤ 24) (hh : h ≤ 6) (hst : ∀ j, j < h → sk j = nI (st j) ∧ st j < n) (hF : ∀ x, x < n → YF x = cc_mk (fr x)) (hv : v < 0 ∨ ¬ v ≤ 4) (hp : post (-1) (cc_ys (nI n, nI h, K, YP, YN, YF, sk) s)) : wpY_two post (cc_ys (nI n, nI h, K, YP, YN, YF, sk) s) v := by
  unfold wpY_two cc_ys
  dsimp only
  refine cc_freeAt (i := 0) (cn := nI n) (n := n) (K := K) (YP := YP) (YN := YN) (YF := YF) (sk := sk) (s := s) (st := st) (fr := fr) hn hh (by omega) hst hF ?_
  refine cc_freeAt (i := 1) (cn := nI n) (n := n) (K := K) (YP := YP) (YN := YN) (YF := YF) (sk := sk) (s := s) (st := st) (fr := fr) hn hh (by omega) hst hF (nm_e ?_)
  by_cases h1 : v < 0
  · exact br_t h1 hp
  · exact br_f h1 (br_f (hv.resolve_left h1) hp)
theorem cc_ytwo_f {k : Nat} (hn : n ≤ 24) (hh : h ≤ 6) (hst : ∀ j, j < h → sk j = nI (st j) ∧ st j < n) (hF : ∀ x, x < n → YF x = cc_mk (fr x)) (hk : k < 5) (h24 : n = 24) (hp : post (-2) (cc_ys (nI n, nI h, K, YP, YN, YF, sk) s)) : wpY_two post (cc_ys (nI n, nI h, K, YP, YN, YF, sk) s) (nI k) := by
  unfold wpY_two cc_ys
  dsimp only
  refine cc_freeAt (i := 0) (cn := nI n) (n := n) (K := K) (YP := YP) (YN := YN) (YF := YF) (sk := sk) (s := s) (st := st) (fr := fr) hn hh (by omega) hst hF ?_
  refine cc_freeAt (i := 1) (cn := nI n) (n := n) (K := K) (YP := YP) (YN := YN) (YF := YF) (sk := sk) (s := s) (st := st) (fr := fr) hn hh (by omega) hst hF (nm_e ?_)
  refine br_f (nI_pos (by omega)) (br_t (nI_le (b := 4) (by omega) (by omega)) ?_)
  subst h24
  exact cc_ymake_f (hg := nI h) (K := K) (YP := YP) (YN := YN) (YF := YF) (sk := sk) (s := s) hp
theorem cc_ytwo_t {k : Nat} (hn : n < 24) (hh : h < 2) (hst : ∀ j, j < h → sk j = nI (st j) ∧ st j < n) (hF : ∀ x, x < n → YF x = cc_mk (fr x)) (hk : k < 5) (hp : post (-3) (cc_ys (nI n, nI h, K, YP, YN, YF, sk) s)) : wpY_two post (cc_ys (nI n, nI h, K, YP, YN, YF, sk) s) (nI k) := by
  unfold wpY_two cc_ys
  dsimp only
  refine cc_freeAt (i := 0) (cn := nI n) (n := n) (K := K) (YP := YP) (YN := YN) (YF := YF) (sk := sk) (s := s) (st := st) (fr := fr) (by omega) (by omega) (by omega) hst hF ?_
  refine cc_freeAt (i := 1) (cn := nI n) (n := n) (K := K) (YP := YP) (YN := YN) (YF := YF) (sk := sk) (s := s) (st := st) (fr := fr) (by omega) (by omega) (by omega) hst hF (nm_e ?_)
  refine br_f (nI_pos (by omega)) (br_t (nI_le (b := 4) (by omega) (by omega)) ?_)
  exact cc_ymake_t (n := n) (h := h) (T := 2) (K := K) (YP := YP) (YN := YN) (YF := YF) (sk := sk) (s := s) hn hh (by omega) hp
theorem cc_ytwo {k : Nat} (hn : n < 24) (hh : h0 + 2 ≤ 6) (hst : ∀ j, j < h0 + 2 → sk j = nI (st j) ∧ st j < n) (hF : ∀ x, x < n → YF x = cc_mk (fr x)) (hk : k < 5) (hp : post (nI (h0 + 1)) (cc_ys (nI (n + 1), nI (h0 + 1), upd K n (nI k), cc_yp YP sk n h0 2, upd YN n 0, upd YF n (cc_fa fr st (h0 + 2) 0 ||| cc_fa fr st (h0 + 2) 1), upd sk h0 (nI n)) s)) : wpY_two post (cc_ys (nI n, nI (h0 + 2), K, YP, YN, YF, sk) s) (nI k) := by
  unfold wpY_two cc_ys
  dsimp only
  refine cc_freeAt (i := 0) (cn := nI n) (n := n) (K := K) (YP := YP) (YN := YN) (YF := YF) (sk := sk) (s := s) (st := st) (fr := fr) (by omega) (by omega) (by omega) hst hF ?_
  refine cc_freeAt (i := 1) (cn := nI n) (n := n) (K := K) (YP := YP) (YN := YN) (YF := YF) (sk := sk) (s := s) (st := st) (fr := fr) (by omega) (by omega) (by omega) hst hF (nm_e ?_)
  refine br_f (nI_pos (by omega)) (br_t (nI_le (b := 4) (by omega) (by omega)) ?_)
  exact cc_ymake (n := n) (h := h0) (T := 2) (K := K) (YP := YP) (YN := YN) (YF := YF) (sk := sk) (s := s) hn (by omega) (by omega) (by omega) hp
theorem cc_ycho_f (hn : n ≤ 24) (hh : h ≤ 6) (hst : ∀ j, j < h → sk j = nI (st j) ∧ st j < n) (hF : ∀ x, x < n → YF x = cc_mk (fr x)) (h24 : n = 24) (hp : post (-2) (cc_ys (nI n, nI h, K, YP, YN, YF, sk) s)) : wpY_choose post (cc_ys (nI n, nI h, K, YP, YN, YF, sk) s) := by
  unfold wpY_choose cc_ys
  dsimp only
  refine cc_freeAt (i := 0) (cn := nI n) (n := n) (K := K) (YP := YP) (YN := YN) (YF := YF) (sk := sk) (s := s) (st := st) (fr := fr) hn hh (by omega) hst hF ?_
  refine cc_freeAt (i := 1) (cn := nI n) (n := n) (K := K) (YP := YP) (YN := YN) (YF := YF) (sk := sk) (s := s) (st := st) (fr := fr) hn hh (by omega) hst hF ?_
  refine cc_freeAt (i := 2) (cn := nI n) (n := n) (K := K) (YP := YP) (YN := YN) (YF := YF) (sk := sk) (s := s) (st := st) (fr := fr) hn hh (by omega) hst hF (nm_e ?_)
  subst h24
  exact cc_ymake_f (hg := nI h) (K := K) (YP := YP) (YN := YN) (YF := YF) (sk := sk) (s := s) hp
theorem cc_ycho_t (hn : n < 24) (hh : h < 3) (hst : ∀ j, j < h → sk j = nI (st j) ∧ st j < n) (hF : ∀ x, x < n → YF x = cc_mk (fr x)) (hp : post (-3) (cc_ys (nI n, nI h, K, YP, YN, YF, sk) s)) : wpY_choose post (cc_ys (nI n, nI h, K, YP, YN, YF, sk) s) := by
  unfold wpY_choose cc_ys
  dsimp only
  refine cc_freeAt (i := 0) (cn := nI n) (n := n) (K := K) (YP := YP) (YN := YN) (YF := YF) (sk := sk) (s := s) (st := st) (fr := fr) (by omega) (by omega) (by omega) hst hF ?_
  refine cc_freeAt (i := 1) (cn := nI n) (n := n) (K := K) (YP := YP) (YN := YN) (YF := YF) (sk := sk) (s := s) (st := st) (fr := fr) (by omega) (by omega) (by omega) hst hF ?_
  refine cc_freeAt (i := 2) (cn := nI n) (n := n) (K := K) (YP := YP) (YN := YN) (YF := YF) (sk := sk) (s := s) (st := st) (fr := fr) (by omega) (by omega) (by omega) hst hF (nm_e ?_)
  exact cc_ymake_t (n := n) (h := h) (T := 3) (K := K) (YP := YP) (YN := YN) (YF := YF) (sk := sk) (s := s) hn hh (by omega) hp
theorem cc_ycho (hn : n < 24) (hh : h0 + 3 ≤ 6) (hst : ∀ j, j < h0 + 3 → sk j = nI (st j) ∧ st j < n) (hF : ∀ x, x < n → YF x = cc_mk (fr x)) (hp : post (nI (h0 + 1)) (cc_ys (nI (n + 1), nI (h0 + 1), upd K n 5, cc_yp YP sk n h0 3, upd YN n 0, upd YF n ((cc_fa fr st (h0 + 3) 0 ||| cc_fa fr st (h0 + 3) 1) ||| cc_fa fr st (h0 + 3) 2), upd sk h0 (nI n)) s)) : wpY_choose post (cc_ys (nI n, nI (h0 + 3), K, YP, YN, YF, sk) s) := by
  unfold wpY_choose cc_ys
  dsimp only
  refine cc_freeAt (i := 0) (cn := nI n) (n := n) (K := K) (YP := YP) (YN := YN) (YF := YF) (sk := sk) (s := s) (st := st) (fr := fr) (by omega) (by omega) (by omega) hst hF ?_
  refine cc_freeAt (i := 1) (cn := nI n) (n := n) (K := K) (YP := YP) (YN := YN) (YF := YF) (sk := sk) (s := s) (st := st) (fr := fr) (by omega) (by omega) (by omega) hst hF ?_
  refine cc_freeAt (i := 2) (cn := nI n) (n := n) (K := K) (YP := YP) (YN := YN) (YF := YF) (sk := sk) (s := s) (st := st) (fr := fr) (by omega) (by omega) (by omega) hst hF (nm_e ?_)
  exact cc_ymake (n := n) (h := h0) (T := 3) (K := K) (YP := YP) (YN := YN) (YF := YF) (sk := sk) (s := s) hn (by omega) (by omega) (by omega) hp
theorem cc_ybnd_b {v : Int32} (hv : v < 0 ∨ ¬ v < 4) (hp : post (-1) (cc_ys (nI n, nI h, K, YP, YN, YF, sk) s)) : wpY_bind post (cc_ys (nI n, nI h, K, YP, YN, YF, sk) s) v := by
  unfold wpY_bind cc_ys
  dsimp only
  exact cc_isn0 (q := (nI n, nI h, K, YP, YN, YF, sk)) (s := s) hv (br_t rfl hp)
theorem cc_ybnd_f {w : Nat} (hn : n ≤ 24) (hh : h ≤ 6) (hst : ∀ j, j < h → sk j = nI (st j) ∧ st j < n) (hF : ∀ x, x < n → YF x = cc_mk (fr x)) (hw : w < 4) (h24 : n = 24) (hp : post (-2) (cc_ys (nI n, nI h, K, YP, YN, YF, sk) s)) : wpY_bind post (cc_ys (nI n, nI h, K, YP, YN, YF, sk) s) (nI w) := by
  unfold wpY_bind cc_ys
  dsimp only
  refine cc_isn1 (q := (nI n, nI h, K, YP, YN, YF, sk)) (s := s) hw (br_f (show ¬ (1 : Int32) = 0 by decide) ?_)
  refine cc_freeAt (i := 1) (cn := nI n) (n := n) (K := K) (YP := YP) (YN := YN) (YF := YF) (sk := sk) (s := s) (st := st) (fr := fr) hn hh (by omega) hst hF ?_
  refine cc_freeAt (i := 0) (cn := nI n) (n := n) (K := K) (YP := YP) (YN := YN) (YF := YF) (sk := sk) (s := s) (st := st) (fr := fr) hn hh (by omega) hst hF (nm_e ?_)
  subst h24
  exact cc_ymake_f (hg := nI h) (K := K) (YP := YP) (YN := YN) (YF := YF) (sk := sk) (s := s) hp
theorem cc_ybnd_t {w : Nat} (hn : n < 24) (hh : h < 2) (hst : ∀ j, j < h → sk j = nI (st j) ∧ st j < n) (hF : ∀ x, x < n → YF x = cc_mk (fr x)) (hw : w < 4) (hp : post (-3) (cc_ys (nI n, nI h, K, YP, YN, YF, sk) s)) : wpY_bind post (cc_ys (nI n, nI h, K, YP, YN, YF, sk) s) (nI w) := by
  unfold wpY_bind cc_ys
  dsimp only
  refine cc_isn1 (q := (nI n, nI h, K, YP, YN, YF, sk)) (s := s) hw (br_f (show ¬ (1 : Int32) = 0 by decide) ?_)
  refine cc_freeAt (i := 1) (cn := nI n) (n := n) (K := K) (YP := YP) (YN := YN) (YF := YF) (sk := sk) (s := s) (st := st) (fr := fr) (by omega) (by omega) (by omega) hst hF ?_
  refine cc_freeAt (i := 0) (cn := nI n) (n := n) (K := K) (YP := YP) (YN := YN) (YF := YF) (sk := sk) (s := s) (st := st) (fr := fr) (by omega) (by omega) (by omega) hst hF (nm_e ?_)
  exact cc_ymake_t (n := n) (h := h) (T := 2) (K := K) (YP := YP) (YN := YN) (YF := YF) (sk := sk) (s := s) hn hh (by omega) hp
theorem cc_ybnd {w : Nat} (hn : n < 24) (hh : h0 + 2 ≤ 6) (hst : ∀ j, j < h0 + 2 → sk j = nI (st j) ∧ st j < n) (hF : ∀ x, x < n → YF x = cc_mk (fr x)) (hw : w < 4) (hp : post (nI (h0 + 1)) (cc_ys (nI (n + 1), nI (h0 + 1), upd K n 6, cc_yp YP sk n h0 2, upd YN n (nI w), upd YF n (cc_fa fr st (h0 + 2) 1 ||| (cc_fa fr st (h0 + 2) 0 &&& (((1 : Int32) <<< (nI w &&& 31)) ^^^ (-1)))), upd sk h0 (nI n)) s)) : wpY_bind post (cc_ys (nI n, nI (h0 + 2), K, YP, YN, YF, sk) s) (nI w) := by
  unfold wpY_bind cc_ys
  dsimp only
  refine cc_isn1 (q := (nI n, nI (h0 + 2), K, YP, YN, YF, sk)) (s := s) hw (br_f (show ¬ (1 : Int32) = 0 by decide) ?_)
  refine cc_freeAt (i := 1) (cn := nI n) (n := n) (K := K) (YP := YP) (YN := YN) (YF := YF) (sk := sk) (s := s) (st := st) (fr := fr) (by omega) (by omega) (by omega) hst hF ?_
  refine cc_freeAt (i := 0) (cn := nI n) (n := n) (K := K) (YP := YP) (YN := YN) (YF := YF) (sk := sk) (s := s) (st := st) (fr := fr) (by omega) (by omega) (by omega) hst hF (nm_e ?_)
  exact cc_ymake (n := n) (h := h0) (T := 2) (K := K) (YP := YP) (YN := YN) (YF := YF) (sk := sk) (s := s) hn (by omega) (by omega) (by omega) hp
theorem cc_yfun_b {v v2 : Int32} (hv : v < 0 ∨ ¬ v < 4) (hp : post (-1) (cc_ys (nI n, nI h, K, YP, YN, YF, sk) s)) : wpY_function post (cc_ys (nI n, nI h, K, YP, YN, YF, sk) s) v v2 := by
  unfold wpY_function cc_ys
  dsimp only
  exact cc_isn0 (q := (nI n, nI h, K, YP, YN, YF, sk)) (s := s) hv (br_t rfl hp)
theorem cc_yfun_b2 {w : Nat} {v2 : Int32} (hw : w < 4) (hv : v2 < 0 ∨ ¬ v2 < 4) (hp : post (-1) (cc_ys (nI n, nI h, K, YP, YN, YF, sk) s)) : wpY_function post (cc_ys (nI n, nI h, K, YP, YN, YF, sk) s) (nI w) v2 := by
  unfold wpY_function cc_ys
  dsimp only
  refine cc_isn1 (q := (nI n, nI h, K, YP, YN, YF, sk)) (s := s) hw (br_f (show ¬ (1 : Int32) = 0 by decide) ?_)
  exact cc_isn0 (q := (nI n, nI h, K, YP, YN, YF, sk)) (s := s) hv (br_t rfl hp)
theorem cc_yfun_f {w w2 : Nat} (hn : n ≤ 24) (hh : h ≤ 6) (hst : ∀ j, j < h → sk j = nI (st j) ∧ st j < n) (hF : ∀ x, x < n → YF x = cc_mk (fr x)) (hw : w < 4) (hw2 : w2 < 4) (h24 : n = 24) (hp : post (-2) (cc_ys (nI n, nI h, K, YP, YN, YF, sk) s)) : wpY_function post (cc_ys (nI n, nI h, K, YP, YN, YF, sk) s) (nI w) (nI w2) := by
  unfold wpY_function cc_ys
  dsimp only
  refine cc_isn1 (q := (nI n, nI h, K, YP, YN, YF, sk)) (s := s) hw (br_f (show ¬ (1 : Int32) = 0 by decide) ?_)
  refine cc_isn1 (q := (nI n, nI h, K, YP, YN, YF, sk)) (s := s) hw2 (br_f (show ¬ (1 : Int32) = 0 by decide) ?_)
  refine cc_freeAt (i := 0) (cn := nI n) (n := n) (K := K) (YP := YP) (YN := YN) (YF := YF) (sk := sk) (s := s) (st := st) (fr := fr) hn hh (by omega) hst hF (nm_e ?_)
  subst h24
  exact cc_ymake_f (hg := nI h) (K := K) (YP := YP) (YN := YN) (YF := YF) (sk := sk) (s := s) hp
theorem cc_yfun_t {w w2 : Nat} (hn : n < 24) (hh : h = 0) (hst : ∀ j, j < h → sk j = nI (st j) ∧ st j < n) (hF : ∀ x, x < n → YF x = cc_mk (fr x)) (hw : w < 4) (hw2 : w2 < 4) (hp : post (-3) (cc_ys (nI n, nI h, K, YP, YN, YF, sk) s)) : wpY_function post (cc_ys (nI n, nI h, K, YP, YN, YF, sk) s) (nI w) (nI w2) := by
  unfold wpY_function cc_ys
  dsimp only
  refine cc_isn1 (q := (nI n, nI h, K, YP, YN, YF, sk)) (s := s) hw (br_f (show ¬ (1 : Int32) = 0 by decide) ?_)
  refine cc_isn1 (q := (nI n, nI h, K, YP, YN, YF, sk)) (s := s) hw2 (br_f (show ¬ (1 : Int32) = 0 by decide) ?_)
  refine cc_freeAt (i := 0) (cn := nI n) (n := n) (K := K) (YP := YP) (YN := YN) (YF := YF) (sk := sk) (s := s) (st := st) (fr := fr) (by omega) (by omega) (by omega) hst hF (nm_e ?_)
  exact cc_ymake_t (n := n) (h := h) (T := 1) (K := K) (YP := YP) (YN := YN) (YF := YF) (sk := sk) (s := s) hn (by omega) (by omega) hp
theorem cc_yfun {w w2 : Nat} (hn : n < 24) (hh : h0 + 1 ≤ 6) (hst : ∀ j, j < h0 + 1 → sk j = nI (st j) ∧ st j < n) (hF : ∀ x, x < n → YF x = cc_mk (fr x)) (hw : w < 4) (hw2 : w2 < 4) (hp : post (nI (h0 + 1)) (cc_ys (nI (n + 1), nI (h0 + 1), upd K n 7, cc_yp YP sk n h0 1, upd YN n (nI (4 * w + w2)), upd YF n ((cc_fa fr st (h0 + 1) 0 &&& (((1 : Int32) <<< (nI w &&& 31)) ^^^ (-1))) &&& (((1 : Int32) <<< (nI w2 &&& 31)) ^^^ (-1))), upd sk h0 (nI n)) s)) : wpY_function post (cc_ys (nI n, nI (h0 + 1), K, YP, YN, YF, sk) s) (nI w) (nI w2) := by
  have e4 : 4 * nI w + nI w2 = nI (4 * w + w2) := by rw [show (4 : Int32) = nI 4 from rfl, pk_mul, nI_add]
  unfold wpY_function cc_ys
  dsimp only
  rw [e4]
  refine cc_isn1 (q := (nI n, nI (h0 + 1), K, YP, YN, YF, sk)) (s := s) hw (br_f (show ¬ (1 : Int32) = 0 by decide) ?_)
  refine cc_isn1 (q := (nI n, nI (h0 + 1), K, YP, YN, YF, sk)) (s := s) hw2 (br_f (show ¬ (1 : Int32) = 0 by decide) ?_)
  refine cc_freeAt (i := 0) (cn := nI n) (n := n) (K := K) (YP := YP) (YN := YN) (YF := YF) (sk := sk) (s := s) (st := st) (fr := fr) (by omega) (by omega) (by omega) hst hF (nm_e ?_)
  exact cc_ymake (n := n) (h := h0) (T := 1) (K := K) (YP := YP) (YN := YN) (YF := YF) (sk := sk) (s := s) hn (by omega) (by omega) (by omega) hp
end
end
section
/-! the relation of the two states, and how it is opened -/
/-- the relation at the head of a turn: the same programs on both sides, all else free -/
def i_Rel (k : Nat) (u : SX) (v : SY) : Prop := ∃ (n h : Nat) (A B C z st : Nat → Nat) (fr : Nat → Nat → Bool) (K PA PB PC N W P sk YP YN YF : Nat → Int32) (c : cc_TC) (t : cc_TT) (f : cc_TF) (r : cc_TR) (s : cc_TS), u = cc_xs (nI n, nI h, K, PA, PB, PC, N, W, P, sk) c t f r ∧ v = cc_ys (nI n, nI h, K, YP, YN, YF, sk) s ∧ cc_I2 n h K PA PB PC N W P sk YP YN YF A B C z st fr
theorem cc_el {k : Nat} {u : SX} {v : SY} {Q : SX → SY → Prop} (hQ : ∀ (n h : Nat) (A B C z st : Nat → Nat) (fr : Nat → Nat → Bool) (K PA PB PC N W P sk YP YN YF : Nat → Int32) (c : cc_TC) (t : cc_TT) (f : cc_TF) (r : cc_TR) (s : cc_TS), cc_I2 n h K PA PB PC N W P sk YP YN YF A B C z st fr → Q (cc_xs (nI n, nI h, K, PA, PB, PC, N, W, P, sk) c t f r) (cc_ys (nI n, nI h, K, YP, YN, YF, sk) s)) (I : i_Rel k u v) : Q u v := by
  obtain ⟨n, h, A, B, C, z, st, fr, K, PA, PB, PC, N, W, P, sk, YP, YN, YF, c, t, f, r, s, hu, hv, hI⟩ := I
  rw [hu, hv]
  exact hQ n h A B C z st fr K PA PB PC N W P sk YP YN YF c t f r s hI
section
variable {n h : Nat} {A B C z st : Nat → Nat} {fr : Nat → Nat → Bool} {K PA PB PC N W P sk YP YN YF : Nat → Int32} {c : cc_TC} {t : cc_TT} {f : cc_TF} {r : cc_TR} {s : cc_TS} {k : Nat}
theorem cc_rel (hI : cc_I2 n h K PA PB PC N W P sk YP YN YF A B C z st fr) : i_Rel k (cc_xs (nI n, nI h, K, PA, PB, PC, N, W, P, sk) c t f r) (cc_ys (nI n, nI h, K, YP, YN, YF, sk) s) :=
  ⟨n, h, A, B, C, z, st, fr, K, PA, PB, PC, N, W, P, sk, YP, YN, YF, c, t, f, r, s, rfl, rfl, hI⟩
theorem cc_I00 : cc_I2 0 0 K PA PB PC N W P sk YP YN YF A B C z st fr :=
  ⟨⟨by omega, by omega, by rw [cc_sm]; exact Nat.le_refl _⟩, fun x hx => absurd hx (Nat.not_lt_zero x), fun j hj => absurd hj (Nat.not_lt_zero j), fun i j _ hj => absurd hj (Nat.not_lt_zero j)⟩
theorem cc_UfUp (h : ∀ x, x < n → cc_N1 n K PA PB PC N W P YP YN YF A B C z fr x) : ∀ x, x < n → cc_Up n W x := by
  intro x hx
  rcases (h x hx).1 with q | ⟨w, q1, q2, q3, _⟩
  · exact Or.inl q
  · exact Or.inr ⟨w, q1, q2, q3⟩
theorem cc_fa0 (h0 : Nat) : cc_fa fr st (h0 + 1) 0 = cc_mk (fr (st h0)) := by
  unfold cc_fa
  rw [if_pos (by omega)]
  rfl
theorem cc_fa1 (h0 : Nat) : cc_fa fr st (h0 + 2) 1 = cc_mk (fr (st h0)) := by
  unfold cc_fa
  rw [if_pos (by omega)]
  rfl
theorem cc_fa2 (h0 : Nat) : cc_fa fr st (h0 + 3) 2 = cc_mk (fr (st h0)) := by
  unfold cc_fa
  rw [if_pos (by omega)]
  rfl
/-- both sides' runs of the top, with one outcome -/
theorem cc_both (hI : cc_I2 n (h + 1) K PA PB PC N W P sk YP YN YF A B C z st fr) :
    ∃ (e m k d : Int32) (c' : cc_TC) (t' : cc_TT) (f' : cc_TF) (vv yy : Int32) (q' : cc_TA) (li wa he : Int32) (o : cc_TY), ((e = 0 → vv = nI 1 ∧ q'.2.1 0 = d ∧ o.2.2.2.2.1 0 = d) ∧ e ≠ -4) ∧
      (∀ post : SX → Prop, post (cc_xs (nI n, nI (h + 1), K, PA, PB, PC, N, W, P, sk) c' t' f' (vv, yy, m, k, e, q')) → wpX_execute post (cc_xs (nI n, nI (h + 1), K, PA, PB, PC, N, W, P, sk) c t f r)) ∧
      (∀ post : SY → Prop, post (cc_ys (nI n, nI (h + 1), K, YP, YN, YF, sk) (li, m, wa, he, k, e, o)) → wpY_work post (cc_ys (nI n, nI (h + 1), K, YP, YN, YF, sk) s)) := by
  have hI' := hI
  obtain ⟨⟨n24, h6, hsm⟩, hx, hst, hin⟩ := hI'
  obtain ⟨s1, s2, s3⟩ := hst h (by omega)
  have hU := cc_UfUp hx
  have hz : z (st h) ≤ 24 := by
    have := cc_sm_1 (f := fun j => z (st j)) (j := h) (h + 1) (by omega)
    have h2 : z (st h) ≤ cc_sm (fun j => z (st j)) (h + 1) := this
    omega
  have hP : ∀ x, x < n → cc_Nd K N W P A B C z fr x := fun x q => (hx x q).2.1
  obtain ⟨c', t', f', vv, yy, q', fx, ex⟩ := cc_exec (cn := nI n) (PA := PA) (PB := PB) (PC := PC) (sk := sk) (c := c) (t := t) (f := f) (r0 := r) n24 hU hP (fun x q => (hx x q).2.2.1) s2 hz s3 (by omega) s1
  obtain ⟨li, wa, he, o, fy, ey⟩ := cc_work (YF := YF) (sk := sk) (cn := nI n) (s0 := s) ⟨n24, hP, fun x q => (hx x q).2.2.2.1⟩ s2 hz (by omega) s1
  have h9 : (cc_ev K N A B C 2000 (st h) cc_e_0 cc_s_0).1 ≠ 9 := cc_ev_fuel n24 hP 2000 (st h) cc_e_0 cc_s_0 (by show 25 * (60 - 0) + st h < 2000; omega) s2 hz cc_eo0 cc_so0 (by show 2 * 0 + z (st h) + 24 * (60 - 0) < _; omega)
  have Q := cc_ev_ok hP 2000 (st h) cc_e_0 cc_s_0 s2 hz cc_eo0 cc_so0 (by show 2 * 0 + z (st h) + 24 * (60 - 0) < _; omega)
  obtain ⟨E1, E2⟩ := cc_end_r Q h9
  refine ⟨_, _, _, (cc_ev K N A B C 2000 (st h) cc_e_0 cc_s_0).2.1.2, c', t', f', vv, yy, q', li, wa, he, o, ⟨fun q => ⟨(fx (E2 q)).1, (fx (E2 q)).2, fy (E2 q)⟩, ?_⟩, ex, ey⟩
  rcases E1 with w | w | w | w <;> rw [w] <;> decide
end
end
section
/-! what is owed -/
theorem i_up {k : Nat} {u : SX} {v : SY} (h : i_Rel k u v) : i_Rel (k + 3) u v := h
theorem i_vc0 : wpX_init (fun u => wpY_init (fun v => i_Rel 0 u v)) :=
  cc_rel (k := 0) (n := 0) (h := 0) (A := fun _ => 0) (B := fun _ => 0) (C := fun _ => 0) (z := fun _ => 0) (st := fun _ => 0) (fr := fun _ _ => false) (K := fun _ => 0) (PA := fun _ => 0) (PB := fun _ => 0) (PC := fun _ => 0) (N := fun _ => 0) (W := fun _ => 0) (P := fun _ => 0) (sk := fun _ => 0) (YP := fun _ => 0) (YN := fun _ => 0) (YF := fun _ => 0) (c := (0, 0, (fun _ => 0), (fun _ => 0), (fun _ => 0), (fun _ => 0), (fun _ => 0), (fun _ => 0))) (t := (0, (fun _ => 0), (fun _ => 0), (fun _ => 0))) (f := (0, 0, 0)) (r := (0, 0, 0, 0, 0, (fun _ => 0), (fun _ => 0), (fun _ => 0), (fun _ => 0), (fun _ => 0), (fun _ => 0), (fun _ => 0), (fun _ => 0), (fun _ => 0), (fun _ => 0), (fun _ => 0))) (s := (0, 0, 0, 0, 0, 0, (fun _ => 0), (fun _ => 0), (fun _ => 0), (fun _ => 0), (fun _ => 0), (fun _ => 0))) cc_I00
theorem i_vc_number {k : Nat} {u : SX} {v : SY} (I : i_Rel k u v) (hk : k + 3 ≤ 1536) (v1 : Int32) : wpX_number (fun r u' => wpY_number (fun r' v' => r' = r ∧ i_Rel (k + 3) u' v') v v1) u v1 := by
  refine cc_el (Q := fun u v => wpX_number (fun r u' => wpY_number (fun r' v' => r' = r ∧ i_Rel (k + 3) u' v') v v1) u v1) ?_ I
  intro n h A B C z st fr K PA PB PC N W P sk YP YN YF c t f r s hI
  have hI' := hI
  obtain ⟨⟨n24, h6, hsm⟩, hx, hst, hin⟩ := hI'
  by_cases h1 : v1 < (-9)
  · exact cc_xnum_b (Or.inl h1) (cc_ynum_b (Or.inl h1) ⟨rfl, cc_rel hI⟩)
  · by_cases h2 : v1 ≤ 9
    · by_cases hf : n = 24 ∨ h = 6
      · exact cc_xnum_f h1 h2 hf (cc_ynum_f h1 h2 hf ⟨rfl, cc_rel hI⟩)
      · have hn : n < 24 := by omega
        have hh : h < 6 := by omega
        exact cc_xnum h1 h2 hn hh (cc_ynum h1 h2 hn hh ⟨rfl, cc_rel (cc_nw8 hI hn hh)⟩)
    · exact cc_xnum_b (Or.inr h2) (cc_ynum_b (Or.inr h2) ⟨rfl, cc_rel hI⟩)
theorem i_vc_name {k : Nat} {u : SX} {v : SY} (I : i_Rel k u v) (hk : k + 3 ≤ 1536) (v1 : Int32) : wpX_name (fun r u' => wpY_name (fun r' v' => r' = r ∧ i_Rel (k + 3) u' v') v v1) u v1 := by
  refine cc_el (Q := fun u v => wpX_name (fun r u' => wpY_name (fun r' v' => r' = r ∧ i_Rel (k + 3) u' v') v v1) u v1) ?_ I
  intro n h A B C z st fr K PA PB PC N W P sk YP YN YF c t f r s hI
  have hI' := hI
  obtain ⟨⟨n24, h6, hsm⟩, hx, hst, hin⟩ := hI'
  rcases cc_nmv v1 with hb | ⟨w, hw, rfl⟩
  · exact cc_xnam_b hb (cc_ynam_b hb ⟨rfl, cc_rel hI⟩)
  · by_cases hf : n = 24 ∨ h = 6
    · exact cc_xnam_f hw hf (cc_ynam_f hw hf ⟨rfl, cc_rel hI⟩)
    · have hn : n < 24 := by omega
      have hh : h < 6 := by omega
      exact cc_xnam hw hn hh (cc_ynam hw hn hh ⟨rfl, cc_rel (cc_nw9 hw hI hn hh)⟩)
theorem i_vc_two {k : Nat} {u : SX} {v : SY} (I : i_Rel k u v) (hk : k + 3 ≤ 1536) (v1 : Int32) : wpX_two (fun r u' => wpY_two (fun r' v' => r' = r ∧ i_Rel (k + 3) u' v') v v1) u v1 := by
  refine cc_el (Q := fun u v => wpX_two (fun r u' => wpY_two (fun r' v' => r' = r ∧ i_Rel (k + 3) u' v') v v1) u v1) ?_ I
  intro n h A B C z st fr K PA PB PC N W P sk YP YN YF c t f r s hI
  have hI' := hI
  obtain ⟨⟨n24, h6, hsm⟩, hx, hst, hin⟩ := hI'
  have hs : ∀ j, j < h → sk j = nI (st j) ∧ st j < n := fun j hj => ⟨(hst j hj).1, (hst j hj).2.1⟩
  have hF : ∀ x, x < n → YF x = cc_mk (fr x) := fun x q => (hx x q).2.2.2.2
  by_cases hb : v1 < 0 ∨ ¬ v1 ≤ 4
  · exact cc_xtwo_b hb (cc_ytwo_b n24 h6 hs hF hb ⟨rfl, cc_rel hI⟩)
  · have hb1 : ¬ v1 < 0 := fun q => hb (Or.inl q)
    have hb2 : v1 ≤ 4 := Decidable.of_not_not (fun q => hb (Or.inr q))
    obtain ⟨o, ho, rfl⟩ := nI_of2 (n := 4) (show (4 : Int32).toInt = 4 by decide) hb1 hb2
    have ho : o < 5 := by omega
    by_cases hn : n = 24
    · exact cc_xtwo_f ho hn (cc_ytwo_f n24 h6 hs hF ho hn ⟨rfl, cc_rel hI⟩)
    · have hn : n < 24 := by omega
      by_cases hh : h < 2
      · exact cc_xtwo_t ho hn hh (cc_ytwo_t hn hh hs hF ho ⟨rfl, cc_rel hI⟩)
      · obtain ⟨h0, rfl⟩ : ∃ h0, h = h0 + 2 := ⟨h - 2, by omega⟩
        obtain ⟨a1, a2, _⟩ := hst h0 (by omega)
        obtain ⟨b1, b2, _⟩ := hst (h0 + 1) (by omega)
        refine cc_xtwo ho hn h6 (by omega) (by omega) a1 b1 (cc_ytwo hn h6 hs hF ho ⟨rfl, cc_rel (cc_nw2 (fn := fun v => fr (st h0) v || fr (st (h0 + 1)) v) hI hn (fun y hy => ⟨rfl, pk_un (by omega)⟩) ?_ (Or.inl ⟨ho, fun _ => rfl⟩))⟩)
        rw [cc_fa1, show cc_fa fr st (h0 + 2) 0 = _ from cc_fa0 (h0 + 1), ← cc_mk_or]
        exact cc_mk_e (fun v => Bool.or_comm _ _)
theorem i_vc_choose {k : Nat} {u : SX} {v : SY} (I : i_Rel k u v) (hk : k + 3 ≤ 1536) : wpX_choose (fun r u' => wpY_choose (fun r' v' => r' = r ∧ i_Rel (k + 3) u' v') v) u := by
  refine cc_el (Q := fun u v => wpX_choose (fun r u' => wpY_choose (fun r' v' => r' = r ∧ i_Rel (k + 3) u' v') v) u) ?_ I
  intro n h A B C z st fr K PA PB PC N W P sk YP YN YF c t f r s hI
  have hI' := hI
  obtain ⟨⟨n24, h6, hsm⟩, hx, hst, hin⟩ := hI'
  have hs : ∀ j, j < h → sk j = nI (st j) ∧ st j < n := fun j hj => ⟨(hst j hj).1, (hst j hj).2.1⟩
  have hF : ∀ x, x < n → YF x = cc_mk (fr x) := fun x q => (hx x q).2.2.2.2
  by_cases hn : n = 24
  · exact cc_xcho_f hn (cc_ycho_f n24 h6 hs hF hn ⟨rfl, cc_rel hI⟩)
  · have hn : n < 24 := by omega
    by_cases hh : h < 3
    · exact cc_xcho_t hn hh (cc_ycho_t hn hh hs hF ⟨rfl, cc_rel hI⟩)
    · obtain ⟨h0, rfl⟩ : ∃ h0, h = h0 + 3 := ⟨h - 3, by omega⟩
      obtain ⟨a1, a2, _⟩ := hst h0 (by omega)
      obtain ⟨b1, b2, _⟩ := hst (h0 + 1) (by omega)
      obtain ⟨d1, d2, _⟩ := hst (h0 + 2) (by omega)
      refine cc_xcho hn h6 (by omega) (by omega) (by omega) a1 b1 d1 (cc_ycho hn h6 hs hF ⟨rfl, cc_rel (cc_nw5 (fn := fun v => fr (st h0) v || fr (st (h0 + 1)) v || fr (st (h0 + 2)) v) hI hn (fun y hy => pk_un (by omega)) ?_ (fun _ => rfl))⟩)
      rw [cc_fa2, show cc_fa fr st (h0 + 3) 1 = _ from cc_fa1 (h0 + 1), show cc_fa fr st (h0 + 3) 0 = _ from cc_fa0 (h0 + 2), ← cc_mk_or, ← cc_mk_or]
      refine cc_mk_e (fun v => ?_)
      cases fr (st h0) v <;> cases fr (st (h0 + 1)) v <;> cases fr (st (h0 + 2)) v <;> rfl
theorem i_vc_bind {k : Nat} {u : SX} {v : SY} (I : i_Rel k u v) (hk : k + 3 ≤ 1536) (v1 : Int32) : wpX_bind (fun r u' => wpY_bind (fun r' v' => r' = r ∧ i_Rel (k + 3) u' v') v v1) u v1 := by
  refine cc_el (Q := fun u v => wpX_bind (fun r u' => wpY_bind (fun r' v' => r' = r ∧ i_Rel (k + 3) u' v') v v1) u v1) ?_ I
  intro n h A B C z st fr K PA PB PC N W P sk YP YN YF c t f r s hI
  have hI' := hI
  obtain ⟨⟨n24, h6, hsm⟩, hx, hst, hin⟩ := hI'
  have hs : ∀ j, j < h → sk j = nI (st j) ∧ st j < n := fun j hj => ⟨(hst j hj).1, (hst j hj).2.1⟩
  have hF : ∀ x, x < n → YF x = cc_mk (fr x) := fun x q => (hx x q).2.2.2.2
  rcases cc_nmv v1 with hb | ⟨w, hw, rfl⟩
  · exact cc_xbnd_b hb (cc_ybnd_b hb ⟨rfl, cc_rel hI⟩)
  · by_cases hn : n = 24
    · exact cc_xbnd_f hw hn (cc_ybnd_f n24 h6 hs hF hw hn ⟨rfl, cc_rel hI⟩)
    · have hn : n < 24 := by omega
      by_cases hh : h < 2
      · exact cc_xbnd_t hw hn hh (cc_ybnd_t hn hh hs hF hw ⟨rfl, cc_rel hI⟩)
      · obtain ⟨h0, rfl⟩ : ∃ h0, h = h0 + 2 := ⟨h - 2, by omega⟩
        obtain ⟨a1, a2, _⟩ := hst h0 (by omega)
        obtain ⟨b1, b2, _⟩ := hst (h0 + 1) (by omega)
        refine cc_xbnd hw hn h6 (by omega) (by omega) a1 b1 (cc_ybnd hn h6 hs hF hw ⟨rfl, cc_rel (cc_nw2 (k := 6) (fn := fun v => fr (st h0) v || (fr (st (h0 + 1)) v && !decide (v = w))) hI hn (fun y hy => ⟨pk_un (by omega), pk_un (by omega)⟩) ?_ (Or.inr ⟨rfl, pk_us.trans pk_us.symm, w, hw, pk_us, fun _ => rfl⟩))⟩)
        rw [cc_fa1, show cc_fa fr st (h0 + 2) 0 = _ from cc_fa0 (h0 + 1), ← cc_mk_n _ hw, ← cc_mk_or]
theorem i_vc_function {k : Nat} {u : SX} {v : SY} (I : i_Rel k u v) (hk : k + 3 ≤ 1536) (v1 : Int32) (v2 : Int32) : wpX_function (fun r u' => wpY_function (fun r' v' => r' = r ∧ i_Rel (k + 3) u' v') v v1 v2) u v1 v2 := by
  refine cc_el (Q := fun u v => wpX_function (fun r u' => wpY_function (fun r' v' => r' = r ∧ i_Rel (k + 3) u' v') v v1 v2) u v1 v2) ?_ I
  intro n h A B C z st fr K PA PB PC N W P sk YP YN YF c t f r s hI
  have hI' := hI
  obtain ⟨⟨n24, h6, hsm⟩, hx, hst, hin⟩ := hI'
  have hs : ∀ j, j < h → sk j = nI (st j) ∧ st j < n := fun j hj => ⟨(hst j hj).1, (hst j hj).2.1⟩
  have hF : ∀ x, x < n → YF x = cc_mk (fr x) := fun x q => (hx x q).2.2.2.2
  rcases cc_nmv v1 with hb | ⟨w, hw, rfl⟩
  · exact cc_xfun_b hb (cc_yfun_b hb ⟨rfl, cc_rel hI⟩)
  · rcases cc_nmv v2 with hb | ⟨w2, hw2, rfl⟩
    · exact cc_xfun_b2 hw hb (cc_yfun_b2 hw hb ⟨rfl, cc_rel hI⟩)
    · by_cases hn : n = 24
      · exact cc_xfun_f hw hw2 hn (cc_yfun_f n24 h6 hs hF hw hw2 hn ⟨rfl, cc_rel hI⟩)
      · have hn : n < 24 := by omega
        by_cases hh : h = 0
        · exact cc_xfun_t hw hw2 hn hh (cc_yfun_t hn hh hs hF hw hw2 ⟨rfl, cc_rel hI⟩)
        · obtain ⟨h0, rfl⟩ : ∃ h0, h = h0 + 1 := ⟨h - 1, by omega⟩
          obtain ⟨a1, a2, _⟩ := hst h0 (by omega)
          have nw := cc_nw7 hw hw2 hI hn
          rw [← cc_fa0] at nw
          exact cc_xfun hw hw2 hn h6 (by omega) a1 (cc_yfun hn h6 hs hF hw hw2 ⟨rfl, cc_rel nw⟩)
theorem i_vc_discard {k : Nat} {u : SX} {v : SY} (I : i_Rel k u v) (hk : k + 3 ≤ 1536) : wpX_discard (fun u' => wpY_discard (fun v' => i_Rel (k + 3) u' v') v) u := by
  refine cc_el (Q := fun u v => wpX_discard (fun u' => wpY_discard (fun v' => i_Rel (k + 3) u' v') v) u) ?_ I
  intro n h A B C z st fr K PA PB PC N W P sk YP YN YF c t f r s hI
  exact cc_rel (k := k + 3) (n := 0) (h := 0) (A := A) (B := B) (C := C) (z := z) (st := st) (fr := fr) (K := K) (PA := PA) (PB := PB) (PC := PC) (N := N) (W := W) (P := P) (sk := sk) (YP := YP) (YN := YN) (YF := YF) (c := c) (t := t) (f := f) (r := r) (s := s) cc_I00
theorem i_vc_depth {k : Nat} {u : SX} {v : SY} (I : i_Rel k u v) (hk : k + 3 ≤ 1536) : wpX_depth (fun r => wpY_depth (fun r' => r' = r ∧ i_Rel (k + 3) u v) v) u := by
  refine cc_el (Q := fun u v => wpX_depth (fun r => wpY_depth (fun r' => r' = r ∧ i_Rel (k + 3) u v) v) u) ?_ I
  intro n h A B C z st fr K PA PB PC N W P sk YP YN YF c t f r s hI
  exact And.intro rfl (cc_rel (c := c) (t := t) (f := f) (r := r) (s := s) hI)
theorem i_vc_made {k : Nat} {u : SX} {v : SY} (I : i_Rel k u v) (hk : k + 3 ≤ 1536) : wpX_made (fun r => wpY_made (fun r' => r' = r ∧ i_Rel (k + 3) u v) v) u := by
  refine cc_el (Q := fun u v => wpX_made (fun r => wpY_made (fun r' => r' = r ∧ i_Rel (k + 3) u v) v) u) ?_ I
  intro n h A B C z st fr K PA PB PC N W P sk YP YN YF c t f r s hI
  exact And.intro rfl (cc_rel (c := c) (t := t) (f := f) (r := r) (s := s) hI)
end
section
/-! what is owed: the questions -/
theorem i_vc_run {k : Nat} {u : SX} {v : SY} (I : i_Rel k u v) (hk : k + 3 ≤ 1536) : wpX_run (fun r u' => wpY_run (fun r' v' => r' = r ∧ i_Rel (k + 3) u' v') v) u := by
  refine cc_el (Q := fun u v => wpX_run (fun r u' => wpY_run (fun r' v' => r' = r ∧ i_Rel (k + 3) u' v') v) u) ?_ I
  intro n h A B C z st fr K PA PB PC N W P sk YP YN YF c t f r s hI
  rcases (show h = 0 ∨ ∃ h', h = h' + 1 from by cases h with | zero => exact Or.inl rfl | succ j => exact Or.inr ⟨j, rfl⟩) with rfl | ⟨h, rfl⟩
  · obtain ⟨i1, i2, i3, i4, i5, i6, o⟩ := s
    refine br_t (show nI 0 = 0 from rfl) ?_
    unfold wpY_run cc_ys
    dsimp only
    exact cc_work0 (cn := nI n) (K := K) (YP := YP) (YN := YN) (YF := YF) (sk := sk) (i1 := i1) (i2 := i2) (i3 := i3) (i4 := i4) (i5 := i5) (i6 := i6) (o := o) (And.intro rfl (cc_rel (k := k + 3) (c := c) (t := t) (f := f) (r := r) (s := (0, 0, 0, 0, 0, -4, o)) hI))
  · obtain ⟨e, m, kk, d, c', t', f', vv, yy, q', li, wa, he, o, ⟨hd, he4⟩, hX, hY⟩ := cc_both (c := c) (t := t) (f := f) (r := r) (s := s) hI
    refine br_f (nI_ne0 (n := h + 1) (by omega) (by have := hI.1.2.1; omega)) ?_
    refine hX _ ?_
    show wpY_run _ _
    unfold wpY_run cc_ys
    dsimp only
    refine hY _ ?_
    refine And.intro rfl ?_
    exact cc_rel (k := k + 3) (c := c') (t := t') (f := f') (r := (vv, yy, m, kk, e, q')) (s := (li, m, wa, he, kk, e, o)) hI
theorem i_vc_calls {k : Nat} {u : SX} {v : SY} (I : i_Rel k u v) (hk : k + 3 ≤ 1536) : wpX_calls (fun r u' => wpY_calls (fun r' v' => r' = r ∧ i_Rel (k + 3) u' v') v) u := by
  refine cc_el (Q := fun u v => wpX_calls (fun r u' => wpY_calls (fun r' v' => r' = r ∧ i_Rel (k + 3) u' v') v) u) ?_ I
  intro n h A B C z st fr K PA PB PC N W P sk YP YN YF c t f r s hI
  rcases (show h = 0 ∨ ∃ h', h = h' + 1 from by cases h with | zero => exact Or.inl rfl | succ j => exact Or.inr ⟨j, rfl⟩) with rfl | ⟨h, rfl⟩
  · obtain ⟨i1, i2, i3, i4, i5, i6, o⟩ := s
    refine br_t (show nI 0 = 0 from rfl) ?_
    unfold wpY_calls cc_ys
    dsimp only
    exact cc_work0 (cn := nI n) (K := K) (YP := YP) (YN := YN) (YF := YF) (sk := sk) (i1 := i1) (i2 := i2) (i3 := i3) (i4 := i4) (i5 := i5) (i6 := i6) (o := o) (And.intro rfl (cc_rel (k := k + 3) (c := c) (t := t) (f := f) (r := r) (s := (0, 0, 0, 0, 0, -4, o)) hI))
  · obtain ⟨e, m, kk, d, c', t', f', vv, yy, q', li, wa, he, o, ⟨hd, he4⟩, hX, hY⟩ := cc_both (c := c) (t := t) (f := f) (r := r) (s := s) hI
    refine br_f (nI_ne0 (n := h + 1) (by omega) (by have := hI.1.2.1; omega)) ?_
    refine hX _ ?_
    show wpY_calls _ _
    unfold wpY_calls cc_ys
    dsimp only
    refine hY _ ?_
    refine And.intro rfl ?_
    exact cc_rel (k := k + 3) (c := c') (t := t') (f := f') (r := (vv, yy, m, kk, e, q')) (s := (li, m, wa, he, kk, e, o)) hI
theorem i_vc_closures {k : Nat} {u : SX} {v : SY} (I : i_Rel k u v) (hk : k + 3 ≤ 1536) : wpX_closures (fun r u' => wpY_closures (fun r' v' => r' = r ∧ i_Rel (k + 3) u' v') v) u := by
  refine cc_el (Q := fun u v => wpX_closures (fun r u' => wpY_closures (fun r' v' => r' = r ∧ i_Rel (k + 3) u' v') v) u) ?_ I
  intro n h A B C z st fr K PA PB PC N W P sk YP YN YF c t f r s hI
  rcases (show h = 0 ∨ ∃ h', h = h' + 1 from by cases h with | zero => exact Or.inl rfl | succ j => exact Or.inr ⟨j, rfl⟩) with rfl | ⟨h, rfl⟩
  · obtain ⟨i1, i2, i3, i4, i5, i6, o⟩ := s
    refine br_t (show nI 0 = 0 from rfl) ?_
    unfold wpY_closures cc_ys
    dsimp only
    exact cc_work0 (cn := nI n) (K := K) (YP := YP) (YN := YN) (YF := YF) (sk := sk) (i1 := i1) (i2 := i2) (i3 := i3) (i4 := i4) (i5 := i5) (i6 := i6) (o := o) (And.intro rfl (cc_rel (k := k + 3) (c := c) (t := t) (f := f) (r := r) (s := (0, 0, 0, 0, 0, -4, o)) hI))
  · obtain ⟨e, m, kk, d, c', t', f', vv, yy, q', li, wa, he, o, ⟨hd, he4⟩, hX, hY⟩ := cc_both (c := c) (t := t) (f := f) (r := r) (s := s) hI
    refine br_f (nI_ne0 (n := h + 1) (by omega) (by have := hI.1.2.1; omega)) ?_
    refine hX _ ?_
    show wpY_closures _ _
    unfold wpY_closures cc_ys
    dsimp only
    refine hY _ ?_
    refine And.intro rfl ?_
    exact cc_rel (k := k + 3) (c := c') (t := t') (f := f') (r := (vv, yy, m, kk, e, q')) (s := (li, m, wa, he, kk, e, o)) hI
theorem i_vc_value {k : Nat} {u : SX} {v : SY} (I : i_Rel k u v) (hk : k + 3 ≤ 1536) : wpX_value (fun r u' => wpY_value (fun r' v' => r' = r ∧ i_Rel (k + 3) u' v') v) u := by
  refine cc_el (Q := fun u v => wpX_value (fun r u' => wpY_value (fun r' v' => r' = r ∧ i_Rel (k + 3) u' v') v) u) ?_ I
  intro n h A B C z st fr K PA PB PC N W P sk YP YN YF c t f r s hI
  rcases (show h = 0 ∨ ∃ h', h = h' + 1 from by cases h with | zero => exact Or.inl rfl | succ j => exact Or.inr ⟨j, rfl⟩) with rfl | ⟨h, rfl⟩
  · obtain ⟨i1, i2, i3, i4, i5, i6, o⟩ := s
    refine br_t (show nI 0 = 0 from rfl) ?_
    unfold wpY_value cc_ys
    dsimp only
    exact cc_work0 (cn := nI n) (K := K) (YP := YP) (YN := YN) (YF := YF) (sk := sk) (i1 := i1) (i2 := i2) (i3 := i3) (i4 := i4) (i5 := i5) (i6 := i6) (o := o) (br_f (show ¬ (-4 : Int32) = 0 by decide) (And.intro rfl (cc_rel (k := k + 3) (c := c) (t := t) (f := f) (r := r) (s := (0, 0, 0, 0, 0, -4, o)) hI)))
  · obtain ⟨e, m, kk, d, c', t', f', vv, yy, q', li, wa, he, o, ⟨hd, he4⟩, hX, hY⟩ := cc_both (c := c) (t := t) (f := f) (r := r) (s := s) hI
    refine br_f (nI_ne0 (n := h + 1) (by omega) (by have := hI.1.2.1; omega)) ?_
    refine hX _ ?_
    by_cases e0 : e = 0
    · obtain ⟨g1, g2, g3⟩ := hd e0
      have ev : vv - 1 = nI 0 := by rw [g1]; rfl
      have iv : vp_in (vv - 1) 1600 := by rw [ev]; exact vp_in_nI (by omega) (by omega)
      have ed : q'.2.1 (vv - 1).toNatClampNeg = d := by rw [ev, nI_clamp (by omega)]; exact g2
      refine br_t e0 (And.intro iv ?_)
      show wpY_value _ _
      unfold wpY_value cc_ys
      dsimp only
      refine hY _ (br_t e0 ?_)
      refine And.intro (g3.trans ed.symm) ?_
      exact cc_rel (k := k + 3) (c := c') (t := t') (f := f') (r := (vv, yy, m, kk, e, q')) (s := (li, m, wa, he, kk, e, o)) hI
    · refine br_f e0 ?_
      show wpY_value _ _
      unfold wpY_value cc_ys
      dsimp only
      refine hY _ (br_f e0 ?_)
      refine And.intro rfl ?_
      exact cc_rel (k := k + 3) (c := c') (t := t') (f := f') (r := (vv, yy, m, kk, e, q')) (s := (li, m, wa, he, kk, e, o)) hI
theorem i_vc_free {k : Nat} {u : SX} {v : SY} (I : i_Rel k u v) (hk : k + 3 ≤ 1536) : wpX_free (fun r u' => wpY_free (fun r' => r' = r ∧ i_Rel (k + 3) u' v) v) u := by
  refine cc_el (Q := fun u v => wpX_free (fun r u' => wpY_free (fun r' => r' = r ∧ i_Rel (k + 3) u' v) v) u) ?_ I
  intro n h A B C z st fr K PA PB PC N W P sk YP YN YF c t f r s hI
  rcases (show h = 0 ∨ ∃ h', h = h' + 1 from by cases h with | zero => exact Or.inl rfl | succ j => exact Or.inr ⟨j, rfl⟩) with rfl | ⟨h, rfl⟩
  · exact br_t (show nI 0 = 0 from rfl) (br_t (show nI 0 = 0 from rfl) (And.intro rfl (cc_rel (k := k + 3) (c := c) (t := t) (f := f) (r := r) (s := s) hI)))
  · have hI' := hI
    obtain ⟨⟨n24, h6, hsm⟩, hx, hst, hin⟩ := hI'
    obtain ⟨s1, s2, s3⟩ := hst h (by omega)
    have hU := cc_UfUp hx
    have hP : ∀ x, x < n → cc_Nd K N W P A B C z fr x := fun x q => (hx x q).2.1
    have h9 : ∀ x, x < n → K x = 9 → ∃ w, w < 4 ∧ N x = nI w := by
      intro x q k9
      rcases hP x q with w | w | w | w | w | ⟨j, hj, w⟩
      · exact absurd (k9.symm.trans w.1) (by decide)
      · obtain ⟨_, _, w, hw, hN, _⟩ := w
        exact ⟨w, hw, hN⟩
      · exact absurd (k9.symm.trans w.1) (by decide)
      · exact absurd (k9.symm.trans w.1) (by decide)
      · exact absurd (k9.symm.trans w.1) (by decide)
      · exact absurd (w.1.symm.trans k9) (cc_k5 j hj).2.2.2.2
    obtain ⟨f', q⟩ := cc_f26 (P := P) (cn := nI n) (hg := nI (h + 1)) (PA := PA) (PB := PB) (PC := PC) (sk := sk) (c := c) (t := t) (r := r) n24 hU h9 s2 (st h + 1) 0 f (by omega)
    have e1 : nI (h + 1) - 1 = nI h := nI_pred h
    have i1 : vp_in (nI (h + 1) - 1) 6 := by rw [e1]; exact vp_in_nI (by omega) (by omega)
    have e2 : sk (nI (h + 1) - 1).toNatClampNeg = nI (st h) := by rw [e1, nI_clamp (by omega)]; exact s1
    have i2 : vp_in (sk (nI (h + 1) - 1).toNatClampNeg) 24 := by rw [e2]; exact vp_in_nI (by omega) (by omega)
    have e3 : YF (sk (nI (h + 1) - 1).toNatClampNeg).toNatClampNeg = cc_mk (fr (st h)) := by rw [e2, nI_clamp (by omega)]; exact (hx (st h) s2).2.2.2.2
    have em : cc_mk (cc_sf K N W P (st h) (st h + 1)) = cc_mk (fr (st h)) := cc_mk_4 (fun v hv => cc_sf_t n24 (fun x q => (hx x q).1) hU hP hv s2 s3)
    have e0 : cc_mk (cc_sf K N W P (st h) 0) = 0 := (cc_mk_e (fun v => rfl)).trans cc_mk_0
    rw [e0] at q
    have hne : ¬ nI (h + 1) = 0 := nI_ne0 (by omega) (by omega)
    refine br_f hne (And.intro i1 (nm_r (e' := nI (st h)) e2 ⟨st h + 1 + 1, q _ ?_⟩))
    refine br_f hne (And.intro i1 (And.intro i2 ?_))
    exact And.intro (e3.trans em.symm) (cc_rel (k := k + 3) (c := c) (t := t) (f := f') (r := r) (s := s) hI)
end
