section
theorem pk_us {f : Nat → Int32} {k : Nat} {x : Int32} : upd f k x k = x := if_pos rfl
theorem pk_un {f : Nat → Int32} {k j : Nat} {x : Int32} (h : j ≠ k) : upd f k x j = f j := if_neg h
theorem pk_uLs {f : Nat → Int64} {k : Nat} {x : Int64} : vp_updL f k x k = x := if_pos rfl
theorem pk_uLn {f : Nat → Int64} {k j : Nat} {x : Int64} (h : j ≠ k) : vp_updL f k x j = f j := if_neg h
theorem pk_sub {a b : Nat} (h : b ≤ a) : nI a - nI b = nI (a - b) := by
  obtain ⟨c, rfl⟩ : ∃ c, a = c + b := ⟨a - b, by omega⟩
  rw [← nI_add, Int32.add_sub_cancel, Nat.add_sub_cancel]
theorem pk_m1 (n : Nat) : nI (n + 1) + (-1) = nI n := by
  rw [← nI_1, Int32.add_assoc, show (1 : Int32) + (-1) = 0 from rfl, Int32.add_zero]
theorem pk_mul (a b : Nat) : nI a * nI b = nI (a * b) := (Int32.ofNat_mul a b).symm
theorem pk_div {a d : Nat} (ha : a < 2 ^ 31) (h0 : 0 < d) (hd : d < 2 ^ 31) : nI a / nI d = nI (a / d) := by
  apply Int32.toInt_inj.mp
  rw [lg_idiv_nonneg (by rw [nI_toInt ha]; omega) (by rw [nI_toInt hd]; omega), nI_toInt ha, nI_toInt hd, nI_toInt (Nat.lt_of_le_of_lt (Nat.div_le_self a d) ha)]
  first | rfl | exact (Int.natCast_ediv _ _).symm
theorem pk_rem {a d : Nat} (ha : a < 2 ^ 31) (h0 : 0 < d) (hd : d < 2 ^ 31) : nI a - nI a / nI d * nI d = nI (a % d) := by
  rw [pk_div ha h0 hd, pk_mul, pk_sub (Nat.div_mul_le_self a d)]
  exact congrArg nI (by have := Nat.div_add_mod' a d; omega)
theorem pk_sub_toInt {a b : Nat} (ha : a < 2 ^ 30) (hb : b < 2 ^ 30) : (nI a - nI b).toInt = (a : Int) - b := by
  rw [Int32.toInt_sub, nI_toInt (by omega), nI_toInt (by omega)]
  exact Int.bmod_eq_of_le (by omega) (by omega)
theorem pk_sneg {a b : Nat} (hb : b < 2 ^ 30) (h : a < b) : nI a - nI b < 0 := by
  rw [Int32.lt_iff_toInt_lt, pk_sub_toInt (by omega) hb, show (0 : Int32).toInt = 0 from by decide]
  omega
theorem pk_ix (x : Int32) {n : Nat} (hn : n < 2 ^ 31) : x < 0 ∨ nI n ≤ x ∨ ∃ j : Nat, j < n ∧ x = nI j := by
  by_cases h : x < 0
  · exact Or.inl h
  · obtain ⟨j, hj, rfl⟩ := nI_of h
    by_cases h2 : j < n
    · exact Or.inr (Or.inr ⟨j, h2, rfl⟩)
    · exact Or.inr (Or.inl (nI_le (by omega) hj))
theorem pk_le {x y : Int32} {A B : Prop} (a b : Nat) (f : a ≤ b → A) (g : b < a → B) (hx : x = nI a := by rfl) (hy : y = nI b := by rfl) (ha : a < 2 ^ 31 := by omega) (hb : b < 2 ^ 31 := by omega) : (x ≤ y → A) ∧ (¬ x ≤ y → B) := by
  subst hx hy
  rw [nI_leI ha hb]
  exact ⟨f, fun z => g (by omega)⟩
theorem pk_lt {x y : Int32} {A B : Prop} (a b : Nat) (f : a < b → A) (g : b ≤ a → B) (hx : x = nI a := by rfl) (hy : y = nI b := by rfl) (ha : a < 2 ^ 31 := by omega) (hb : b < 2 ^ 31 := by omega) : (x < y → A) ∧ (¬ x < y → B) := by
  subst hx hy
  rw [nI_ltI ha hb]
  exact ⟨f, fun z => g (by omega)⟩
theorem pk_eq {x y : Int32} {A B : Prop} (a b : Nat) (f : a = b → A) (g : a ≠ b → B) (hx : x = nI a := by rfl) (hy : y = nI b := by rfl) (ha : a < 2 ^ 31 := by omega) (hb : b < 2 ^ 31 := by omega) : (x = y → A) ∧ (¬ x = y → B) := by
  subst hx hy
  rw [nI_eq ha hb]
  exact ⟨f, g⟩
theorem pk_in {x : Int32} (n N : Nat) (h : n < N) (hx : x = nI n := by rfl) (hN : N < 2 ^ 31 := by omega) : vp_in x N := by
  subst hx
  exact vp_in_nI h hN
theorem pk_cl {x : Int32} (n : Nat) (hx : x = nI n := by rfl) (h : n < 2 ^ 31 := by omega) : x.toNatClampNeg = n := by
  subst hx
  exact nI_clamp h
theorem pk_tn {n : Nat} (h : n < 2 ^ 32) : (nI n).toBitVec.toNat = n := Nat.mod_eq_of_lt h
theorem wb_of32 (x : Int32) : ∃ n, n < 2 ^ 32 ∧ x = nI n := ⟨x.toBitVec.toNat, x.toBitVec.isLt, Int32.toBitVec_inj.mp (by show _ = BitVec.ofNat 32 _; simp)⟩
end
section
/-! numbers, arrays of naturals, counts, codes of finite trees -/
section
def sv_na (f : Nat → Nat) : Nat → Int32 := fun j => nI (f j)
def sv_un (f : Nat → Nat) (k x : Nat) : Nat → Nat := fun j => if j = k then x else f j
theorem sv_us {f : Nat → Nat} {k x : Nat} : sv_un f k x k = x := if_pos rfl
theorem sv_uo {f : Nat → Nat} {k x j : Nat} (h : j ≠ k) : sv_un f k x j = f j := if_neg h
theorem sv_naA {f : Nat → Nat} {k : Nat} (h : k < 2 ^ 31) : sv_na f (nI k).toNatClampNeg = nI (f k) := by
  rw [nI_clamp h]; rfl
theorem sv_naU {f : Nat → Nat} {k x : Nat} (h : k < 2 ^ 31) : upd (sv_na f) (nI k).toNatClampNeg (nI x) = sv_na (sv_un f k x) := by
  rw [nI_clamp h]; funext j
  show (if j = k then nI x else nI (f j)) = nI (if j = k then x else f j)
  by_cases e : j = k
  · rw [if_pos e, if_pos e]
  · rw [if_neg e, if_neg e]
theorem sv_naU0 {f : Nat → Nat} {k x : Nat} : upd (sv_na f) k (nI x) = sv_na (sv_un f k x) := by
  funext j
  show (if j = k then nI x else nI (f j)) = nI (if j = k then x else f j)
  by_cases e : j = k
  · rw [if_pos e, if_pos e]
  · rw [if_neg e, if_neg e]
theorem sv_naA0 {f : Nat → Nat} {k : Nat} : sv_na f k = nI (f k) := rfl
def sv_tn (x : Int32) : Nat := x.toBitVec.toNat
theorem sv_tnI (x : Int32) : nI (sv_tn x) = x := by
  obtain ⟨n, hn, e⟩ := wb_of32 x
  rw [e]
  have h : sv_tn (nI n) = n := pk_tn hn
  rw [h]
def sv_tna (a : Nat → Int32) : Nat → Nat := fun j => sv_tn (a j)
theorem sv_tnaI (a : Nat → Int32) : sv_na (sv_tna a) = a := by
  funext j; exact sv_tnI (a j)
/-- counting -/
def sv_cn (p : Nat → Bool) : Nat → Nat
  | 0 => 0
  | n + 1 => sv_cn p n + (if p n = true then 1 else 0)
theorem sv_cn_le (p : Nat → Bool) : ∀ n, sv_cn p n ≤ n
  | 0 => Nat.le_refl 0
  | n + 1 => by
    have h := sv_cn_le p n
    show sv_cn p n + (if p n = true then 1 else 0) ≤ n + 1
    split <;> omega
theorem sv_cn_lt {p : Nat → Bool} {k : Nat} (hp : p k = false) : ∀ {n : Nat}, k < n → sv_cn p n < n
  | 0, h => absurd h (Nat.not_lt_zero _)
  | n + 1, h => by
    show sv_cn p n + (if p n = true then 1 else 0) < n + 1
    by_cases e : k = n
    · subst e; rw [hp]; have := sv_cn_le p k; simp; omega
    · have := sv_cn_lt hp (n := n) (by omega)
      split <;> omega
theorem sv_cn_mono {p q : Nat → Bool} : ∀ {n : Nat}, (∀ i, i < n → p i = true → q i = true) → sv_cn p n ≤ sv_cn q n
  | 0, _ => Nat.le_refl 0
  | n + 1, h => by
    have := sv_cn_mono (p := p) (q := q) (n := n) (fun i hi => h i (by omega))
    show sv_cn p n + (if p n = true then 1 else 0) ≤ sv_cn q n + (if q n = true then 1 else 0)
    by_cases e : p n = true
    · rw [if_pos e, if_pos (h n (by omega) e)]; omega
    · rw [if_neg e]; omega
theorem sv_cn_strict {p q : Nat → Bool} {k : Nat} (hp : p k = false) (hq : q k = true) : ∀ {n : Nat}, k < n → (∀ i, i < n → p i = true → q i = true) → sv_cn p n < sv_cn q n
  | 0, h, _ => absurd h (Nat.not_lt_zero _)
  | n + 1, hk, h => by
    show sv_cn p n + (if p n = true then 1 else 0) < sv_cn q n + (if q n = true then 1 else 0)
    by_cases e : k = n
    · subst e
      have := sv_cn_mono (p := p) (q := q) (n := k) (fun i hi => h i (by omega))
      rw [hp, hq]; simp; omega
    · have := sv_cn_strict hp hq (n := n) (by omega) (fun i hi => h i (by omega))
      by_cases e2 : p n = true
      · rw [if_pos e2, if_pos (h n (by omega) e2)]; omega
      · rw [if_neg e2]; omega
theorem sv_cn_congr {p q : Nat → Bool} : ∀ {n : Nat}, (∀ i, i < n → p i = q i) → sv_cn p n = sv_cn q n
  | 0, _ => rfl
  | n + 1, h => by
    have := sv_cn_congr (p := p) (q := q) (n := n) (fun i hi => h i (by omega))
    show sv_cn p n + (if p n = true then 1 else 0) = sv_cn q n + (if q n = true then 1 else 0)
    rw [this, h n (by omega)]
theorem sv_cn_one {p q : Nat → Bool} {k : Nat} (hp : p k = false) (hq : q k = true) : ∀ {n : Nat}, k < n → (∀ i, i < n → i ≠ k → p i = q i) → sv_cn q n = sv_cn p n + 1
  | 0, h, _ => absurd h (Nat.not_lt_zero _)
  | n + 1, hk, h => by
    show sv_cn q n + (if q n = true then 1 else 0) = sv_cn p n + (if p n = true then 1 else 0) + 1
    by_cases e : k = n
    · subst e
      have := sv_cn_congr (p := p) (q := q) (n := k) (fun i hi => h i (by omega) (by omega))
      rw [hp, hq, this]; simp
    · have := sv_cn_one hp hq (n := n) (by omega) (fun i hi => h i (by omega))
      rw [this, h n (by omega) (fun z => e z.symm)]; omega
/-- codes of finite trees -/
def sv_pr (a b : Nat) : Nat := (a + b) * (a + b) + b
theorem sv_sq (x : Nat) : x ≤ x * x := by
  cases x with
  | zero => exact Nat.le_refl 0
  | succ n => exact Nat.le_mul_of_pos_left (n + 1) (Nat.succ_pos n)
theorem sv_pr_ge (a b : Nat) : a ≤ sv_pr a b ∧ b ≤ sv_pr a b := by
  have h := sv_sq (a + b)
  unfold sv_pr
  constructor <;> omega
theorem sv_pr_sum {a b c d : Nat} (h : sv_pr a b = sv_pr c d) : ¬ a + b < c + d := by
  intro hl
  have h1 : (a + b + 1) * (a + b + 1) ≤ (c + d) * (c + d) := Nat.mul_le_mul hl hl
  have h2 : (a + b + 1) * (a + b + 1) = (a + b) * (a + b) + 2 * (a + b) + 1 := by
    rw [Nat.add_mul, Nat.mul_add]; omega
  unfold sv_pr at h
  omega
theorem sv_pr_inj {a b c d : Nat} (h : sv_pr a b = sv_pr c d) : a = c ∧ b = d := by
  have h1 := sv_pr_sum h
  have h2 := sv_pr_sum h.symm
  have h3 : a + b = c + d := by omega
  unfold sv_pr at h
  rw [h3] at h
  omega
def sv_lf (k : Nat) : Nat := 2 * k
def sv_nd (k a b : Nat) : Nat := 2 * sv_pr k (sv_pr a b) + 1
theorem sv_lf_inj {a b : Nat} (h : sv_lf a = sv_lf b) : a = b := by unfold sv_lf at h; omega
theorem sv_nd_inj {k a b k' a' b' : Nat} (h : sv_nd k a b = sv_nd k' a' b') : k = k' ∧ a = a' ∧ b = b' := by
  unfold sv_nd at h
  have h1 := sv_pr_inj (a := k) (b := sv_pr a b) (c := k') (d := sv_pr a' b') (by omega)
  have h2 := sv_pr_inj h1.2
  exact ⟨h1.1, h2.1, h2.2⟩
theorem sv_lf_nd {j k a b : Nat} : sv_lf j ≠ sv_nd k a b := by unfold sv_lf sv_nd; omega
theorem sv_nd_lt (k a b : Nat) : a < sv_nd k a b ∧ b < sv_nd k a b := by
  have h1 := sv_pr_ge k (sv_pr a b)
  have h2 := sv_pr_ge a b
  unfold sv_nd
  omega
end
end
section
/-! graphs of types: kinds 1 int, 2 quotation, 4 empty row, 5 cons (A the rest, B the top), 100 and 200 variables -/
section
def sv_ns (k a b T : Nat) : Prop := (k = 1 → T = sv_lf 1) ∧ (k = 4 → T = sv_lf 4) ∧ (k = 2 → T = sv_nd 2 a b) ∧ (k = 5 → T = sv_nd 5 a b)
def sv_gv (n : Nat) (K A B P m : Nat → Nat) : Prop := ∀ i, i < n → m i = m (P i) ∧ sv_ns (K i) (m (A i)) (m (B i)) (m i)
def sv_ff (n : Nat) (P f : Nat → Nat) : Prop := ∀ i, i < n → f i = f (P i)
def sv_rb (k : Nat) : Bool := k == 4 || k == 5 || k == 200
def sv_kd (k : Nat) : Prop := k = 1 ∨ k = 2 ∨ k = 4 ∨ k = 5 ∨ k = 100 ∨ k = 200
/-- nodes are well made -/
def sv_kw (n : Nat) (K A B : Nat → Nat) : Prop := ∀ i, i < n → sv_kd (K i) ∧ A i < n ∧ B i < n ∧ (K i = 2 → sv_rb (K (A i)) = true ∧ sv_rb (K (B i)) = true) ∧ (K i = 5 → sv_rb (K (A i)) = true ∧ sv_rb (K (B i)) = false) ∧ (K i = 4 → K 0 = 4)
def sv_nr (P : Nat → Nat) : Nat → Bool := fun j => decide (P j ≠ j)
/-- a forest of parents, its roots and depths -/
def sv_uf (n : Nat) (P R D : Nat → Nat) : Prop := ∀ i, i < n → P i < n ∧ R i < n ∧ R (P i) = R i ∧ P (R i) = R i ∧ (P i = i → R i = i ∧ D i = 0) ∧ (P i ≠ i → D (P i) < D i) ∧ D i ≤ sv_cn (sv_nr P) n
theorem sv_uf_rr {n : Nat} {P R D : Nat → Nat} (h : sv_uf n P R D) {i : Nat} (hi : i < n) : R (R i) = R i := by
  obtain ⟨h1, h2, h3, h4, h5, h6, h7⟩ := h i hi
  obtain ⟨g1, g2, g3, g4, g5, g6, g7⟩ := h (R i) h2
  exact (g5 h4).1
theorem sv_uf_lt {n : Nat} {P R D : Nat → Nat} (h : sv_uf n P R D) {i : Nat} (hi : i < n) : D i < n := by
  obtain ⟨h1, h2, h3, h4, h5, h6, h7⟩ := h i hi
  have : sv_cn (sv_nr P) n < n := sv_cn_lt (k := R i) (by simp [sv_nr, h4]) h2
  omega
theorem sv_uf_cn {n : Nat} {P R D : Nat → Nat} (h : sv_uf n P R D) {i : Nat} (hi : i < n) : sv_cn (sv_nr P) n < n := by
  obtain ⟨h1, h2, h3, h4, h5, h6, h7⟩ := h i hi
  exact sv_cn_lt (k := R i) (by simp [sv_nr, h4]) h2
theorem sv_uf_0 {P R D : Nat → Nat} : sv_uf 0 P R D := fun i hi => absurd hi (Nat.not_lt_zero i)
theorem sv_uf_make {n : Nat} {P R D : Nat → Nat} (h : sv_uf n P R D) : sv_uf (n + 1) (sv_un P n n) (sv_un R n n) (sv_un D n 0) := by
  intro i hi
  by_cases e : i = n
  · subst e
    rw [sv_us, sv_us, sv_us, sv_us]
    exact ⟨hi, hi, rfl, rfl, fun _ => ⟨rfl, rfl⟩, fun z => absurd rfl z, Nat.zero_le _⟩
  · obtain ⟨h1, h2, h3, h4, h5, h6, h7⟩ := h i (by omega)
    have e1 : P i ≠ n := by omega
    have e2 : R i ≠ n := by omega
    rw [sv_uo e, sv_uo e, sv_uo e, sv_uo e1, sv_uo e2, sv_uo e1]
    refine ⟨by omega, by omega, h3, h4, h5, h6, Nat.le_trans h7 ?_⟩
    have h8 : sv_cn (sv_nr P) n = sv_cn (sv_nr (sv_un P n n)) n := sv_cn_congr (fun j hj => by
      have : j ≠ n := by omega
      simp only [sv_nr, sv_uo this])
    show sv_cn (sv_nr P) n ≤ sv_cn (sv_nr (sv_un P n n)) n + _
    omega
def sv_jR (R : Nat → Nat) (x y : Nat) : Nat → Nat := fun i => if R i = x then y else R i
def sv_jD (R D : Nat → Nat) (x : Nat) : Nat → Nat := fun i => if R i = x then D i + 1 else D i
theorem sv_cn_join {n : Nat} {P : Nat → Nat} {x y : Nat} (hx : x < n) (ex : P x = x) (hxy : x ≠ y) : sv_cn (sv_nr (sv_un P x y)) n = sv_cn (sv_nr P) n + 1 := by
  apply sv_cn_one (k := x) _ _ hx
  · intro i hi ne
    simp only [sv_nr, sv_uo ne]
  · simp only [sv_nr, ex]; simp
  · simp only [sv_nr, sv_us]; simp; exact fun z => hxy z.symm
theorem sv_uf_join {n : Nat} {P R D : Nat → Nat} (h : sv_uf n P R D) {x y : Nat} (hx : x < n) (hy : y < n) (ex : P x = x) (ey : P y = y) (hxy : x ≠ y) : sv_uf n (sv_un P x y) (sv_jR R x y) (sv_jD R D x) := by
  have rx : R x = x := ((h x hx).2.2.2.2.1 ex).1
  have ry : R y = y := ((h y hy).2.2.2.2.1 ey).1
  have hyx : y ≠ x := fun z => hxy z.symm
  have cj := sv_cn_join (n := n) (P := P) hx ex hxy
  intro i hi
  obtain ⟨h1, h2, h3, h4, h5, h6, h7⟩ := h i hi
  by_cases e : i = x
  · subst e
    have a1 : sv_jR R i y i = y := by show (if R i = i then y else R i) = y; rw [if_pos rx]
    have a2 : sv_jR R i y y = y := by show (if R y = i then y else R y) = y; rw [ry, if_neg hyx]
    have a3 : sv_jD R D i i = D i + 1 := by show (if R i = i then D i + 1 else D i) = _; rw [if_pos rx]
    have a4 : sv_jD R D i y = D y := by show (if R y = i then D y + 1 else D y) = _; rw [ry, if_neg hyx]
    rw [sv_us, a1, a2, a3, a4, cj]
    have d1 := ((h y hy).2.2.2.2.1 ey).2
    refine ⟨hy, hy, rfl, by rw [sv_uo hyx, ey], fun z => absurd z hyx, fun _ => by omega, by omega⟩
  · rw [sv_uo e]
    have a5 : sv_jR R x y (P i) = sv_jR R x y i := by
      show (if R (P i) = x then y else R (P i)) = (if R i = x then y else R i); rw [h3]
    by_cases q : R i = x
    · have a1 : sv_jR R x y i = y := by show (if R i = x then y else R i) = y; rw [if_pos q]
      have a3 : sv_jD R D x i = D i + 1 := by show (if R i = x then D i + 1 else D i) = _; rw [if_pos q]
      have a4 : sv_jD R D x (P i) = D (P i) + 1 := by show (if R (P i) = x then D (P i) + 1 else D (P i)) = _; rw [h3, if_pos q]
      rw [a5, a1, a3, a4, cj]
      refine ⟨h1, hy, rfl, by rw [sv_uo hyx, ey], fun z => ?_, fun z => ?_, by omega⟩
      · exact absurd ((h5 z).1.symm.trans q) e
      · have := h6 z; omega
    · have a1 : sv_jR R x y i = R i := by show (if R i = x then y else R i) = _; rw [if_neg q]
      have a3 : sv_jD R D x i = D i := by show (if R i = x then D i + 1 else D i) = _; rw [if_neg q]
      have a4 : sv_jD R D x (P i) = D (P i) := by show (if R (P i) = x then D (P i) + 1 else D (P i)) = _; rw [h3, if_neg q]
      rw [a5, a1, a3, a4, cj]
      exact ⟨h1, h2, rfl, by rw [sv_uo q, h4], h5, h6, by omega⟩
theorem sv_ff_R {n : Nat} {P R D f : Nat → Nat} (h : sv_uf n P R D) (hf : sv_ff n P f) : ∀ d i, D i < d → i < n → f i = f (R i) := by
  intro d
  induction d with
  | zero => intro i hd; omega
  | succ d ih =>
    intro i hd hi
    obtain ⟨h1, h2, h3, h4, h5, h6, h7⟩ := h i hi
    by_cases e : P i = i
    · rw [(h5 e).1]
    · rw [hf i hi, ← h3]
      exact ih (P i) (by have := h6 e; omega) h1
theorem sv_ff_r {n : Nat} {P R D f : Nat → Nat} (h : sv_uf n P R D) (hf : sv_ff n P f) {i : Nat} (hi : i < n) : f i = f (R i) := sv_ff_R h hf (D i + 1) i (Nat.lt_succ_self _) hi
theorem sv_ff_self {n : Nat} {P R D : Nat → Nat} (h : sv_uf n P R D) : sv_ff n P R := fun i hi => (h i hi).2.2.1.symm
theorem sv_gv_ff {n : Nat} {K A B P m : Nat → Nat} (h : sv_gv n K A B P m) : sv_ff n P m := fun i hi => (h i hi).1
theorem sv_gv_R {n : Nat} {K A B P R D m : Nat → Nat} (h : sv_uf n P R D) (g : sv_gv n K A B P m) : sv_gv n K A B R m := fun i hi => ⟨sv_ff_r h (sv_gv_ff g) hi, (g i hi).2⟩
theorem sv_gv_P {n : Nat} {K A B P R D m : Nat → Nat} (h : sv_uf n P R D) (g : sv_gv n K A B R m) : sv_gv n K A B P m := by
  intro i hi
  obtain ⟨h1, h2, h3, h4, h5, h6, h7⟩ := h i hi
  refine ⟨?_, (g i hi).2⟩
  rw [(g i hi).1, (g (P i) h1).1, h3]
theorem sv_ff_join {n : Nat} {P f : Nat → Nat} {x y : Nat} (hx : x < n) (ex : P x = x) (h : sv_ff n (sv_un P x y) f) : sv_ff n P f ∧ f x = f y := by
  constructor
  · intro i hi
    by_cases e : i = x
    · subst e; rw [ex]
    · have := h i hi; rw [sv_uo e] at this; exact this
  · have := h x hx; rw [sv_us] at this; exact this
theorem sv_ff_join' {n : Nat} {P f : Nat → Nat} {x y : Nat} (h : sv_ff n P f) (e : f x = f y) : sv_ff n (sv_un P x y) f := by
  intro i hi
  by_cases q : i = x
  · subst q; rw [sv_us]; exact e
  · rw [sv_uo q]; exact h i hi
theorem sv_gv_join {n : Nat} {K A B P m : Nat → Nat} {x y : Nat} (h : sv_gv n K A B P m) (e : m x = m y) : sv_gv n K A B (sv_un P x y) m :=
  fun i hi => ⟨sv_ff_join' (sv_gv_ff h) e i hi, (h i hi).2⟩
theorem sv_gv_of {n : Nat} {K A B P P' m : Nat → Nat} (h : sv_gv n K A B P m) (e : sv_ff n P' m) : sv_gv n K A B P' m :=
  fun i hi => ⟨e i hi, (h i hi).2⟩
/-- two nodes of one value: their kinds and parts agree -/
theorem sv_ns_eq {k a b k' a' b' T : Nat} (h : sv_ns k a b T) (h' : sv_ns k' a' b' T) (hk : sv_kd k) (hk' : sv_kd k') (v : k ≠ 100 ∧ k ≠ 200) (v' : k' ≠ 100 ∧ k' ≠ 200) : k = k' ∧ (k = 2 ∨ k = 5 → a = a' ∧ b = b') := by
  obtain ⟨h1, h2, h3, h4⟩ := h
  obtain ⟨g1, g2, g3, g4⟩ := h'
  have l14 : sv_lf 1 ≠ sv_lf 4 := by decide
  rcases hk with rfl | rfl | rfl | rfl | rfl | rfl
  · have e := h1 rfl
    rcases hk' with rfl | rfl | rfl | rfl | rfl | rfl
    · exact ⟨rfl, fun z => by omega⟩
    · exact absurd (e.symm.trans (g3 rfl)) sv_lf_nd
    · exact absurd (e.symm.trans (g2 rfl)) l14
    · exact absurd (e.symm.trans (g4 rfl)) sv_lf_nd
    · omega
    · omega
  · have e := h3 rfl
    rcases hk' with rfl | rfl | rfl | rfl | rfl | rfl
    · exact absurd ((g1 rfl).symm.trans e) sv_lf_nd
    · exact ⟨rfl, fun _ => (sv_nd_inj (e.symm.trans (g3 rfl))).2⟩
    · exact absurd ((g2 rfl).symm.trans e) sv_lf_nd
    · exact absurd (sv_nd_inj (e.symm.trans (g4 rfl))).1 (by decide)
    · omega
    · omega
  · have e := h2 rfl
    rcases hk' with rfl | rfl | rfl | rfl | rfl | rfl
    · exact absurd ((g1 rfl).symm.trans e) l14
    · exact absurd (e.symm.trans (g3 rfl)) sv_lf_nd
    · exact ⟨rfl, fun z => by omega⟩
    · exact absurd (e.symm.trans (g4 rfl)) sv_lf_nd
    · omega
    · omega
  · have e := h4 rfl
    rcases hk' with rfl | rfl | rfl | rfl | rfl | rfl
    · exact absurd ((g1 rfl).symm.trans e) sv_lf_nd
    · exact absurd (sv_nd_inj (e.symm.trans (g3 rfl))).1 (by decide)
    · exact absurd ((g2 rfl).symm.trans e) sv_lf_nd
    · exact ⟨rfl, fun _ => (sv_nd_inj (e.symm.trans (g4 rfl))).2⟩
    · omega
    · omega
  · omega
  · omega
/-- closed graphs: R shows each class best -/
def sv_cl (n : Nat) (K A B R : Nat → Nat) : Prop := ∀ i, i < n → K i ≠ 100 ∧ K i ≠ 200 → K (R i) = K i ∧ (K i = 2 ∨ K i = 5 → R (A i) = R (A (R i)) ∧ R (B i) = R (B (R i)))
/-- the code of the tree below a node, to depth d -/
def sv_tc (K A B R : Nat → Nat) : Nat → Nat → Nat
  | 0, _ => 0
  | d + 1, i => if K (R i) = 2 ∨ K (R i) = 5 then sv_nd (K (R i)) (sv_tc K A B R d (A (R i))) (sv_tc K A B R d (B (R i))) else if K (R i) = 1 ∨ K (R i) = 4 then sv_lf (K (R i)) else sv_lf (1000 + R i)
theorem sv_tc_s {K A B R : Nat → Nat} {d i : Nat} : sv_tc K A B R (d + 1) i = if K (R i) = 2 ∨ K (R i) = 5 then sv_nd (K (R i)) (sv_tc K A B R d (A (R i))) (sv_tc K A B R d (B (R i))) else if K (R i) = 1 ∨ K (R i) = 4 then sv_lf (K (R i)) else sv_lf (1000 + R i) := rfl
def sv_cv (n : Nat) (K A B R : Nat → Nat) (d : Nat) : Prop := ∀ i, i < n → ∀ e, d ≤ e → sv_tc K A B R e i = sv_tc K A B R d i
theorem sv_tc_R {K A B R : Nat → Nat} {i : Nat} (h : R (R i) = R i) : ∀ d, sv_tc K A B R d (R i) = sv_tc K A B R d i := by
  intro d
  cases d with
  | zero => rfl
  | succ d => simp only [sv_tc, h]
theorem sv_tc_ns {n : Nat} {K A B R : Nat → Nat} (hR : ∀ i, i < n → R i < n ∧ R (R i) = R i) (hw : sv_kw n K A B) (hc : sv_cl n K A B R) {d : Nat} (hv : sv_cv n K A B R d) : sv_gv n K A B R (sv_tc K A B R d) := by
  intro i hi
  obtain ⟨r1, r2⟩ := hR i hi
  refine ⟨(sv_tc_R r2 d).symm, ?_⟩
  have hs : sv_tc K A B R d i = sv_tc K A B R (d + 1) i := (hv i hi (d + 1) (by omega)).symm
  obtain ⟨w1, w2, w3, w4, w5, w6⟩ := hw i hi
  have hp : ∀ j, j < n → ∀ l, l < n → R j = R l → sv_tc K A B R d j = sv_tc K A B R d l := by
    intro j hj l hl e
    rw [← sv_tc_R (hR j hj).2 d, ← sv_tc_R (hR l hl).2 d, e]
  obtain ⟨x1, x2, x3, x4, x5, x6⟩ := hw (R i) r1
  rw [hs, sv_tc_s]
  refine ⟨fun k => ?_, fun k => ?_, fun k => ?_, fun k => ?_⟩
  · have c := (hc i hi (by omega)).1
    rw [c, k]; simp
  · have c := (hc i hi (by omega)).1
    rw [c, k]; simp
  · have c := hc i hi (by omega)
    have c1 := c.1
    have c2 := c.2 (by omega)
    rw [c1, k, if_pos (by omega), hp _ x2 _ w2 c2.1.symm, hp _ x3 _ w3 c2.2.symm]
  · have c := hc i hi (by omega)
    have c1 := c.1
    have c2 := c.2 (by omega)
    rw [c1, k, if_pos (by omega), hp _ x2 _ w2 c2.1.symm, hp _ x3 _ w3 c2.2.symm]
/-- one node converges when its parts do -/
def sv_c1 (K A B R : Nat → Nat) (i : Nat) : Prop := ∃ d, ∀ e, d ≤ e → sv_tc K A B R e i = sv_tc K A B R d i
theorem sv_c1_leaf {K A B R : Nat → Nat} {i : Nat} (h : ¬ (K (R i) = 2 ∨ K (R i) = 5)) : sv_c1 K A B R i := by
  refine ⟨1, fun e he => ?_⟩
  obtain ⟨e', rfl⟩ : ∃ e', e = e' + 1 := ⟨e - 1, by omega⟩
  rw [sv_tc_s, sv_tc_s, if_neg h, if_neg h]
theorem sv_c1_node {K A B R : Nat → Nat} {i : Nat} (ha : sv_c1 K A B R (A (R i))) (hb : sv_c1 K A B R (B (R i))) : sv_c1 K A B R i := by
  obtain ⟨d1, h1⟩ := ha
  obtain ⟨d2, h2⟩ := hb
  refine ⟨d1 + d2 + 1, fun e he => ?_⟩
  obtain ⟨e', rfl⟩ : ∃ e', e = e' + 1 := ⟨e - 1, by omega⟩
  rw [sv_tc_s, sv_tc_s, h1 e' (by omega), h2 e' (by omega), h1 (d1 + d2) (by omega), h2 (d1 + d2) (by omega)]
theorem sv_c1_R {K A B R : Nat → Nat} {i : Nat} (h : R (R i) = R i) (hc : sv_c1 K A B R (R i)) : sv_c1 K A B R i := by
  obtain ⟨d, hd⟩ := hc
  refine ⟨d, fun e he => ?_⟩
  rw [← sv_tc_R h e, ← sv_tc_R h d]
  exact hd e he
theorem sv_c1_R' {K A B R : Nat → Nat} {i : Nat} (h : R (R i) = R i) (hc : sv_c1 K A B R i) : sv_c1 K A B R (R i) := by
  obtain ⟨d, hd⟩ := hc
  refine ⟨d, fun e he => ?_⟩
  rw [sv_tc_R h e, sv_tc_R h d]
  exact hd e he
theorem sv_cv_of {K A B R : Nat → Nat} : ∀ n, (∀ i, i < n → sv_c1 K A B R i) → ∃ d, sv_cv n K A B R d := by
  intro n
  induction n with
  | zero => exact fun _ => ⟨0, fun i hi => absurd hi (Nat.not_lt_zero i)⟩
  | succ n ih =>
    intro h
    obtain ⟨d, hd⟩ := ih (fun i hi => h i (by omega))
    obtain ⟨d', hd'⟩ := h n (by omega)
    refine ⟨d + d', fun i hi e he => ?_⟩
    by_cases q : i = n
    · subst q
      rw [hd' e (by omega), hd' (d + d') (by omega)]
    · rw [hd i (by omega) e (by omega), hd i (by omega) (d + d') (by omega)]
/-- a valuation is a rank; a rank below n -/
def sv_rk (n : Nat) (m : Nat → Nat) (i : Nat) : Nat := sv_cn (fun j => decide (m j < m i)) n
theorem sv_rk_lt {n : Nat} {m : Nat → Nat} {i j : Nat} (hi : i < n) (h : m i < m j) : sv_rk n m i < sv_rk n m j := by
  apply sv_cn_strict (k := i) _ _ hi
  · intro l hl e
    have : m l < m i := of_decide_eq_true e
    exact decide_eq_true (by omega)
  · exact decide_eq_false (by omega)
  · exact decide_eq_true h
theorem sv_rk_n {n : Nat} {m : Nat → Nat} {i : Nat} (hi : i < n) : sv_rk n m i < n :=
  sv_cn_lt (k := i) (decide_eq_false (by omega)) hi
theorem sv_rk_eq {n : Nat} {m : Nat → Nat} {i j : Nat} (h : m i = m j) : sv_rk n m i = sv_rk n m j := by
  unfold sv_rk; rw [h]
theorem sv_gv_lt {n : Nat} {K A B R m : Nat → Nat} (g : sv_gv n K A B R m) {i : Nat} (hi : i < n) (h : K i = 2 ∨ K i = 5) : m (A i) < m i ∧ m (B i) < m i := by
  obtain ⟨g1, g2, g3, g4, g5⟩ := g i hi
  rcases h with h | h
  · rw [g4 h]; exact sv_nd_lt _ _ _
  · rw [g5 h]; exact sv_nd_lt _ _ _
end
end
section
/-! what a list of tokens asks of rows: steps on views (row, start, outer rows and starts) -/
section
def sv_SR (k r r' : Nat) : Prop :=
  if k = 1 then r' = sv_nd 5 r (sv_lf 1)
  else if k = 5 then ∃ q x, r = sv_nd 5 q x ∧ r' = sv_nd 5 (sv_nd 5 q x) x
  else if k = 6 then ∃ x, r = sv_nd 5 r' x
  else if k = 7 then ∃ q x y, r = sv_nd 5 (sv_nd 5 q y) x ∧ r' = sv_nd 5 (sv_nd 5 q x) y
  else if k = 11 then ∃ q, r = sv_nd 5 q (sv_nd 2 q r')
  else if k = 12 then ∃ q y z, r = sv_nd 5 (sv_nd 5 q y) (sv_nd 2 q z) ∧ r' = sv_nd 5 z y
  else if k = 13 then ∃ q, r = sv_nd 5 (sv_nd 5 (sv_nd 5 q (sv_lf 1)) (sv_nd 2 q r')) (sv_nd 2 q r')
  else ∃ q, r = sv_nd 5 (sv_nd 5 q (sv_lf 1)) (sv_lf 1) ∧ r' = sv_nd 5 q (sv_lf 1)
def sv_St (k : Nat) (v w : Nat × Nat × List (Nat × Nat)) : Prop :=
  if k = 3 then w.1 = w.2.1 ∧ w.2.2 = (v.1, v.2.1) :: v.2.2
  else if k = 4 then ∃ r0, v.2.2 = (r0, w.2.1) :: w.2.2 ∧ w.1 = sv_nd 5 r0 (sv_nd 2 v.2.1 v.1)
  else w.2.1 = v.2.1 ∧ w.2.2 = v.2.2 ∧ sv_SR k v.1 w.1
def sv_rn : List Nat → (Nat × Nat × List (Nat × Nat)) → (Nat × Nat × List (Nat × Nat)) → Prop
  | [], v, w => v = w
  | k :: l, v, w => ∃ m, sv_St k v m ∧ sv_rn l m w
theorem sv_rn_app : ∀ (l l' : List Nat) (v w : Nat × Nat × List (Nat × Nat)), sv_rn (l ++ l') v w ↔ ∃ m, sv_rn l v m ∧ sv_rn l' m w
  | [], l', v, w => ⟨fun h => ⟨v, rfl, h⟩, fun ⟨m, e, h⟩ => by cases e; exact h⟩
  | k :: l, l', v, w => by
    constructor
    · rintro ⟨m, h1, h2⟩
      obtain ⟨m', h3, h4⟩ := (sv_rn_app l l' m w).mp h2
      exact ⟨m', ⟨m, h1, h3⟩, h4⟩
    · rintro ⟨m', ⟨m, h1, h3⟩, h4⟩
      exact ⟨m, h1, (sv_rn_app l l' m w).mpr ⟨m', h3, h4⟩⟩
/-- the list has an effect from s to e; z: the start is the empty row -/
def sv_Sol (L : List Nat) (z : Prop) (s e : Nat) : Prop := (z → s = sv_lf 4) ∧ sv_rn L (s, s, []) (e, s, [])
def sv_stk (m oR oS : Nat → Nat) : Nat → List (Nat × Nat)
  | 0 => []
  | k + 1 => (m (oR k), m (oS k)) :: sv_stk m oR oS k
theorem sv_stk_congr {m m' oR oS oR' oS' : Nat → Nat} : ∀ k, (∀ j, j < k → m' (oR' j) = m (oR j) ∧ m' (oS' j) = m (oS j)) → sv_stk m' oR' oS' k = sv_stk m oR oS k
  | 0, _ => rfl
  | k + 1, h => by
    show (m' (oR' k), m' (oS' k)) :: sv_stk m' oR' oS' k = _
    rw [(h k (by omega)).1, (h k (by omega)).2, sv_stk_congr k (fun j hj => h j (by omega))]
    rfl
/-- brackets: the list may be walked from depth h -/
def sv_ok : Nat → List Nat → Prop
  | _, [] => True
  | h, k :: l => if k = 3 then sv_ok (h + 1) l else if k = 4 then 0 < h ∧ sv_ok (h - 1) l else sv_ok h l
/-- a principal closed graph of a list -/
def sv_PG (L : List Nat) (z : Prop) (n : Nat) (K A B R : Nat → Nat) (a b : Nat) : Prop :=
  (∀ i, i < n → R i < n ∧ R (R i) = R i ∧ sv_rb (K (R i)) = sv_rb (K i)) ∧ sv_kw n K A B ∧ sv_cl n K A B R ∧ (∃ d, sv_cv n K A B R d) ∧ a < n ∧ b < n ∧ sv_rb (K a) = true ∧ sv_rb (K b) = true ∧ (¬ z → K 0 ≠ 4) ∧
  (∀ m, sv_gv n K A B R m → sv_Sol L z (m a) (m b)) ∧ (∀ s e, sv_Sol L z s e → ∃ m, sv_gv n K A B R m ∧ m a = s ∧ m b = e)
end
end
section
/-! printed by gen/parts.py: accessors and setters of the two states -/
section
def xq_emptyRow (u : SX) : Int32 := match u with
  | (f_emptyRow, f_consRow, f_maxWords, f_maxCells, f_maxLevels, f_maxFuel, f_openTop, f_count, f_cellCount, f_nodes, f_sound, f_startRow, f_row, f_valueNames, f_rowNames, f_nested, f_runDepth, f_level, f_spent, a_tokKind, a_tokArg, a_match, a_length, a_weight, a_text, a_openStack, a_cellKind, a_cellValue, a_nodeKind, a_partA, a_partB, a_parent, a_mark, a_path, a_left, a_right, a_outerRow, a_outerStart, a_callPos, a_callEnd, a_runKind, a_runValue, a_framePos, a_frameEnd, a_savedKind, a_savedValue) => f_emptyRow
def xq_consRow (u : SX) : Int32 := match u with
  | (f_emptyRow, f_consRow, f_maxWords, f_maxCells, f_maxLevels, f_maxFuel, f_openTop, f_count, f_cellCount, f_nodes, f_sound, f_startRow, f_row, f_valueNames, f_rowNames, f_nested, f_runDepth, f_level, f_spent, a_tokKind, a_tokArg, a_match, a_length, a_weight, a_text, a_openStack, a_cellKind, a_cellValue, a_nodeKind, a_partA, a_partB, a_parent, a_mark, a_path, a_left, a_right, a_outerRow, a_outerStart, a_callPos, a_callEnd, a_runKind, a_runValue, a_framePos, a_frameEnd, a_savedKind, a_savedValue) => f_consRow
def xq_maxWords (u : SX) : Int32 := match u with
  | (f_emptyRow, f_consRow, f_maxWords, f_maxCells, f_maxLevels, f_maxFuel, f_openTop, f_count, f_cellCount, f_nodes, f_sound, f_startRow, f_row, f_valueNames, f_rowNames, f_nested, f_runDepth, f_level, f_spent, a_tokKind, a_tokArg, a_match, a_length, a_weight, a_text, a_openStack, a_cellKind, a_cellValue, a_nodeKind, a_partA, a_partB, a_parent, a_mark, a_path, a_left, a_right, a_outerRow, a_outerStart, a_callPos, a_callEnd, a_runKind, a_runValue, a_framePos, a_frameEnd, a_savedKind, a_savedValue) => f_maxWords
def xq_maxCells (u : SX) : Int32 := match u with
  | (f_emptyRow, f_consRow, f_maxWords, f_maxCells, f_maxLevels, f_maxFuel, f_openTop, f_count, f_cellCount, f_nodes, f_sound, f_startRow, f_row, f_valueNames, f_rowNames, f_nested, f_runDepth, f_level, f_spent, a_tokKind, a_tokArg, a_match, a_length, a_weight, a_text, a_openStack, a_cellKind, a_cellValue, a_nodeKind, a_partA, a_partB, a_parent, a_mark, a_path, a_left, a_right, a_outerRow, a_outerStart, a_callPos, a_callEnd, a_runKind, a_runValue, a_framePos, a_frameEnd, a_savedKind, a_savedValue) => f_maxCells
def xq_maxLevels (u : SX) : Int32 := match u with
  | (f_emptyRow, f_consRow, f_maxWords, f_maxCells, f_maxLevels, f_maxFuel, f_openTop, f_count, f_cellCount, f_nodes, f_sound, f_startRow, f_row, f_valueNames, f_rowNames, f_nested, f_runDepth, f_level, f_spent, a_tokKind, a_tokArg, a_match, a_length, a_weight, a_text, a_openStack, a_cellKind, a_cellValue, a_nodeKind, a_partA, a_partB, a_parent, a_mark, a_path, a_left, a_right, a_outerRow, a_outerStart, a_callPos, a_callEnd, a_runKind, a_runValue, a_framePos, a_frameEnd, a_savedKind, a_savedValue) => f_maxLevels
def xq_maxFuel (u : SX) : Int32 := match u with
  | (f_emptyRow, f_consRow, f_maxWords, f_maxCells, f_maxLevels, f_maxFuel, f_openTop, f_count, f_cellCount, f_nodes, f_sound, f_startRow, f_row, f_valueNames, f_rowNames, f_nested, f_runDepth, f_level, f_spent, a_tokKind, a_tokArg, a_match, a_length, a_weight, a_text, a_openStack, a_cellKind, a_cellValue, a_nodeKind, a_partA, a_partB, a_parent, a_mark, a_path, a_left, a_right, a_outerRow, a_outerStart, a_callPos, a_callEnd, a_runKind, a_runValue, a_framePos, a_frameEnd, a_savedKind, a_savedValue) => f_maxFuel
def xq_openTop (u : SX) : Int32 := match u with
  | (f_emptyRow, f_consRow, f_maxWords, f_maxCells, f_maxLevels, f_maxFuel, f_openTop, f_count, f_cellCount, f_nodes, f_sound, f_startRow, f_row, f_valueNames, f_rowNames, f_nested, f_runDepth, f_level, f_spent, a_tokKind, a_tokArg, a_match, a_length, a_weight, a_text, a_openStack, a_cellKind, a_cellValue, a_nodeKind, a_partA, a_partB, a_parent, a_mark, a_path, a_left, a_right, a_outerRow, a_outerStart, a_callPos, a_callEnd, a_runKind, a_runValue, a_framePos, a_frameEnd, a_savedKind, a_savedValue) => f_openTop
def xq_count (u : SX) : Int32 := match u with
  | (f_emptyRow, f_consRow, f_maxWords, f_maxCells, f_maxLevels, f_maxFuel, f_openTop, f_count, f_cellCount, f_nodes, f_sound, f_startRow, f_row, f_valueNames, f_rowNames, f_nested, f_runDepth, f_level, f_spent, a_tokKind, a_tokArg, a_match, a_length, a_weight, a_text, a_openStack, a_cellKind, a_cellValue, a_nodeKind, a_partA, a_partB, a_parent, a_mark, a_path, a_left, a_right, a_outerRow, a_outerStart, a_callPos, a_callEnd, a_runKind, a_runValue, a_framePos, a_frameEnd, a_savedKind, a_savedValue) => f_count
def xq_cellCount (u : SX) : Int32 := match u with
  | (f_emptyRow, f_consRow, f_maxWords, f_maxCells, f_maxLevels, f_maxFuel, f_openTop, f_count, f_cellCount, f_nodes, f_sound, f_startRow, f_row, f_valueNames, f_rowNames, f_nested, f_runDepth, f_level, f_spent, a_tokKind, a_tokArg, a_match, a_length, a_weight, a_text, a_openStack, a_cellKind, a_cellValue, a_nodeKind, a_partA, a_partB, a_parent, a_mark, a_path, a_left, a_right, a_outerRow, a_outerStart, a_callPos, a_callEnd, a_runKind, a_runValue, a_framePos, a_frameEnd, a_savedKind, a_savedValue) => f_cellCount
def xq_nodes (u : SX) : Int32 := match u with
  | (f_emptyRow, f_consRow, f_maxWords, f_maxCells, f_maxLevels, f_maxFuel, f_openTop, f_count, f_cellCount, f_nodes, f_sound, f_startRow, f_row, f_valueNames, f_rowNames, f_nested, f_runDepth, f_level, f_spent, a_tokKind, a_tokArg, a_match, a_length, a_weight, a_text, a_openStack, a_cellKind, a_cellValue, a_nodeKind, a_partA, a_partB, a_parent, a_mark, a_path, a_left, a_right, a_outerRow, a_outerStart, a_callPos, a_callEnd, a_runKind, a_runValue, a_framePos, a_frameEnd, a_savedKind, a_savedValue) => f_nodes
def xq_sound (u : SX) : Int32 := match u with
  | (f_emptyRow, f_consRow, f_maxWords, f_maxCells, f_maxLevels, f_maxFuel, f_openTop, f_count, f_cellCount, f_nodes, f_sound, f_startRow, f_row, f_valueNames, f_rowNames, f_nested, f_runDepth, f_level, f_spent, a_tokKind, a_tokArg, a_match, a_length, a_weight, a_text, a_openStack, a_cellKind, a_cellValue, a_nodeKind, a_partA, a_partB, a_parent, a_mark, a_path, a_left, a_right, a_outerRow, a_outerStart, a_callPos, a_callEnd, a_runKind, a_runValue, a_framePos, a_frameEnd, a_savedKind, a_savedValue) => f_sound
def xq_startRow (u : SX) : Int32 := match u with
  | (f_emptyRow, f_consRow, f_maxWords, f_maxCells, f_maxLevels, f_maxFuel, f_openTop, f_count, f_cellCount, f_nodes, f_sound, f_startRow, f_row, f_valueNames, f_rowNames, f_nested, f_runDepth, f_level, f_spent, a_tokKind, a_tokArg, a_match, a_length, a_weight, a_text, a_openStack, a_cellKind, a_cellValue, a_nodeKind, a_partA, a_partB, a_parent, a_mark, a_path, a_left, a_right, a_outerRow, a_outerStart, a_callPos, a_callEnd, a_runKind, a_runValue, a_framePos, a_frameEnd, a_savedKind, a_savedValue) => f_startRow
def xq_row (u : SX) : Int32 := match u with
  | (f_emptyRow, f_consRow, f_maxWords, f_maxCells, f_maxLevels, f_maxFuel, f_openTop, f_count, f_cellCount, f_nodes, f_sound, f_startRow, f_row, f_valueNames, f_rowNames, f_nested, f_runDepth, f_level, f_spent, a_tokKind, a_tokArg, a_match, a_length, a_weight, a_text, a_openStack, a_cellKind, a_cellValue, a_nodeKind, a_partA, a_partB, a_parent, a_mark, a_path, a_left, a_right, a_outerRow, a_outerStart, a_callPos, a_callEnd, a_runKind, a_runValue, a_framePos, a_frameEnd, a_savedKind, a_savedValue) => f_row
def xq_valueNames (u : SX) : Int32 := match u with
  | (f_emptyRow, f_consRow, f_maxWords, f_maxCells, f_maxLevels, f_maxFuel, f_openTop, f_count, f_cellCount, f_nodes, f_sound, f_startRow, f_row, f_valueNames, f_rowNames, f_nested, f_runDepth, f_level, f_spent, a_tokKind, a_tokArg, a_match, a_length, a_weight, a_text, a_openStack, a_cellKind, a_cellValue, a_nodeKind, a_partA, a_partB, a_parent, a_mark, a_path, a_left, a_right, a_outerRow, a_outerStart, a_callPos, a_callEnd, a_runKind, a_runValue, a_framePos, a_frameEnd, a_savedKind, a_savedValue) => f_valueNames
def xq_rowNames (u : SX) : Int32 := match u with
  | (f_emptyRow, f_consRow, f_maxWords, f_maxCells, f_maxLevels, f_maxFuel, f_openTop, f_count, f_cellCount, f_nodes, f_sound, f_startRow, f_row, f_valueNames, f_rowNames, f_nested, f_runDepth, f_level, f_spent, a_tokKind, a_tokArg, a_match, a_length, a_weight, a_text, a_openStack, a_cellKind, a_cellValue, a_nodeKind, a_partA, a_partB, a_parent, a_mark, a_path, a_left, a_right, a_outerRow, a_outerStart, a_callPos, a_callEnd, a_runKind, a_runValue, a_framePos, a_frameEnd, a_savedKind, a_savedValue) => f_rowNames
def xq_nested (u : SX) : Int32 := match u with
  | (f_emptyRow, f_consRow, f_maxWords, f_maxCells, f_maxLevels, f_maxFuel, f_openTop, f_count, f_cellCount, f_nodes, f_sound, f_startRow, f_row, f_valueNames, f_rowNames, f_nested, f_runDepth, f_level, f_spent, a_tokKind, a_tokArg, a_match, a_length, a_weight, a_text, a_openStack, a_cellKind, a_cellValue, a_nodeKind, a_partA, a_partB, a_parent, a_mark, a_path, a_left, a_right, a_outerRow, a_outerStart, a_callPos, a_callEnd, a_runKind, a_runValue, a_framePos, a_frameEnd, a_savedKind, a_savedValue) => f_nested
def xq_runDepth (u : SX) : Int32 := match u with
  | (f_emptyRow, f_consRow, f_maxWords, f_maxCells, f_maxLevels, f_maxFuel, f_openTop, f_count, f_cellCount, f_nodes, f_sound, f_startRow, f_row, f_valueNames, f_rowNames, f_nested, f_runDepth, f_level, f_spent, a_tokKind, a_tokArg, a_match, a_length, a_weight, a_text, a_openStack, a_cellKind, a_cellValue, a_nodeKind, a_partA, a_partB, a_parent, a_mark, a_path, a_left, a_right, a_outerRow, a_outerStart, a_callPos, a_callEnd, a_runKind, a_runValue, a_framePos, a_frameEnd, a_savedKind, a_savedValue) => f_runDepth
def xq_level (u : SX) : Int32 := match u with
  | (f_emptyRow, f_consRow, f_maxWords, f_maxCells, f_maxLevels, f_maxFuel, f_openTop, f_count, f_cellCount, f_nodes, f_sound, f_startRow, f_row, f_valueNames, f_rowNames, f_nested, f_runDepth, f_level, f_spent, a_tokKind, a_tokArg, a_match, a_length, a_weight, a_text, a_openStack, a_cellKind, a_cellValue, a_nodeKind, a_partA, a_partB, a_parent, a_mark, a_path, a_left, a_right, a_outerRow, a_outerStart, a_callPos, a_callEnd, a_runKind, a_runValue, a_framePos, a_frameEnd, a_savedKind, a_savedValue) => f_level
def xq_spent (u : SX) : Int32 := match u with
  | (f_emptyRow, f_consRow, f_maxWords, f_maxCells, f_maxLevels, f_maxFuel, f_openTop, f_count, f_cellCount, f_nodes, f_sound, f_startRow, f_row, f_valueNames, f_rowNames, f_nested, f_runDepth, f_level, f_spent, a_tokKind, a_tokArg, a_match, a_length, a_weight, a_text, a_openStack, a_cellKind, a_cellValue, a_nodeKind, a_partA, a_partB, a_parent, a_mark, a_path, a_left, a_right, a_outerRow, a_outerStart, a_callPos, a_callEnd, a_runKind, a_runValue, a_framePos, a_frameEnd, a_savedKind, a_savedValue) => f_spent
def xq_tokKind (u : SX) : (Nat → Int32) := match u with
  | (f_emptyRow, f_consRow, f_maxWords, f_maxCells, f_maxLevels, f_maxFuel, f_openTop, f_count, f_cellCount, f_nodes, f_sound, f_startRow, f_row, f_valueNames, f_rowNames, f_nested, f_runDepth, f_level, f_spent, a_tokKind, a_tokArg, a_match, a_length, a_weight, a_text, a_openStack, a_cellKind, a_cellValue, a_nodeKind, a_partA, a_partB, a_parent, a_mark, a_path, a_left, a_right, a_outerRow, a_outerStart, a_callPos, a_callEnd, a_runKind, a_runValue, a_framePos, a_frameEnd, a_savedKind, a_savedValue) => a_tokKind
def xq_tokArg (u : SX) : (Nat → Int32) := match u with
  | (f_emptyRow, f_consRow, f_maxWords, f_maxCells, f_maxLevels, f_maxFuel, f_openTop, f_count, f_cellCount, f_nodes, f_sound, f_startRow, f_row, f_valueNames, f_rowNames, f_nested, f_runDepth, f_level, f_spent, a_tokKind, a_tokArg, a_match, a_length, a_weight, a_text, a_openStack, a_cellKind, a_cellValue, a_nodeKind, a_partA, a_partB, a_parent, a_mark, a_path, a_left, a_right, a_outerRow, a_outerStart, a_callPos, a_callEnd, a_runKind, a_runValue, a_framePos, a_frameEnd, a_savedKind, a_savedValue) => a_tokArg
def xq_match (u : SX) : (Nat → Int32) := match u with
  | (f_emptyRow, f_consRow, f_maxWords, f_maxCells, f_maxLevels, f_maxFuel, f_openTop, f_count, f_cellCount, f_nodes, f_sound, f_startRow, f_row, f_valueNames, f_rowNames, f_nested, f_runDepth, f_level, f_spent, a_tokKind, a_tokArg, a_match, a_length, a_weight, a_text, a_openStack, a_cellKind, a_cellValue, a_nodeKind, a_partA, a_partB, a_parent, a_mark, a_path, a_left, a_right, a_outerRow, a_outerStart, a_callPos, a_callEnd, a_runKind, a_runValue, a_framePos, a_frameEnd, a_savedKind, a_savedValue) => a_match
def xq_length (u : SX) : (Nat → Int32) := match u with
  | (f_emptyRow, f_consRow, f_maxWords, f_maxCells, f_maxLevels, f_maxFuel, f_openTop, f_count, f_cellCount, f_nodes, f_sound, f_startRow, f_row, f_valueNames, f_rowNames, f_nested, f_runDepth, f_level, f_spent, a_tokKind, a_tokArg, a_match, a_length, a_weight, a_text, a_openStack, a_cellKind, a_cellValue, a_nodeKind, a_partA, a_partB, a_parent, a_mark, a_path, a_left, a_right, a_outerRow, a_outerStart, a_callPos, a_callEnd, a_runKind, a_runValue, a_framePos, a_frameEnd, a_savedKind, a_savedValue) => a_length
def xq_weight (u : SX) : (Nat → Int32) := match u with
  | (f_emptyRow, f_consRow, f_maxWords, f_maxCells, f_maxLevels, f_maxFuel, f_openTop, f_count, f_cellCount, f_nodes, f_sound, f_startRow, f_row, f_valueNames, f_rowNames, f_nested, f_runDepth, f_level, f_spent, a_tokKind, a_tokArg, a_match, a_length, a_weight, a_text, a_openStack, a_cellKind, a_cellValue, a_nodeKind, a_partA, a_partB, a_parent, a_mark, a_path, a_left, a_right, a_outerRow, a_outerStart, a_callPos, a_callEnd, a_runKind, a_runValue, a_framePos, a_frameEnd, a_savedKind, a_savedValue) => a_weight
def xq_text (u : SX) : (Nat → Int32) := match u with
  | (f_emptyRow, f_consRow, f_maxWords, f_maxCells, f_maxLevels, f_maxFuel, f_openTop, f_count, f_cellCount, f_nodes, f_sound, f_startRow, f_row, f_valueNames, f_rowNames, f_nested, f_runDepth, f_level, f_spent, a_tokKind, a_tokArg, a_match, a_length, a_weight, a_text, a_openStack, a_cellKind, a_cellValue, a_nodeKind, a_partA, a_partB, a_parent, a_mark, a_path, a_left, a_right, a_outerRow, a_outerStart, a_callPos, a_callEnd, a_runKind, a_runValue, a_framePos, a_frameEnd, a_savedKind, a_savedValue) => a_text
def xq_openStack (u : SX) : (Nat → Int32) := match u with
  | (f_emptyRow, f_consRow, f_maxWords, f_maxCells, f_maxLevels, f_maxFuel, f_openTop, f_count, f_cellCount, f_nodes, f_sound, f_startRow, f_row, f_valueNames, f_rowNames, f_nested, f_runDepth, f_level, f_spent, a_tokKind, a_tokArg, a_match, a_length, a_weight, a_text, a_openStack, a_cellKind, a_cellValue, a_nodeKind, a_partA, a_partB, a_parent, a_mark, a_path, a_left, a_right, a_outerRow, a_outerStart, a_callPos, a_callEnd, a_runKind, a_runValue, a_framePos, a_frameEnd, a_savedKind, a_savedValue) => a_openStack
def xq_cellKind (u : SX) : (Nat → Int32) := match u with
  | (f_emptyRow, f_consRow, f_maxWords, f_maxCells, f_maxLevels, f_maxFuel, f_openTop, f_count, f_cellCount, f_nodes, f_sound, f_startRow, f_row, f_valueNames, f_rowNames, f_nested, f_runDepth, f_level, f_spent, a_tokKind, a_tokArg, a_match, a_length, a_weight, a_text, a_openStack, a_cellKind, a_cellValue, a_nodeKind, a_partA, a_partB, a_parent, a_mark, a_path, a_left, a_right, a_outerRow, a_outerStart, a_callPos, a_callEnd, a_runKind, a_runValue, a_framePos, a_frameEnd, a_savedKind, a_savedValue) => a_cellKind
def xq_cellValue (u : SX) : (Nat → Int32) := match u with
  | (f_emptyRow, f_consRow, f_maxWords, f_maxCells, f_maxLevels, f_maxFuel, f_openTop, f_count, f_cellCount, f_nodes, f_sound, f_startRow, f_row, f_valueNames, f_rowNames, f_nested, f_runDepth, f_level, f_spent, a_tokKind, a_tokArg, a_match, a_length, a_weight, a_text, a_openStack, a_cellKind, a_cellValue, a_nodeKind, a_partA, a_partB, a_parent, a_mark, a_path, a_left, a_right, a_outerRow, a_outerStart, a_callPos, a_callEnd, a_runKind, a_runValue, a_framePos, a_frameEnd, a_savedKind, a_savedValue) => a_cellValue
def xq_nodeKind (u : SX) : (Nat → Int32) := match u with
  | (f_emptyRow, f_consRow, f_maxWords, f_maxCells, f_maxLevels, f_maxFuel, f_openTop, f_count, f_cellCount, f_nodes, f_sound, f_startRow, f_row, f_valueNames, f_rowNames, f_nested, f_runDepth, f_level, f_spent, a_tokKind, a_tokArg, a_match, a_length, a_weight, a_text, a_openStack, a_cellKind, a_cellValue, a_nodeKind, a_partA, a_partB, a_parent, a_mark, a_path, a_left, a_right, a_outerRow, a_outerStart, a_callPos, a_callEnd, a_runKind, a_runValue, a_framePos, a_frameEnd, a_savedKind, a_savedValue) => a_nodeKind
def xq_partA (u : SX) : (Nat → Int32) := match u with
  | (f_emptyRow, f_consRow, f_maxWords, f_maxCells, f_maxLevels, f_maxFuel, f_openTop, f_count, f_cellCount, f_nodes, f_sound, f_startRow, f_row, f_valueNames, f_rowNames, f_nested, f_runDepth, f_level, f_spent, a_tokKind, a_tokArg, a_match, a_length, a_weight, a_text, a_openStack, a_cellKind, a_cellValue, a_nodeKind, a_partA, a_partB, a_parent, a_mark, a_path, a_left, a_right, a_outerRow, a_outerStart, a_callPos, a_callEnd, a_runKind, a_runValue, a_framePos, a_frameEnd, a_savedKind, a_savedValue) => a_partA
def xq_partB (u : SX) : (Nat → Int32) := match u with
  | (f_emptyRow, f_consRow, f_maxWords, f_maxCells, f_maxLevels, f_maxFuel, f_openTop, f_count, f_cellCount, f_nodes, f_sound, f_startRow, f_row, f_valueNames, f_rowNames, f_nested, f_runDepth, f_level, f_spent, a_tokKind, a_tokArg, a_match, a_length, a_weight, a_text, a_openStack, a_cellKind, a_cellValue, a_nodeKind, a_partA, a_partB, a_parent, a_mark, a_path, a_left, a_right, a_outerRow, a_outerStart, a_callPos, a_callEnd, a_runKind, a_runValue, a_framePos, a_frameEnd, a_savedKind, a_savedValue) => a_partB
def xq_parent (u : SX) : (Nat → Int32) := match u with
  | (f_emptyRow, f_consRow, f_maxWords, f_maxCells, f_maxLevels, f_maxFuel, f_openTop, f_count, f_cellCount, f_nodes, f_sound, f_startRow, f_row, f_valueNames, f_rowNames, f_nested, f_runDepth, f_level, f_spent, a_tokKind, a_tokArg, a_match, a_length, a_weight, a_text, a_openStack, a_cellKind, a_cellValue, a_nodeKind, a_partA, a_partB, a_parent, a_mark, a_path, a_left, a_right, a_outerRow, a_outerStart, a_callPos, a_callEnd, a_runKind, a_runValue, a_framePos, a_frameEnd, a_savedKind, a_savedValue) => a_parent
def xq_mark (u : SX) : (Nat → Int32) := match u with
  | (f_emptyRow, f_consRow, f_maxWords, f_maxCells, f_maxLevels, f_maxFuel, f_openTop, f_count, f_cellCount, f_nodes, f_sound, f_startRow, f_row, f_valueNames, f_rowNames, f_nested, f_runDepth, f_level, f_spent, a_tokKind, a_tokArg, a_match, a_length, a_weight, a_text, a_openStack, a_cellKind, a_cellValue, a_nodeKind, a_partA, a_partB, a_parent, a_mark, a_path, a_left, a_right, a_outerRow, a_outerStart, a_callPos, a_callEnd, a_runKind, a_runValue, a_framePos, a_frameEnd, a_savedKind, a_savedValue) => a_mark
def xq_path (u : SX) : (Nat → Int32) := match u with
  | (f_emptyRow, f_consRow, f_maxWords, f_maxCells, f_maxLevels, f_maxFuel, f_openTop, f_count, f_cellCount, f_nodes, f_sound, f_startRow, f_row, f_valueNames, f_rowNames, f_nested, f_runDepth, f_level, f_spent, a_tokKind, a_tokArg, a_match, a_length, a_weight, a_text, a_openStack, a_cellKind, a_cellValue, a_nodeKind, a_partA, a_partB, a_parent, a_mark, a_path, a_left, a_right, a_outerRow, a_outerStart, a_callPos, a_callEnd, a_runKind, a_runValue, a_framePos, a_frameEnd, a_savedKind, a_savedValue) => a_path
def xq_left (u : SX) : (Nat → Int32) := match u with
  | (f_emptyRow, f_consRow, f_maxWords, f_maxCells, f_maxLevels, f_maxFuel, f_openTop, f_count, f_cellCount, f_nodes, f_sound, f_startRow, f_row, f_valueNames, f_rowNames, f_nested, f_runDepth, f_level, f_spent, a_tokKind, a_tokArg, a_match, a_length, a_weight, a_text, a_openStack, a_cellKind, a_cellValue, a_nodeKind, a_partA, a_partB, a_parent, a_mark, a_path, a_left, a_right, a_outerRow, a_outerStart, a_callPos, a_callEnd, a_runKind, a_runValue, a_framePos, a_frameEnd, a_savedKind, a_savedValue) => a_left
def xq_right (u : SX) : (Nat → Int32) := match u with
  | (f_emptyRow, f_consRow, f_maxWords, f_maxCells, f_maxLevels, f_maxFuel, f_openTop, f_count, f_cellCount, f_nodes, f_sound, f_startRow, f_row, f_valueNames, f_rowNames, f_nested, f_runDepth, f_level, f_spent, a_tokKind, a_tokArg, a_match, a_length, a_weight, a_text, a_openStack, a_cellKind, a_cellValue, a_nodeKind, a_partA, a_partB, a_parent, a_mark, a_path, a_left, a_right, a_outerRow, a_outerStart, a_callPos, a_callEnd, a_runKind, a_runValue, a_framePos, a_frameEnd, a_savedKind, a_savedValue) => a_right
def xq_outerRow (u : SX) : (Nat → Int32) := match u with
  | (f_emptyRow, f_consRow, f_maxWords, f_maxCells, f_maxLevels, f_maxFuel, f_openTop, f_count, f_cellCount, f_nodes, f_sound, f_startRow, f_row, f_valueNames, f_rowNames, f_nested, f_runDepth, f_level, f_spent, a_tokKind, a_tokArg, a_match, a_length, a_weight, a_text, a_openStack, a_cellKind, a_cellValue, a_nodeKind, a_partA, a_partB, a_parent, a_mark, a_path, a_left, a_right, a_outerRow, a_outerStart, a_callPos, a_callEnd, a_runKind, a_runValue, a_framePos, a_frameEnd, a_savedKind, a_savedValue) => a_outerRow
def xq_outerStart (u : SX) : (Nat → Int32) := match u with
  | (f_emptyRow, f_consRow, f_maxWords, f_maxCells, f_maxLevels, f_maxFuel, f_openTop, f_count, f_cellCount, f_nodes, f_sound, f_startRow, f_row, f_valueNames, f_rowNames, f_nested, f_runDepth, f_level, f_spent, a_tokKind, a_tokArg, a_match, a_length, a_weight, a_text, a_openStack, a_cellKind, a_cellValue, a_nodeKind, a_partA, a_partB, a_parent, a_mark, a_path, a_left, a_right, a_outerRow, a_outerStart, a_callPos, a_callEnd, a_runKind, a_runValue, a_framePos, a_frameEnd, a_savedKind, a_savedValue) => a_outerStart
def xq_callPos (u : SX) : (Nat → Int32) := match u with
  | (f_emptyRow, f_consRow, f_maxWords, f_maxCells, f_maxLevels, f_maxFuel, f_openTop, f_count, f_cellCount, f_nodes, f_sound, f_startRow, f_row, f_valueNames, f_rowNames, f_nested, f_runDepth, f_level, f_spent, a_tokKind, a_tokArg, a_match, a_length, a_weight, a_text, a_openStack, a_cellKind, a_cellValue, a_nodeKind, a_partA, a_partB, a_parent, a_mark, a_path, a_left, a_right, a_outerRow, a_outerStart, a_callPos, a_callEnd, a_runKind, a_runValue, a_framePos, a_frameEnd, a_savedKind, a_savedValue) => a_callPos
def xq_callEnd (u : SX) : (Nat → Int32) := match u with
  | (f_emptyRow, f_consRow, f_maxWords, f_maxCells, f_maxLevels, f_maxFuel, f_openTop, f_count, f_cellCount, f_nodes, f_sound, f_startRow, f_row, f_valueNames, f_rowNames, f_nested, f_runDepth, f_level, f_spent, a_tokKind, a_tokArg, a_match, a_length, a_weight, a_text, a_openStack, a_cellKind, a_cellValue, a_nodeKind, a_partA, a_partB, a_parent, a_mark, a_path, a_left, a_right, a_outerRow, a_outerStart, a_callPos, a_callEnd, a_runKind, a_runValue, a_framePos, a_frameEnd, a_savedKind, a_savedValue) => a_callEnd
def xq_runKind (u : SX) : (Nat → Int32) := match u with
  | (f_emptyRow, f_consRow, f_maxWords, f_maxCells, f_maxLevels, f_maxFuel, f_openTop, f_count, f_cellCount, f_nodes, f_sound, f_startRow, f_row, f_valueNames, f_rowNames, f_nested, f_runDepth, f_level, f_spent, a_tokKind, a_tokArg, a_match, a_length, a_weight, a_text, a_openStack, a_cellKind, a_cellValue, a_nodeKind, a_partA, a_partB, a_parent, a_mark, a_path, a_left, a_right, a_outerRow, a_outerStart, a_callPos, a_callEnd, a_runKind, a_runValue, a_framePos, a_frameEnd, a_savedKind, a_savedValue) => a_runKind
def xq_runValue (u : SX) : (Nat → Int32) := match u with
  | (f_emptyRow, f_consRow, f_maxWords, f_maxCells, f_maxLevels, f_maxFuel, f_openTop, f_count, f_cellCount, f_nodes, f_sound, f_startRow, f_row, f_valueNames, f_rowNames, f_nested, f_runDepth, f_level, f_spent, a_tokKind, a_tokArg, a_match, a_length, a_weight, a_text, a_openStack, a_cellKind, a_cellValue, a_nodeKind, a_partA, a_partB, a_parent, a_mark, a_path, a_left, a_right, a_outerRow, a_outerStart, a_callPos, a_callEnd, a_runKind, a_runValue, a_framePos, a_frameEnd, a_savedKind, a_savedValue) => a_runValue
def xq_framePos (u : SX) : (Nat → Int32) := match u with
  | (f_emptyRow, f_consRow, f_maxWords, f_maxCells, f_maxLevels, f_maxFuel, f_openTop, f_count, f_cellCount, f_nodes, f_sound, f_startRow, f_row, f_valueNames, f_rowNames, f_nested, f_runDepth, f_level, f_spent, a_tokKind, a_tokArg, a_match, a_length, a_weight, a_text, a_openStack, a_cellKind, a_cellValue, a_nodeKind, a_partA, a_partB, a_parent, a_mark, a_path, a_left, a_right, a_outerRow, a_outerStart, a_callPos, a_callEnd, a_runKind, a_runValue, a_framePos, a_frameEnd, a_savedKind, a_savedValue) => a_framePos
def xq_frameEnd (u : SX) : (Nat → Int32) := match u with
  | (f_emptyRow, f_consRow, f_maxWords, f_maxCells, f_maxLevels, f_maxFuel, f_openTop, f_count, f_cellCount, f_nodes, f_sound, f_startRow, f_row, f_valueNames, f_rowNames, f_nested, f_runDepth, f_level, f_spent, a_tokKind, a_tokArg, a_match, a_length, a_weight, a_text, a_openStack, a_cellKind, a_cellValue, a_nodeKind, a_partA, a_partB, a_parent, a_mark, a_path, a_left, a_right, a_outerRow, a_outerStart, a_callPos, a_callEnd, a_runKind, a_runValue, a_framePos, a_frameEnd, a_savedKind, a_savedValue) => a_frameEnd
def xq_savedKind (u : SX) : (Nat → Int32) := match u with
  | (f_emptyRow, f_consRow, f_maxWords, f_maxCells, f_maxLevels, f_maxFuel, f_openTop, f_count, f_cellCount, f_nodes, f_sound, f_startRow, f_row, f_valueNames, f_rowNames, f_nested, f_runDepth, f_level, f_spent, a_tokKind, a_tokArg, a_match, a_length, a_weight, a_text, a_openStack, a_cellKind, a_cellValue, a_nodeKind, a_partA, a_partB, a_parent, a_mark, a_path, a_left, a_right, a_outerRow, a_outerStart, a_callPos, a_callEnd, a_runKind, a_runValue, a_framePos, a_frameEnd, a_savedKind, a_savedValue) => a_savedKind
def xq_savedValue (u : SX) : (Nat → Int32) := match u with
  | (f_emptyRow, f_consRow, f_maxWords, f_maxCells, f_maxLevels, f_maxFuel, f_openTop, f_count, f_cellCount, f_nodes, f_sound, f_startRow, f_row, f_valueNames, f_rowNames, f_nested, f_runDepth, f_level, f_spent, a_tokKind, a_tokArg, a_match, a_length, a_weight, a_text, a_openStack, a_cellKind, a_cellValue, a_nodeKind, a_partA, a_partB, a_parent, a_mark, a_path, a_left, a_right, a_outerRow, a_outerStart, a_callPos, a_callEnd, a_runKind, a_runValue, a_framePos, a_frameEnd, a_savedKind, a_savedValue) => a_savedValue
def yq_maxWords (u : SY) : Int32 := match u with
  | (f_maxWords, f_maxCells, f_maxLevels, f_maxFuel, f_count, f_depth, f_copyDepth, f_agenda, f_listSize, f_nodes, f_first, f_last, a_kinds, a_args, a_size, a_cellKind, a_cellVal, a_copyKind, a_copyVal, a_agKind, a_agVal, a_agLevel, a_list, a_pend, a_outer, a_begin, a_todo, a_nodeKind, a_left, a_right, a_cls, a_def, a_symbol, a_finite) => f_maxWords
def yq_maxCells (u : SY) : Int32 := match u with
  | (f_maxWords, f_maxCells, f_maxLevels, f_maxFuel, f_count, f_depth, f_copyDepth, f_agenda, f_listSize, f_nodes, f_first, f_last, a_kinds, a_args, a_size, a_cellKind, a_cellVal, a_copyKind, a_copyVal, a_agKind, a_agVal, a_agLevel, a_list, a_pend, a_outer, a_begin, a_todo, a_nodeKind, a_left, a_right, a_cls, a_def, a_symbol, a_finite) => f_maxCells
def yq_maxLevels (u : SY) : Int32 := match u with
  | (f_maxWords, f_maxCells, f_maxLevels, f_maxFuel, f_count, f_depth, f_copyDepth, f_agenda, f_listSize, f_nodes, f_first, f_last, a_kinds, a_args, a_size, a_cellKind, a_cellVal, a_copyKind, a_copyVal, a_agKind, a_agVal, a_agLevel, a_list, a_pend, a_outer, a_begin, a_todo, a_nodeKind, a_left, a_right, a_cls, a_def, a_symbol, a_finite) => f_maxLevels
def yq_maxFuel (u : SY) : Int32 := match u with
  | (f_maxWords, f_maxCells, f_maxLevels, f_maxFuel, f_count, f_depth, f_copyDepth, f_agenda, f_listSize, f_nodes, f_first, f_last, a_kinds, a_args, a_size, a_cellKind, a_cellVal, a_copyKind, a_copyVal, a_agKind, a_agVal, a_agLevel, a_list, a_pend, a_outer, a_begin, a_todo, a_nodeKind, a_left, a_right, a_cls, a_def, a_symbol, a_finite) => f_maxFuel
def yq_count (u : SY) : Int32 := match u with
  | (f_maxWords, f_maxCells, f_maxLevels, f_maxFuel, f_count, f_depth, f_copyDepth, f_agenda, f_listSize, f_nodes, f_first, f_last, a_kinds, a_args, a_size, a_cellKind, a_cellVal, a_copyKind, a_copyVal, a_agKind, a_agVal, a_agLevel, a_list, a_pend, a_outer, a_begin, a_todo, a_nodeKind, a_left, a_right, a_cls, a_def, a_symbol, a_finite) => f_count
def yq_depth (u : SY) : Int32 := match u with
  | (f_maxWords, f_maxCells, f_maxLevels, f_maxFuel, f_count, f_depth, f_copyDepth, f_agenda, f_listSize, f_nodes, f_first, f_last, a_kinds, a_args, a_size, a_cellKind, a_cellVal, a_copyKind, a_copyVal, a_agKind, a_agVal, a_agLevel, a_list, a_pend, a_outer, a_begin, a_todo, a_nodeKind, a_left, a_right, a_cls, a_def, a_symbol, a_finite) => f_depth
def yq_copyDepth (u : SY) : Int32 := match u with
  | (f_maxWords, f_maxCells, f_maxLevels, f_maxFuel, f_count, f_depth, f_copyDepth, f_agenda, f_listSize, f_nodes, f_first, f_last, a_kinds, a_args, a_size, a_cellKind, a_cellVal, a_copyKind, a_copyVal, a_agKind, a_agVal, a_agLevel, a_list, a_pend, a_outer, a_begin, a_todo, a_nodeKind, a_left, a_right, a_cls, a_def, a_symbol, a_finite) => f_copyDepth
def yq_agenda (u : SY) : Int32 := match u with
  | (f_maxWords, f_maxCells, f_maxLevels, f_maxFuel, f_count, f_depth, f_copyDepth, f_agenda, f_listSize, f_nodes, f_first, f_last, a_kinds, a_args, a_size, a_cellKind, a_cellVal, a_copyKind, a_copyVal, a_agKind, a_agVal, a_agLevel, a_list, a_pend, a_outer, a_begin, a_todo, a_nodeKind, a_left, a_right, a_cls, a_def, a_symbol, a_finite) => f_agenda
def yq_listSize (u : SY) : Int32 := match u with
  | (f_maxWords, f_maxCells, f_maxLevels, f_maxFuel, f_count, f_depth, f_copyDepth, f_agenda, f_listSize, f_nodes, f_first, f_last, a_kinds, a_args, a_size, a_cellKind, a_cellVal, a_copyKind, a_copyVal, a_agKind, a_agVal, a_agLevel, a_list, a_pend, a_outer, a_begin, a_todo, a_nodeKind, a_left, a_right, a_cls, a_def, a_symbol, a_finite) => f_listSize
def yq_nodes (u : SY) : Int32 := match u with
  | (f_maxWords, f_maxCells, f_maxLevels, f_maxFuel, f_count, f_depth, f_copyDepth, f_agenda, f_listSize, f_nodes, f_first, f_last, a_kinds, a_args, a_size, a_cellKind, a_cellVal, a_copyKind, a_copyVal, a_agKind, a_agVal, a_agLevel, a_list, a_pend, a_outer, a_begin, a_todo, a_nodeKind, a_left, a_right, a_cls, a_def, a_symbol, a_finite) => f_nodes
def yq_first (u : SY) : Int32 := match u with
  | (f_maxWords, f_maxCells, f_maxLevels, f_maxFuel, f_count, f_depth, f_copyDepth, f_agenda, f_listSize, f_nodes, f_first, f_last, a_kinds, a_args, a_size, a_cellKind, a_cellVal, a_copyKind, a_copyVal, a_agKind, a_agVal, a_agLevel, a_list, a_pend, a_outer, a_begin, a_todo, a_nodeKind, a_left, a_right, a_cls, a_def, a_symbol, a_finite) => f_first
def yq_last (u : SY) : Int32 := match u with
  | (f_maxWords, f_maxCells, f_maxLevels, f_maxFuel, f_count, f_depth, f_copyDepth, f_agenda, f_listSize, f_nodes, f_first, f_last, a_kinds, a_args, a_size, a_cellKind, a_cellVal, a_copyKind, a_copyVal, a_agKind, a_agVal, a_agLevel, a_list, a_pend, a_outer, a_begin, a_todo, a_nodeKind, a_left, a_right, a_cls, a_def, a_symbol, a_finite) => f_last
def yq_kinds (u : SY) : (Nat → Int32) := match u with
  | (f_maxWords, f_maxCells, f_maxLevels, f_maxFuel, f_count, f_depth, f_copyDepth, f_agenda, f_listSize, f_nodes, f_first, f_last, a_kinds, a_args, a_size, a_cellKind, a_cellVal, a_copyKind, a_copyVal, a_agKind, a_agVal, a_agLevel, a_list, a_pend, a_outer, a_begin, a_todo, a_nodeKind, a_left, a_right, a_cls, a_def, a_symbol, a_finite) => a_kinds
def yq_args (u : SY) : (Nat → Int32) := match u with
  | (f_maxWords, f_maxCells, f_maxLevels, f_maxFuel, f_count, f_depth, f_copyDepth, f_agenda, f_listSize, f_nodes, f_first, f_last, a_kinds, a_args, a_size, a_cellKind, a_cellVal, a_copyKind, a_copyVal, a_agKind, a_agVal, a_agLevel, a_list, a_pend, a_outer, a_begin, a_todo, a_nodeKind, a_left, a_right, a_cls, a_def, a_symbol, a_finite) => a_args
def yq_size (u : SY) : (Nat → Int32) := match u with
  | (f_maxWords, f_maxCells, f_maxLevels, f_maxFuel, f_count, f_depth, f_copyDepth, f_agenda, f_listSize, f_nodes, f_first, f_last, a_kinds, a_args, a_size, a_cellKind, a_cellVal, a_copyKind, a_copyVal, a_agKind, a_agVal, a_agLevel, a_list, a_pend, a_outer, a_begin, a_todo, a_nodeKind, a_left, a_right, a_cls, a_def, a_symbol, a_finite) => a_size
def yq_cellKind (u : SY) : (Nat → Int32) := match u with
  | (f_maxWords, f_maxCells, f_maxLevels, f_maxFuel, f_count, f_depth, f_copyDepth, f_agenda, f_listSize, f_nodes, f_first, f_last, a_kinds, a_args, a_size, a_cellKind, a_cellVal, a_copyKind, a_copyVal, a_agKind, a_agVal, a_agLevel, a_list, a_pend, a_outer, a_begin, a_todo, a_nodeKind, a_left, a_right, a_cls, a_def, a_symbol, a_finite) => a_cellKind
def yq_cellVal (u : SY) : (Nat → Int32) := match u with
  | (f_maxWords, f_maxCells, f_maxLevels, f_maxFuel, f_count, f_depth, f_copyDepth, f_agenda, f_listSize, f_nodes, f_first, f_last, a_kinds, a_args, a_size, a_cellKind, a_cellVal, a_copyKind, a_copyVal, a_agKind, a_agVal, a_agLevel, a_list, a_pend, a_outer, a_begin, a_todo, a_nodeKind, a_left, a_right, a_cls, a_def, a_symbol, a_finite) => a_cellVal
def yq_copyKind (u : SY) : (Nat → Int32) := match u with
  | (f_maxWords, f_maxCells, f_maxLevels, f_maxFuel, f_count, f_depth, f_copyDepth, f_agenda, f_listSize, f_nodes, f_first, f_last, a_kinds, a_args, a_size, a_cellKind, a_cellVal, a_copyKind, a_copyVal, a_agKind, a_agVal, a_agLevel, a_list, a_pend, a_outer, a_begin, a_todo, a_nodeKind, a_left, a_right, a_cls, a_def, a_symbol, a_finite) => a_copyKind
def yq_copyVal (u : SY) : (Nat → Int32) := match u with
  | (f_maxWords, f_maxCells, f_maxLevels, f_maxFuel, f_count, f_depth, f_copyDepth, f_agenda, f_listSize, f_nodes, f_first, f_last, a_kinds, a_args, a_size, a_cellKind, a_cellVal, a_copyKind, a_copyVal, a_agKind, a_agVal, a_agLevel, a_list, a_pend, a_outer, a_begin, a_todo, a_nodeKind, a_left, a_right, a_cls, a_def, a_symbol, a_finite) => a_copyVal
def yq_agKind (u : SY) : (Nat → Int32) := match u with
  | (f_maxWords, f_maxCells, f_maxLevels, f_maxFuel, f_count, f_depth, f_copyDepth, f_agenda, f_listSize, f_nodes, f_first, f_last, a_kinds, a_args, a_size, a_cellKind, a_cellVal, a_copyKind, a_copyVal, a_agKind, a_agVal, a_agLevel, a_list, a_pend, a_outer, a_begin, a_todo, a_nodeKind, a_left, a_right, a_cls, a_def, a_symbol, a_finite) => a_agKind
def yq_agVal (u : SY) : (Nat → Int32) := match u with
  | (f_maxWords, f_maxCells, f_maxLevels, f_maxFuel, f_count, f_depth, f_copyDepth, f_agenda, f_listSize, f_nodes, f_first, f_last, a_kinds, a_args, a_size, a_cellKind, a_cellVal, a_copyKind, a_copyVal, a_agKind, a_agVal, a_agLevel, a_list, a_pend, a_outer, a_begin, a_todo, a_nodeKind, a_left, a_right, a_cls, a_def, a_symbol, a_finite) => a_agVal
def yq_agLevel (u : SY) : (Nat → Int32) := match u with
  | (f_maxWords, f_maxCells, f_maxLevels, f_maxFuel, f_count, f_depth, f_copyDepth, f_agenda, f_listSize, f_nodes, f_first, f_last, a_kinds, a_args, a_size, a_cellKind, a_cellVal, a_copyKind, a_copyVal, a_agKind, a_agVal, a_agLevel, a_list, a_pend, a_outer, a_begin, a_todo, a_nodeKind, a_left, a_right, a_cls, a_def, a_symbol, a_finite) => a_agLevel
def yq_list (u : SY) : (Nat → Int32) := match u with
  | (f_maxWords, f_maxCells, f_maxLevels, f_maxFuel, f_count, f_depth, f_copyDepth, f_agenda, f_listSize, f_nodes, f_first, f_last, a_kinds, a_args, a_size, a_cellKind, a_cellVal, a_copyKind, a_copyVal, a_agKind, a_agVal, a_agLevel, a_list, a_pend, a_outer, a_begin, a_todo, a_nodeKind, a_left, a_right, a_cls, a_def, a_symbol, a_finite) => a_list
def yq_pend (u : SY) : (Nat → Int32) := match u with
  | (f_maxWords, f_maxCells, f_maxLevels, f_maxFuel, f_count, f_depth, f_copyDepth, f_agenda, f_listSize, f_nodes, f_first, f_last, a_kinds, a_args, a_size, a_cellKind, a_cellVal, a_copyKind, a_copyVal, a_agKind, a_agVal, a_agLevel, a_list, a_pend, a_outer, a_begin, a_todo, a_nodeKind, a_left, a_right, a_cls, a_def, a_symbol, a_finite) => a_pend
def yq_outer (u : SY) : (Nat → Int32) := match u with
  | (f_maxWords, f_maxCells, f_maxLevels, f_maxFuel, f_count, f_depth, f_copyDepth, f_agenda, f_listSize, f_nodes, f_first, f_last, a_kinds, a_args, a_size, a_cellKind, a_cellVal, a_copyKind, a_copyVal, a_agKind, a_agVal, a_agLevel, a_list, a_pend, a_outer, a_begin, a_todo, a_nodeKind, a_left, a_right, a_cls, a_def, a_symbol, a_finite) => a_outer
def yq_begin (u : SY) : (Nat → Int32) := match u with
  | (f_maxWords, f_maxCells, f_maxLevels, f_maxFuel, f_count, f_depth, f_copyDepth, f_agenda, f_listSize, f_nodes, f_first, f_last, a_kinds, a_args, a_size, a_cellKind, a_cellVal, a_copyKind, a_copyVal, a_agKind, a_agVal, a_agLevel, a_list, a_pend, a_outer, a_begin, a_todo, a_nodeKind, a_left, a_right, a_cls, a_def, a_symbol, a_finite) => a_begin
def yq_todo (u : SY) : (Nat → Int32) := match u with
  | (f_maxWords, f_maxCells, f_maxLevels, f_maxFuel, f_count, f_depth, f_copyDepth, f_agenda, f_listSize, f_nodes, f_first, f_last, a_kinds, a_args, a_size, a_cellKind, a_cellVal, a_copyKind, a_copyVal, a_agKind, a_agVal, a_agLevel, a_list, a_pend, a_outer, a_begin, a_todo, a_nodeKind, a_left, a_right, a_cls, a_def, a_symbol, a_finite) => a_todo
def yq_nodeKind (u : SY) : (Nat → Int32) := match u with
  | (f_maxWords, f_maxCells, f_maxLevels, f_maxFuel, f_count, f_depth, f_copyDepth, f_agenda, f_listSize, f_nodes, f_first, f_last, a_kinds, a_args, a_size, a_cellKind, a_cellVal, a_copyKind, a_copyVal, a_agKind, a_agVal, a_agLevel, a_list, a_pend, a_outer, a_begin, a_todo, a_nodeKind, a_left, a_right, a_cls, a_def, a_symbol, a_finite) => a_nodeKind
def yq_left (u : SY) : (Nat → Int32) := match u with
  | (f_maxWords, f_maxCells, f_maxLevels, f_maxFuel, f_count, f_depth, f_copyDepth, f_agenda, f_listSize, f_nodes, f_first, f_last, a_kinds, a_args, a_size, a_cellKind, a_cellVal, a_copyKind, a_copyVal, a_agKind, a_agVal, a_agLevel, a_list, a_pend, a_outer, a_begin, a_todo, a_nodeKind, a_left, a_right, a_cls, a_def, a_symbol, a_finite) => a_left
def yq_right (u : SY) : (Nat → Int32) := match u with
  | (f_maxWords, f_maxCells, f_maxLevels, f_maxFuel, f_count, f_depth, f_copyDepth, f_agenda, f_listSize, f_nodes, f_first, f_last, a_kinds, a_args, a_size, a_cellKind, a_cellVal, a_copyKind, a_copyVal, a_agKind, a_agVal, a_agLevel, a_list, a_pend, a_outer, a_begin, a_todo, a_nodeKind, a_left, a_right, a_cls, a_def, a_symbol, a_finite) => a_right
def yq_cls (u : SY) : (Nat → Int32) := match u with
  | (f_maxWords, f_maxCells, f_maxLevels, f_maxFuel, f_count, f_depth, f_copyDepth, f_agenda, f_listSize, f_nodes, f_first, f_last, a_kinds, a_args, a_size, a_cellKind, a_cellVal, a_copyKind, a_copyVal, a_agKind, a_agVal, a_agLevel, a_list, a_pend, a_outer, a_begin, a_todo, a_nodeKind, a_left, a_right, a_cls, a_def, a_symbol, a_finite) => a_cls
def yq_def (u : SY) : (Nat → Int32) := match u with
  | (f_maxWords, f_maxCells, f_maxLevels, f_maxFuel, f_count, f_depth, f_copyDepth, f_agenda, f_listSize, f_nodes, f_first, f_last, a_kinds, a_args, a_size, a_cellKind, a_cellVal, a_copyKind, a_copyVal, a_agKind, a_agVal, a_agLevel, a_list, a_pend, a_outer, a_begin, a_todo, a_nodeKind, a_left, a_right, a_cls, a_def, a_symbol, a_finite) => a_def
def yq_symbol (u : SY) : (Nat → Int32) := match u with
  | (f_maxWords, f_maxCells, f_maxLevels, f_maxFuel, f_count, f_depth, f_copyDepth, f_agenda, f_listSize, f_nodes, f_first, f_last, a_kinds, a_args, a_size, a_cellKind, a_cellVal, a_copyKind, a_copyVal, a_agKind, a_agVal, a_agLevel, a_list, a_pend, a_outer, a_begin, a_todo, a_nodeKind, a_left, a_right, a_cls, a_def, a_symbol, a_finite) => a_symbol
def yq_finite (u : SY) : (Nat → Int32) := match u with
  | (f_maxWords, f_maxCells, f_maxLevels, f_maxFuel, f_count, f_depth, f_copyDepth, f_agenda, f_listSize, f_nodes, f_first, f_last, a_kinds, a_args, a_size, a_cellKind, a_cellVal, a_copyKind, a_copyVal, a_agKind, a_agVal, a_agLevel, a_list, a_pend, a_outer, a_begin, a_todo, a_nodeKind, a_left, a_right, a_cls, a_def, a_symbol, a_finite) => a_finite
def xs_nodes_nodeKind_partA_partB_parent (u : SX) (x0 : Int32) (x1 : (Nat → Int32)) (x2 : (Nat → Int32)) (x3 : (Nat → Int32)) (x4 : (Nat → Int32)) : SX := match u with
  | (f_emptyRow, f_consRow, f_maxWords, f_maxCells, f_maxLevels, f_maxFuel, f_openTop, f_count, f_cellCount, _, f_sound, f_startRow, f_row, f_valueNames, f_rowNames, f_nested, f_runDepth, f_level, f_spent, a_tokKind, a_tokArg, a_match, a_length, a_weight, a_text, a_openStack, a_cellKind, a_cellValue, _, _, _, _, a_mark, a_path, a_left, a_right, a_outerRow, a_outerStart, a_callPos, a_callEnd, a_runKind, a_runValue, a_framePos, a_frameEnd, a_savedKind, a_savedValue) => (f_emptyRow, f_consRow, f_maxWords, f_maxCells, f_maxLevels, f_maxFuel, f_openTop, f_count, f_cellCount, x0, f_sound, f_startRow, f_row, f_valueNames, f_rowNames, f_nested, f_runDepth, f_level, f_spent, a_tokKind, a_tokArg, a_match, a_length, a_weight, a_text, a_openStack, a_cellKind, a_cellValue, x1, x2, x3, x4, a_mark, a_path, a_left, a_right, a_outerRow, a_outerStart, a_callPos, a_callEnd, a_runKind, a_runValue, a_framePos, a_frameEnd, a_savedKind, a_savedValue)
def xs_startRow_row (u : SX) (x0 : Int32) (x1 : Int32) : SX := match u with
  | (f_emptyRow, f_consRow, f_maxWords, f_maxCells, f_maxLevels, f_maxFuel, f_openTop, f_count, f_cellCount, f_nodes, f_sound, _, _, f_valueNames, f_rowNames, f_nested, f_runDepth, f_level, f_spent, a_tokKind, a_tokArg, a_match, a_length, a_weight, a_text, a_openStack, a_cellKind, a_cellValue, a_nodeKind, a_partA, a_partB, a_parent, a_mark, a_path, a_left, a_right, a_outerRow, a_outerStart, a_callPos, a_callEnd, a_runKind, a_runValue, a_framePos, a_frameEnd, a_savedKind, a_savedValue) => (f_emptyRow, f_consRow, f_maxWords, f_maxCells, f_maxLevels, f_maxFuel, f_openTop, f_count, f_cellCount, f_nodes, f_sound, x0, x1, f_valueNames, f_rowNames, f_nested, f_runDepth, f_level, f_spent, a_tokKind, a_tokArg, a_match, a_length, a_weight, a_text, a_openStack, a_cellKind, a_cellValue, a_nodeKind, a_partA, a_partB, a_parent, a_mark, a_path, a_left, a_right, a_outerRow, a_outerStart, a_callPos, a_callEnd, a_runKind, a_runValue, a_framePos, a_frameEnd, a_savedKind, a_savedValue)
def xs_nodes_sound_nested (u : SX) (x0 : Int32) (x1 : Int32) (x2 : Int32) : SX := match u with
  | (f_emptyRow, f_consRow, f_maxWords, f_maxCells, f_maxLevels, f_maxFuel, f_openTop, f_count, f_cellCount, _, _, f_startRow, f_row, f_valueNames, f_rowNames, _, f_runDepth, f_level, f_spent, a_tokKind, a_tokArg, a_match, a_length, a_weight, a_text, a_openStack, a_cellKind, a_cellValue, a_nodeKind, a_partA, a_partB, a_parent, a_mark, a_path, a_left, a_right, a_outerRow, a_outerStart, a_callPos, a_callEnd, a_runKind, a_runValue, a_framePos, a_frameEnd, a_savedKind, a_savedValue) => (f_emptyRow, f_consRow, f_maxWords, f_maxCells, f_maxLevels, f_maxFuel, f_openTop, f_count, f_cellCount, x0, x1, f_startRow, f_row, f_valueNames, f_rowNames, x2, f_runDepth, f_level, f_spent, a_tokKind, a_tokArg, a_match, a_length, a_weight, a_text, a_openStack, a_cellKind, a_cellValue, a_nodeKind, a_partA, a_partB, a_parent, a_mark, a_path, a_left, a_right, a_outerRow, a_outerStart, a_callPos, a_callEnd, a_runKind, a_runValue, a_framePos, a_frameEnd, a_savedKind, a_savedValue)
def xs_row (u : SX) (x0 : Int32) : SX := match u with
  | (f_emptyRow, f_consRow, f_maxWords, f_maxCells, f_maxLevels, f_maxFuel, f_openTop, f_count, f_cellCount, f_nodes, f_sound, f_startRow, _, f_valueNames, f_rowNames, f_nested, f_runDepth, f_level, f_spent, a_tokKind, a_tokArg, a_match, a_length, a_weight, a_text, a_openStack, a_cellKind, a_cellValue, a_nodeKind, a_partA, a_partB, a_parent, a_mark, a_path, a_left, a_right, a_outerRow, a_outerStart, a_callPos, a_callEnd, a_runKind, a_runValue, a_framePos, a_frameEnd, a_savedKind, a_savedValue) => (f_emptyRow, f_consRow, f_maxWords, f_maxCells, f_maxLevels, f_maxFuel, f_openTop, f_count, f_cellCount, f_nodes, f_sound, f_startRow, x0, f_valueNames, f_rowNames, f_nested, f_runDepth, f_level, f_spent, a_tokKind, a_tokArg, a_match, a_length, a_weight, a_text, a_openStack, a_cellKind, a_cellValue, a_nodeKind, a_partA, a_partB, a_parent, a_mark, a_path, a_left, a_right, a_outerRow, a_outerStart, a_callPos, a_callEnd, a_runKind, a_runValue, a_framePos, a_frameEnd, a_savedKind, a_savedValue)
def xs_nested_outerRow_outerStart (u : SX) (x0 : Int32) (x1 : (Nat → Int32)) (x2 : (Nat → Int32)) : SX := match u with
  | (f_emptyRow, f_consRow, f_maxWords, f_maxCells, f_maxLevels, f_maxFuel, f_openTop, f_count, f_cellCount, f_nodes, f_sound, f_startRow, f_row, f_valueNames, f_rowNames, _, f_runDepth, f_level, f_spent, a_tokKind, a_tokArg, a_match, a_length, a_weight, a_text, a_openStack, a_cellKind, a_cellValue, a_nodeKind, a_partA, a_partB, a_parent, a_mark, a_path, a_left, a_right, _, _, a_callPos, a_callEnd, a_runKind, a_runValue, a_framePos, a_frameEnd, a_savedKind, a_savedValue) => (f_emptyRow, f_consRow, f_maxWords, f_maxCells, f_maxLevels, f_maxFuel, f_openTop, f_count, f_cellCount, f_nodes, f_sound, f_startRow, f_row, f_valueNames, f_rowNames, x0, f_runDepth, f_level, f_spent, a_tokKind, a_tokArg, a_match, a_length, a_weight, a_text, a_openStack, a_cellKind, a_cellValue, a_nodeKind, a_partA, a_partB, a_parent, a_mark, a_path, a_left, a_right, x1, x2, a_callPos, a_callEnd, a_runKind, a_runValue, a_framePos, a_frameEnd, a_savedKind, a_savedValue)
def xs_startRow_row_nested (u : SX) (x0 : Int32) (x1 : Int32) (x2 : Int32) : SX := match u with
  | (f_emptyRow, f_consRow, f_maxWords, f_maxCells, f_maxLevels, f_maxFuel, f_openTop, f_count, f_cellCount, f_nodes, f_sound, _, _, f_valueNames, f_rowNames, _, f_runDepth, f_level, f_spent, a_tokKind, a_tokArg, a_match, a_length, a_weight, a_text, a_openStack, a_cellKind, a_cellValue, a_nodeKind, a_partA, a_partB, a_parent, a_mark, a_path, a_left, a_right, a_outerRow, a_outerStart, a_callPos, a_callEnd, a_runKind, a_runValue, a_framePos, a_frameEnd, a_savedKind, a_savedValue) => (f_emptyRow, f_consRow, f_maxWords, f_maxCells, f_maxLevels, f_maxFuel, f_openTop, f_count, f_cellCount, f_nodes, f_sound, x0, x1, f_valueNames, f_rowNames, x2, f_runDepth, f_level, f_spent, a_tokKind, a_tokArg, a_match, a_length, a_weight, a_text, a_openStack, a_cellKind, a_cellValue, a_nodeKind, a_partA, a_partB, a_parent, a_mark, a_path, a_left, a_right, a_outerRow, a_outerStart, a_callPos, a_callEnd, a_runKind, a_runValue, a_framePos, a_frameEnd, a_savedKind, a_savedValue)
def xs_parent (u : SX) (x0 : (Nat → Int32)) : SX := match u with
  | (f_emptyRow, f_consRow, f_maxWords, f_maxCells, f_maxLevels, f_maxFuel, f_openTop, f_count, f_cellCount, f_nodes, f_sound, f_startRow, f_row, f_valueNames, f_rowNames, f_nested, f_runDepth, f_level, f_spent, a_tokKind, a_tokArg, a_match, a_length, a_weight, a_text, a_openStack, a_cellKind, a_cellValue, a_nodeKind, a_partA, a_partB, _, a_mark, a_path, a_left, a_right, a_outerRow, a_outerStart, a_callPos, a_callEnd, a_runKind, a_runValue, a_framePos, a_frameEnd, a_savedKind, a_savedValue) => (f_emptyRow, f_consRow, f_maxWords, f_maxCells, f_maxLevels, f_maxFuel, f_openTop, f_count, f_cellCount, f_nodes, f_sound, f_startRow, f_row, f_valueNames, f_rowNames, f_nested, f_runDepth, f_level, f_spent, a_tokKind, a_tokArg, a_match, a_length, a_weight, a_text, a_openStack, a_cellKind, a_cellValue, a_nodeKind, a_partA, a_partB, x0, a_mark, a_path, a_left, a_right, a_outerRow, a_outerStart, a_callPos, a_callEnd, a_runKind, a_runValue, a_framePos, a_frameEnd, a_savedKind, a_savedValue)
def xs_sound (u : SX) (x0 : Int32) : SX := match u with
  | (f_emptyRow, f_consRow, f_maxWords, f_maxCells, f_maxLevels, f_maxFuel, f_openTop, f_count, f_cellCount, f_nodes, _, f_startRow, f_row, f_valueNames, f_rowNames, f_nested, f_runDepth, f_level, f_spent, a_tokKind, a_tokArg, a_match, a_length, a_weight, a_text, a_openStack, a_cellKind, a_cellValue, a_nodeKind, a_partA, a_partB, a_parent, a_mark, a_path, a_left, a_right, a_outerRow, a_outerStart, a_callPos, a_callEnd, a_runKind, a_runValue, a_framePos, a_frameEnd, a_savedKind, a_savedValue) => (f_emptyRow, f_consRow, f_maxWords, f_maxCells, f_maxLevels, f_maxFuel, f_openTop, f_count, f_cellCount, f_nodes, x0, f_startRow, f_row, f_valueNames, f_rowNames, f_nested, f_runDepth, f_level, f_spent, a_tokKind, a_tokArg, a_match, a_length, a_weight, a_text, a_openStack, a_cellKind, a_cellValue, a_nodeKind, a_partA, a_partB, a_parent, a_mark, a_path, a_left, a_right, a_outerRow, a_outerStart, a_callPos, a_callEnd, a_runKind, a_runValue, a_framePos, a_frameEnd, a_savedKind, a_savedValue)
def xs_left_right (u : SX) (x0 : (Nat → Int32)) (x1 : (Nat → Int32)) : SX := match u with
  | (f_emptyRow, f_consRow, f_maxWords, f_maxCells, f_maxLevels, f_maxFuel, f_openTop, f_count, f_cellCount, f_nodes, f_sound, f_startRow, f_row, f_valueNames, f_rowNames, f_nested, f_runDepth, f_level, f_spent, a_tokKind, a_tokArg, a_match, a_length, a_weight, a_text, a_openStack, a_cellKind, a_cellValue, a_nodeKind, a_partA, a_partB, a_parent, a_mark, a_path, _, _, a_outerRow, a_outerStart, a_callPos, a_callEnd, a_runKind, a_runValue, a_framePos, a_frameEnd, a_savedKind, a_savedValue) => (f_emptyRow, f_consRow, f_maxWords, f_maxCells, f_maxLevels, f_maxFuel, f_openTop, f_count, f_cellCount, f_nodes, f_sound, f_startRow, f_row, f_valueNames, f_rowNames, f_nested, f_runDepth, f_level, f_spent, a_tokKind, a_tokArg, a_match, a_length, a_weight, a_text, a_openStack, a_cellKind, a_cellValue, a_nodeKind, a_partA, a_partB, a_parent, a_mark, a_path, x0, x1, a_outerRow, a_outerStart, a_callPos, a_callEnd, a_runKind, a_runValue, a_framePos, a_frameEnd, a_savedKind, a_savedValue)
def xs_callPos_callEnd (u : SX) (x0 : (Nat → Int32)) (x1 : (Nat → Int32)) : SX := match u with
  | (f_emptyRow, f_consRow, f_maxWords, f_maxCells, f_maxLevels, f_maxFuel, f_openTop, f_count, f_cellCount, f_nodes, f_sound, f_startRow, f_row, f_valueNames, f_rowNames, f_nested, f_runDepth, f_level, f_spent, a_tokKind, a_tokArg, a_match, a_length, a_weight, a_text, a_openStack, a_cellKind, a_cellValue, a_nodeKind, a_partA, a_partB, a_parent, a_mark, a_path, a_left, a_right, a_outerRow, a_outerStart, _, _, a_runKind, a_runValue, a_framePos, a_frameEnd, a_savedKind, a_savedValue) => (f_emptyRow, f_consRow, f_maxWords, f_maxCells, f_maxLevels, f_maxFuel, f_openTop, f_count, f_cellCount, f_nodes, f_sound, f_startRow, f_row, f_valueNames, f_rowNames, f_nested, f_runDepth, f_level, f_spent, a_tokKind, a_tokArg, a_match, a_length, a_weight, a_text, a_openStack, a_cellKind, a_cellValue, a_nodeKind, a_partA, a_partB, a_parent, a_mark, a_path, a_left, a_right, a_outerRow, a_outerStart, x0, x1, a_runKind, a_runValue, a_framePos, a_frameEnd, a_savedKind, a_savedValue)
def xs_mark (u : SX) (x0 : (Nat → Int32)) : SX := match u with
  | (f_emptyRow, f_consRow, f_maxWords, f_maxCells, f_maxLevels, f_maxFuel, f_openTop, f_count, f_cellCount, f_nodes, f_sound, f_startRow, f_row, f_valueNames, f_rowNames, f_nested, f_runDepth, f_level, f_spent, a_tokKind, a_tokArg, a_match, a_length, a_weight, a_text, a_openStack, a_cellKind, a_cellValue, a_nodeKind, a_partA, a_partB, a_parent, _, a_path, a_left, a_right, a_outerRow, a_outerStart, a_callPos, a_callEnd, a_runKind, a_runValue, a_framePos, a_frameEnd, a_savedKind, a_savedValue) => (f_emptyRow, f_consRow, f_maxWords, f_maxCells, f_maxLevels, f_maxFuel, f_openTop, f_count, f_cellCount, f_nodes, f_sound, f_startRow, f_row, f_valueNames, f_rowNames, f_nested, f_runDepth, f_level, f_spent, a_tokKind, a_tokArg, a_match, a_length, a_weight, a_text, a_openStack, a_cellKind, a_cellValue, a_nodeKind, a_partA, a_partB, a_parent, x0, a_path, a_left, a_right, a_outerRow, a_outerStart, a_callPos, a_callEnd, a_runKind, a_runValue, a_framePos, a_frameEnd, a_savedKind, a_savedValue)
def xs_mark_path (u : SX) (x0 : (Nat → Int32)) (x1 : (Nat → Int32)) : SX := match u with
  | (f_emptyRow, f_consRow, f_maxWords, f_maxCells, f_maxLevels, f_maxFuel, f_openTop, f_count, f_cellCount, f_nodes, f_sound, f_startRow, f_row, f_valueNames, f_rowNames, f_nested, f_runDepth, f_level, f_spent, a_tokKind, a_tokArg, a_match, a_length, a_weight, a_text, a_openStack, a_cellKind, a_cellValue, a_nodeKind, a_partA, a_partB, a_parent, _, _, a_left, a_right, a_outerRow, a_outerStart, a_callPos, a_callEnd, a_runKind, a_runValue, a_framePos, a_frameEnd, a_savedKind, a_savedValue) => (f_emptyRow, f_consRow, f_maxWords, f_maxCells, f_maxLevels, f_maxFuel, f_openTop, f_count, f_cellCount, f_nodes, f_sound, f_startRow, f_row, f_valueNames, f_rowNames, f_nested, f_runDepth, f_level, f_spent, a_tokKind, a_tokArg, a_match, a_length, a_weight, a_text, a_openStack, a_cellKind, a_cellValue, a_nodeKind, a_partA, a_partB, a_parent, x0, x1, a_left, a_right, a_outerRow, a_outerStart, a_callPos, a_callEnd, a_runKind, a_runValue, a_framePos, a_frameEnd, a_savedKind, a_savedValue)
def xs_path (u : SX) (x0 : (Nat → Int32)) : SX := match u with
  | (f_emptyRow, f_consRow, f_maxWords, f_maxCells, f_maxLevels, f_maxFuel, f_openTop, f_count, f_cellCount, f_nodes, f_sound, f_startRow, f_row, f_valueNames, f_rowNames, f_nested, f_runDepth, f_level, f_spent, a_tokKind, a_tokArg, a_match, a_length, a_weight, a_text, a_openStack, a_cellKind, a_cellValue, a_nodeKind, a_partA, a_partB, a_parent, a_mark, _, a_left, a_right, a_outerRow, a_outerStart, a_callPos, a_callEnd, a_runKind, a_runValue, a_framePos, a_frameEnd, a_savedKind, a_savedValue) => (f_emptyRow, f_consRow, f_maxWords, f_maxCells, f_maxLevels, f_maxFuel, f_openTop, f_count, f_cellCount, f_nodes, f_sound, f_startRow, f_row, f_valueNames, f_rowNames, f_nested, f_runDepth, f_level, f_spent, a_tokKind, a_tokArg, a_match, a_length, a_weight, a_text, a_openStack, a_cellKind, a_cellValue, a_nodeKind, a_partA, a_partB, a_parent, a_mark, x0, a_left, a_right, a_outerRow, a_outerStart, a_callPos, a_callEnd, a_runKind, a_runValue, a_framePos, a_frameEnd, a_savedKind, a_savedValue)
def xs_rowNames_mark (u : SX) (x0 : Int32) (x1 : (Nat → Int32)) : SX := match u with
  | (f_emptyRow, f_consRow, f_maxWords, f_maxCells, f_maxLevels, f_maxFuel, f_openTop, f_count, f_cellCount, f_nodes, f_sound, f_startRow, f_row, f_valueNames, _, f_nested, f_runDepth, f_level, f_spent, a_tokKind, a_tokArg, a_match, a_length, a_weight, a_text, a_openStack, a_cellKind, a_cellValue, a_nodeKind, a_partA, a_partB, a_parent, _, a_path, a_left, a_right, a_outerRow, a_outerStart, a_callPos, a_callEnd, a_runKind, a_runValue, a_framePos, a_frameEnd, a_savedKind, a_savedValue) => (f_emptyRow, f_consRow, f_maxWords, f_maxCells, f_maxLevels, f_maxFuel, f_openTop, f_count, f_cellCount, f_nodes, f_sound, f_startRow, f_row, f_valueNames, x0, f_nested, f_runDepth, f_level, f_spent, a_tokKind, a_tokArg, a_match, a_length, a_weight, a_text, a_openStack, a_cellKind, a_cellValue, a_nodeKind, a_partA, a_partB, a_parent, x1, a_path, a_left, a_right, a_outerRow, a_outerStart, a_callPos, a_callEnd, a_runKind, a_runValue, a_framePos, a_frameEnd, a_savedKind, a_savedValue)
def xs_valueNames_mark (u : SX) (x0 : Int32) (x1 : (Nat → Int32)) : SX := match u with
  | (f_emptyRow, f_consRow, f_maxWords, f_maxCells, f_maxLevels, f_maxFuel, f_openTop, f_count, f_cellCount, f_nodes, f_sound, f_startRow, f_row, _, f_rowNames, f_nested, f_runDepth, f_level, f_spent, a_tokKind, a_tokArg, a_match, a_length, a_weight, a_text, a_openStack, a_cellKind, a_cellValue, a_nodeKind, a_partA, a_partB, a_parent, _, a_path, a_left, a_right, a_outerRow, a_outerStart, a_callPos, a_callEnd, a_runKind, a_runValue, a_framePos, a_frameEnd, a_savedKind, a_savedValue) => (f_emptyRow, f_consRow, f_maxWords, f_maxCells, f_maxLevels, f_maxFuel, f_openTop, f_count, f_cellCount, f_nodes, f_sound, f_startRow, f_row, x0, f_rowNames, f_nested, f_runDepth, f_level, f_spent, a_tokKind, a_tokArg, a_match, a_length, a_weight, a_text, a_openStack, a_cellKind, a_cellValue, a_nodeKind, a_partA, a_partB, a_parent, x1, a_path, a_left, a_right, a_outerRow, a_outerStart, a_callPos, a_callEnd, a_runKind, a_runValue, a_framePos, a_frameEnd, a_savedKind, a_savedValue)
def xs_text (u : SX) (x0 : (Nat → Int32)) : SX := match u with
  | (f_emptyRow, f_consRow, f_maxWords, f_maxCells, f_maxLevels, f_maxFuel, f_openTop, f_count, f_cellCount, f_nodes, f_sound, f_startRow, f_row, f_valueNames, f_rowNames, f_nested, f_runDepth, f_level, f_spent, a_tokKind, a_tokArg, a_match, a_length, a_weight, _, a_openStack, a_cellKind, a_cellValue, a_nodeKind, a_partA, a_partB, a_parent, a_mark, a_path, a_left, a_right, a_outerRow, a_outerStart, a_callPos, a_callEnd, a_runKind, a_runValue, a_framePos, a_frameEnd, a_savedKind, a_savedValue) => (f_emptyRow, f_consRow, f_maxWords, f_maxCells, f_maxLevels, f_maxFuel, f_openTop, f_count, f_cellCount, f_nodes, f_sound, f_startRow, f_row, f_valueNames, f_rowNames, f_nested, f_runDepth, f_level, f_spent, a_tokKind, a_tokArg, a_match, a_length, a_weight, x0, a_openStack, a_cellKind, a_cellValue, a_nodeKind, a_partA, a_partB, a_parent, a_mark, a_path, a_left, a_right, a_outerRow, a_outerStart, a_callPos, a_callEnd, a_runKind, a_runValue, a_framePos, a_frameEnd, a_savedKind, a_savedValue)
def xs_valueNames_rowNames_path (u : SX) (x0 : Int32) (x1 : Int32) (x2 : (Nat → Int32)) : SX := match u with
  | (f_emptyRow, f_consRow, f_maxWords, f_maxCells, f_maxLevels, f_maxFuel, f_openTop, f_count, f_cellCount, f_nodes, f_sound, f_startRow, f_row, _, _, f_nested, f_runDepth, f_level, f_spent, a_tokKind, a_tokArg, a_match, a_length, a_weight, a_text, a_openStack, a_cellKind, a_cellValue, a_nodeKind, a_partA, a_partB, a_parent, a_mark, _, a_left, a_right, a_outerRow, a_outerStart, a_callPos, a_callEnd, a_runKind, a_runValue, a_framePos, a_frameEnd, a_savedKind, a_savedValue) => (f_emptyRow, f_consRow, f_maxWords, f_maxCells, f_maxLevels, f_maxFuel, f_openTop, f_count, f_cellCount, f_nodes, f_sound, f_startRow, f_row, x0, x1, f_nested, f_runDepth, f_level, f_spent, a_tokKind, a_tokArg, a_match, a_length, a_weight, a_text, a_openStack, a_cellKind, a_cellValue, a_nodeKind, a_partA, a_partB, a_parent, a_mark, x2, a_left, a_right, a_outerRow, a_outerStart, a_callPos, a_callEnd, a_runKind, a_runValue, a_framePos, a_frameEnd, a_savedKind, a_savedValue)
def xs_count (u : SX) (x0 : Int32) : SX := match u with
  | (f_emptyRow, f_consRow, f_maxWords, f_maxCells, f_maxLevels, f_maxFuel, f_openTop, _, f_cellCount, f_nodes, f_sound, f_startRow, f_row, f_valueNames, f_rowNames, f_nested, f_runDepth, f_level, f_spent, a_tokKind, a_tokArg, a_match, a_length, a_weight, a_text, a_openStack, a_cellKind, a_cellValue, a_nodeKind, a_partA, a_partB, a_parent, a_mark, a_path, a_left, a_right, a_outerRow, a_outerStart, a_callPos, a_callEnd, a_runKind, a_runValue, a_framePos, a_frameEnd, a_savedKind, a_savedValue) => (f_emptyRow, f_consRow, f_maxWords, f_maxCells, f_maxLevels, f_maxFuel, f_openTop, x0, f_cellCount, f_nodes, f_sound, f_startRow, f_row, f_valueNames, f_rowNames, f_nested, f_runDepth, f_level, f_spent, a_tokKind, a_tokArg, a_match, a_length, a_weight, a_text, a_openStack, a_cellKind, a_cellValue, a_nodeKind, a_partA, a_partB, a_parent, a_mark, a_path, a_left, a_right, a_outerRow, a_outerStart, a_callPos, a_callEnd, a_runKind, a_runValue, a_framePos, a_frameEnd, a_savedKind, a_savedValue)
def xs_openTop_tokArg_length_openStack (u : SX) (x0 : Int32) (x1 : (Nat → Int32)) (x2 : (Nat → Int32)) (x3 : (Nat → Int32)) : SX := match u with
  | (f_emptyRow, f_consRow, f_maxWords, f_maxCells, f_maxLevels, f_maxFuel, _, f_count, f_cellCount, f_nodes, f_sound, f_startRow, f_row, f_valueNames, f_rowNames, f_nested, f_runDepth, f_level, f_spent, a_tokKind, _, a_match, _, a_weight, a_text, _, a_cellKind, a_cellValue, a_nodeKind, a_partA, a_partB, a_parent, a_mark, a_path, a_left, a_right, a_outerRow, a_outerStart, a_callPos, a_callEnd, a_runKind, a_runValue, a_framePos, a_frameEnd, a_savedKind, a_savedValue) => (f_emptyRow, f_consRow, f_maxWords, f_maxCells, f_maxLevels, f_maxFuel, x0, f_count, f_cellCount, f_nodes, f_sound, f_startRow, f_row, f_valueNames, f_rowNames, f_nested, f_runDepth, f_level, f_spent, a_tokKind, x1, a_match, x2, a_weight, a_text, x3, a_cellKind, a_cellValue, a_nodeKind, a_partA, a_partB, a_parent, a_mark, a_path, a_left, a_right, a_outerRow, a_outerStart, a_callPos, a_callEnd, a_runKind, a_runValue, a_framePos, a_frameEnd, a_savedKind, a_savedValue)
def xs_openTop_tokArg_match_length (u : SX) (x0 : Int32) (x1 : (Nat → Int32)) (x2 : (Nat → Int32)) (x3 : (Nat → Int32)) : SX := match u with
  | (f_emptyRow, f_consRow, f_maxWords, f_maxCells, f_maxLevels, f_maxFuel, _, f_count, f_cellCount, f_nodes, f_sound, f_startRow, f_row, f_valueNames, f_rowNames, f_nested, f_runDepth, f_level, f_spent, a_tokKind, _, _, _, a_weight, a_text, a_openStack, a_cellKind, a_cellValue, a_nodeKind, a_partA, a_partB, a_parent, a_mark, a_path, a_left, a_right, a_outerRow, a_outerStart, a_callPos, a_callEnd, a_runKind, a_runValue, a_framePos, a_frameEnd, a_savedKind, a_savedValue) => (f_emptyRow, f_consRow, f_maxWords, f_maxCells, f_maxLevels, f_maxFuel, x0, f_count, f_cellCount, f_nodes, f_sound, f_startRow, f_row, f_valueNames, f_rowNames, f_nested, f_runDepth, f_level, f_spent, a_tokKind, x1, x2, x3, a_weight, a_text, a_openStack, a_cellKind, a_cellValue, a_nodeKind, a_partA, a_partB, a_parent, a_mark, a_path, a_left, a_right, a_outerRow, a_outerStart, a_callPos, a_callEnd, a_runKind, a_runValue, a_framePos, a_frameEnd, a_savedKind, a_savedValue)
def xs_tokArg_length (u : SX) (x0 : (Nat → Int32)) (x1 : (Nat → Int32)) : SX := match u with
  | (f_emptyRow, f_consRow, f_maxWords, f_maxCells, f_maxLevels, f_maxFuel, f_openTop, f_count, f_cellCount, f_nodes, f_sound, f_startRow, f_row, f_valueNames, f_rowNames, f_nested, f_runDepth, f_level, f_spent, a_tokKind, _, a_match, _, a_weight, a_text, a_openStack, a_cellKind, a_cellValue, a_nodeKind, a_partA, a_partB, a_parent, a_mark, a_path, a_left, a_right, a_outerRow, a_outerStart, a_callPos, a_callEnd, a_runKind, a_runValue, a_framePos, a_frameEnd, a_savedKind, a_savedValue) => (f_emptyRow, f_consRow, f_maxWords, f_maxCells, f_maxLevels, f_maxFuel, f_openTop, f_count, f_cellCount, f_nodes, f_sound, f_startRow, f_row, f_valueNames, f_rowNames, f_nested, f_runDepth, f_level, f_spent, a_tokKind, x0, a_match, x1, a_weight, a_text, a_openStack, a_cellKind, a_cellValue, a_nodeKind, a_partA, a_partB, a_parent, a_mark, a_path, a_left, a_right, a_outerRow, a_outerStart, a_callPos, a_callEnd, a_runKind, a_runValue, a_framePos, a_frameEnd, a_savedKind, a_savedValue)
def xs_tokKind (u : SX) (x0 : (Nat → Int32)) : SX := match u with
  | (f_emptyRow, f_consRow, f_maxWords, f_maxCells, f_maxLevels, f_maxFuel, f_openTop, f_count, f_cellCount, f_nodes, f_sound, f_startRow, f_row, f_valueNames, f_rowNames, f_nested, f_runDepth, f_level, f_spent, _, a_tokArg, a_match, a_length, a_weight, a_text, a_openStack, a_cellKind, a_cellValue, a_nodeKind, a_partA, a_partB, a_parent, a_mark, a_path, a_left, a_right, a_outerRow, a_outerStart, a_callPos, a_callEnd, a_runKind, a_runValue, a_framePos, a_frameEnd, a_savedKind, a_savedValue) => (f_emptyRow, f_consRow, f_maxWords, f_maxCells, f_maxLevels, f_maxFuel, f_openTop, f_count, f_cellCount, f_nodes, f_sound, f_startRow, f_row, f_valueNames, f_rowNames, f_nested, f_runDepth, f_level, f_spent, x0, a_tokArg, a_match, a_length, a_weight, a_text, a_openStack, a_cellKind, a_cellValue, a_nodeKind, a_partA, a_partB, a_parent, a_mark, a_path, a_left, a_right, a_outerRow, a_outerStart, a_callPos, a_callEnd, a_runKind, a_runValue, a_framePos, a_frameEnd, a_savedKind, a_savedValue)
def xs_weight (u : SX) (x0 : (Nat → Int32)) : SX := match u with
  | (f_emptyRow, f_consRow, f_maxWords, f_maxCells, f_maxLevels, f_maxFuel, f_openTop, f_count, f_cellCount, f_nodes, f_sound, f_startRow, f_row, f_valueNames, f_rowNames, f_nested, f_runDepth, f_level, f_spent, a_tokKind, a_tokArg, a_match, a_length, _, a_text, a_openStack, a_cellKind, a_cellValue, a_nodeKind, a_partA, a_partB, a_parent, a_mark, a_path, a_left, a_right, a_outerRow, a_outerStart, a_callPos, a_callEnd, a_runKind, a_runValue, a_framePos, a_frameEnd, a_savedKind, a_savedValue) => (f_emptyRow, f_consRow, f_maxWords, f_maxCells, f_maxLevels, f_maxFuel, f_openTop, f_count, f_cellCount, f_nodes, f_sound, f_startRow, f_row, f_valueNames, f_rowNames, f_nested, f_runDepth, f_level, f_spent, a_tokKind, a_tokArg, a_match, a_length, x0, a_text, a_openStack, a_cellKind, a_cellValue, a_nodeKind, a_partA, a_partB, a_parent, a_mark, a_path, a_left, a_right, a_outerRow, a_outerStart, a_callPos, a_callEnd, a_runKind, a_runValue, a_framePos, a_frameEnd, a_savedKind, a_savedValue)
def xs_openTop_length_weight (u : SX) (x0 : Int32) (x1 : (Nat → Int32)) (x2 : (Nat → Int32)) : SX := match u with
  | (f_emptyRow, f_consRow, f_maxWords, f_maxCells, f_maxLevels, f_maxFuel, _, f_count, f_cellCount, f_nodes, f_sound, f_startRow, f_row, f_valueNames, f_rowNames, f_nested, f_runDepth, f_level, f_spent, a_tokKind, a_tokArg, a_match, _, _, a_text, a_openStack, a_cellKind, a_cellValue, a_nodeKind, a_partA, a_partB, a_parent, a_mark, a_path, a_left, a_right, a_outerRow, a_outerStart, a_callPos, a_callEnd, a_runKind, a_runValue, a_framePos, a_frameEnd, a_savedKind, a_savedValue) => (f_emptyRow, f_consRow, f_maxWords, f_maxCells, f_maxLevels, f_maxFuel, x0, f_count, f_cellCount, f_nodes, f_sound, f_startRow, f_row, f_valueNames, f_rowNames, f_nested, f_runDepth, f_level, f_spent, a_tokKind, a_tokArg, a_match, x1, x2, a_text, a_openStack, a_cellKind, a_cellValue, a_nodeKind, a_partA, a_partB, a_parent, a_mark, a_path, a_left, a_right, a_outerRow, a_outerStart, a_callPos, a_callEnd, a_runKind, a_runValue, a_framePos, a_frameEnd, a_savedKind, a_savedValue)
def xs_cellCount_cellKind_cellValue (u : SX) (x0 : Int32) (x1 : (Nat → Int32)) (x2 : (Nat → Int32)) : SX := match u with
  | (f_emptyRow, f_consRow, f_maxWords, f_maxCells, f_maxLevels, f_maxFuel, f_openTop, f_count, _, f_nodes, f_sound, f_startRow, f_row, f_valueNames, f_rowNames, f_nested, f_runDepth, f_level, f_spent, a_tokKind, a_tokArg, a_match, a_length, a_weight, a_text, a_openStack, _, _, a_nodeKind, a_partA, a_partB, a_parent, a_mark, a_path, a_left, a_right, a_outerRow, a_outerStart, a_callPos, a_callEnd, a_runKind, a_runValue, a_framePos, a_frameEnd, a_savedKind, a_savedValue) => (f_emptyRow, f_consRow, f_maxWords, f_maxCells, f_maxLevels, f_maxFuel, f_openTop, f_count, x0, f_nodes, f_sound, f_startRow, f_row, f_valueNames, f_rowNames, f_nested, f_runDepth, f_level, f_spent, a_tokKind, a_tokArg, a_match, a_length, a_weight, a_text, a_openStack, x1, x2, a_nodeKind, a_partA, a_partB, a_parent, a_mark, a_path, a_left, a_right, a_outerRow, a_outerStart, a_callPos, a_callEnd, a_runKind, a_runValue, a_framePos, a_frameEnd, a_savedKind, a_savedValue)
def xs_cellCount (u : SX) (x0 : Int32) : SX := match u with
  | (f_emptyRow, f_consRow, f_maxWords, f_maxCells, f_maxLevels, f_maxFuel, f_openTop, f_count, _, f_nodes, f_sound, f_startRow, f_row, f_valueNames, f_rowNames, f_nested, f_runDepth, f_level, f_spent, a_tokKind, a_tokArg, a_match, a_length, a_weight, a_text, a_openStack, a_cellKind, a_cellValue, a_nodeKind, a_partA, a_partB, a_parent, a_mark, a_path, a_left, a_right, a_outerRow, a_outerStart, a_callPos, a_callEnd, a_runKind, a_runValue, a_framePos, a_frameEnd, a_savedKind, a_savedValue) => (f_emptyRow, f_consRow, f_maxWords, f_maxCells, f_maxLevels, f_maxFuel, f_openTop, f_count, x0, f_nodes, f_sound, f_startRow, f_row, f_valueNames, f_rowNames, f_nested, f_runDepth, f_level, f_spent, a_tokKind, a_tokArg, a_match, a_length, a_weight, a_text, a_openStack, a_cellKind, a_cellValue, a_nodeKind, a_partA, a_partB, a_parent, a_mark, a_path, a_left, a_right, a_outerRow, a_outerStart, a_callPos, a_callEnd, a_runKind, a_runValue, a_framePos, a_frameEnd, a_savedKind, a_savedValue)
def xs_level_framePos_frameEnd_savedKind (u : SX) (x0 : Int32) (x1 : (Nat → Int32)) (x2 : (Nat → Int32)) (x3 : (Nat → Int32)) : SX := match u with
  | (f_emptyRow, f_consRow, f_maxWords, f_maxCells, f_maxLevels, f_maxFuel, f_openTop, f_count, f_cellCount, f_nodes, f_sound, f_startRow, f_row, f_valueNames, f_rowNames, f_nested, f_runDepth, _, f_spent, a_tokKind, a_tokArg, a_match, a_length, a_weight, a_text, a_openStack, a_cellKind, a_cellValue, a_nodeKind, a_partA, a_partB, a_parent, a_mark, a_path, a_left, a_right, a_outerRow, a_outerStart, a_callPos, a_callEnd, a_runKind, a_runValue, _, _, _, a_savedValue) => (f_emptyRow, f_consRow, f_maxWords, f_maxCells, f_maxLevels, f_maxFuel, f_openTop, f_count, f_cellCount, f_nodes, f_sound, f_startRow, f_row, f_valueNames, f_rowNames, f_nested, f_runDepth, x0, f_spent, a_tokKind, a_tokArg, a_match, a_length, a_weight, a_text, a_openStack, a_cellKind, a_cellValue, a_nodeKind, a_partA, a_partB, a_parent, a_mark, a_path, a_left, a_right, a_outerRow, a_outerStart, a_callPos, a_callEnd, a_runKind, a_runValue, x1, x2, x3, a_savedValue)
def xs_runDepth_level_spent (u : SX) (x0 : Int32) (x1 : Int32) (x2 : Int32) : SX := match u with
  | (f_emptyRow, f_consRow, f_maxWords, f_maxCells, f_maxLevels, f_maxFuel, f_openTop, f_count, f_cellCount, f_nodes, f_sound, f_startRow, f_row, f_valueNames, f_rowNames, f_nested, _, _, _, a_tokKind, a_tokArg, a_match, a_length, a_weight, a_text, a_openStack, a_cellKind, a_cellValue, a_nodeKind, a_partA, a_partB, a_parent, a_mark, a_path, a_left, a_right, a_outerRow, a_outerStart, a_callPos, a_callEnd, a_runKind, a_runValue, a_framePos, a_frameEnd, a_savedKind, a_savedValue) => (f_emptyRow, f_consRow, f_maxWords, f_maxCells, f_maxLevels, f_maxFuel, f_openTop, f_count, f_cellCount, f_nodes, f_sound, f_startRow, f_row, f_valueNames, f_rowNames, f_nested, x0, x1, x2, a_tokKind, a_tokArg, a_match, a_length, a_weight, a_text, a_openStack, a_cellKind, a_cellValue, a_nodeKind, a_partA, a_partB, a_parent, a_mark, a_path, a_left, a_right, a_outerRow, a_outerStart, a_callPos, a_callEnd, a_runKind, a_runValue, a_framePos, a_frameEnd, a_savedKind, a_savedValue)
def xs_runKind_runValue (u : SX) (x0 : (Nat → Int32)) (x1 : (Nat → Int32)) : SX := match u with
  | (f_emptyRow, f_consRow, f_maxWords, f_maxCells, f_maxLevels, f_maxFuel, f_openTop, f_count, f_cellCount, f_nodes, f_sound, f_startRow, f_row, f_valueNames, f_rowNames, f_nested, f_runDepth, f_level, f_spent, a_tokKind, a_tokArg, a_match, a_length, a_weight, a_text, a_openStack, a_cellKind, a_cellValue, a_nodeKind, a_partA, a_partB, a_parent, a_mark, a_path, a_left, a_right, a_outerRow, a_outerStart, a_callPos, a_callEnd, _, _, a_framePos, a_frameEnd, a_savedKind, a_savedValue) => (f_emptyRow, f_consRow, f_maxWords, f_maxCells, f_maxLevels, f_maxFuel, f_openTop, f_count, f_cellCount, f_nodes, f_sound, f_startRow, f_row, f_valueNames, f_rowNames, f_nested, f_runDepth, f_level, f_spent, a_tokKind, a_tokArg, a_match, a_length, a_weight, a_text, a_openStack, a_cellKind, a_cellValue, a_nodeKind, a_partA, a_partB, a_parent, a_mark, a_path, a_left, a_right, a_outerRow, a_outerStart, a_callPos, a_callEnd, x0, x1, a_framePos, a_frameEnd, a_savedKind, a_savedValue)
def xs_runDepth_runKind_runValue (u : SX) (x0 : Int32) (x1 : (Nat → Int32)) (x2 : (Nat → Int32)) : SX := match u with
  | (f_emptyRow, f_consRow, f_maxWords, f_maxCells, f_maxLevels, f_maxFuel, f_openTop, f_count, f_cellCount, f_nodes, f_sound, f_startRow, f_row, f_valueNames, f_rowNames, f_nested, _, f_level, f_spent, a_tokKind, a_tokArg, a_match, a_length, a_weight, a_text, a_openStack, a_cellKind, a_cellValue, a_nodeKind, a_partA, a_partB, a_parent, a_mark, a_path, a_left, a_right, a_outerRow, a_outerStart, a_callPos, a_callEnd, _, _, a_framePos, a_frameEnd, a_savedKind, a_savedValue) => (f_emptyRow, f_consRow, f_maxWords, f_maxCells, f_maxLevels, f_maxFuel, f_openTop, f_count, f_cellCount, f_nodes, f_sound, f_startRow, f_row, f_valueNames, f_rowNames, f_nested, x0, f_level, f_spent, a_tokKind, a_tokArg, a_match, a_length, a_weight, a_text, a_openStack, a_cellKind, a_cellValue, a_nodeKind, a_partA, a_partB, a_parent, a_mark, a_path, a_left, a_right, a_outerRow, a_outerStart, a_callPos, a_callEnd, x1, x2, a_framePos, a_frameEnd, a_savedKind, a_savedValue)
def xs_runDepth (u : SX) (x0 : Int32) : SX := match u with
  | (f_emptyRow, f_consRow, f_maxWords, f_maxCells, f_maxLevels, f_maxFuel, f_openTop, f_count, f_cellCount, f_nodes, f_sound, f_startRow, f_row, f_valueNames, f_rowNames, f_nested, _, f_level, f_spent, a_tokKind, a_tokArg, a_match, a_length, a_weight, a_text, a_openStack, a_cellKind, a_cellValue, a_nodeKind, a_partA, a_partB, a_parent, a_mark, a_path, a_left, a_right, a_outerRow, a_outerStart, a_callPos, a_callEnd, a_runKind, a_runValue, a_framePos, a_frameEnd, a_savedKind, a_savedValue) => (f_emptyRow, f_consRow, f_maxWords, f_maxCells, f_maxLevels, f_maxFuel, f_openTop, f_count, f_cellCount, f_nodes, f_sound, f_startRow, f_row, f_valueNames, f_rowNames, f_nested, x0, f_level, f_spent, a_tokKind, a_tokArg, a_match, a_length, a_weight, a_text, a_openStack, a_cellKind, a_cellValue, a_nodeKind, a_partA, a_partB, a_parent, a_mark, a_path, a_left, a_right, a_outerRow, a_outerStart, a_callPos, a_callEnd, a_runKind, a_runValue, a_framePos, a_frameEnd, a_savedKind, a_savedValue)
def xs_savedKind_savedValue (u : SX) (x0 : (Nat → Int32)) (x1 : (Nat → Int32)) : SX := match u with
  | (f_emptyRow, f_consRow, f_maxWords, f_maxCells, f_maxLevels, f_maxFuel, f_openTop, f_count, f_cellCount, f_nodes, f_sound, f_startRow, f_row, f_valueNames, f_rowNames, f_nested, f_runDepth, f_level, f_spent, a_tokKind, a_tokArg, a_match, a_length, a_weight, a_text, a_openStack, a_cellKind, a_cellValue, a_nodeKind, a_partA, a_partB, a_parent, a_mark, a_path, a_left, a_right, a_outerRow, a_outerStart, a_callPos, a_callEnd, a_runKind, a_runValue, a_framePos, a_frameEnd, _, _) => (f_emptyRow, f_consRow, f_maxWords, f_maxCells, f_maxLevels, f_maxFuel, f_openTop, f_count, f_cellCount, f_nodes, f_sound, f_startRow, f_row, f_valueNames, f_rowNames, f_nested, f_runDepth, f_level, f_spent, a_tokKind, a_tokArg, a_match, a_length, a_weight, a_text, a_openStack, a_cellKind, a_cellValue, a_nodeKind, a_partA, a_partB, a_parent, a_mark, a_path, a_left, a_right, a_outerRow, a_outerStart, a_callPos, a_callEnd, a_runKind, a_runValue, a_framePos, a_frameEnd, x0, x1)
def xs_runValue (u : SX) (x0 : (Nat → Int32)) : SX := match u with
  | (f_emptyRow, f_consRow, f_maxWords, f_maxCells, f_maxLevels, f_maxFuel, f_openTop, f_count, f_cellCount, f_nodes, f_sound, f_startRow, f_row, f_valueNames, f_rowNames, f_nested, f_runDepth, f_level, f_spent, a_tokKind, a_tokArg, a_match, a_length, a_weight, a_text, a_openStack, a_cellKind, a_cellValue, a_nodeKind, a_partA, a_partB, a_parent, a_mark, a_path, a_left, a_right, a_outerRow, a_outerStart, a_callPos, a_callEnd, a_runKind, _, a_framePos, a_frameEnd, a_savedKind, a_savedValue) => (f_emptyRow, f_consRow, f_maxWords, f_maxCells, f_maxLevels, f_maxFuel, f_openTop, f_count, f_cellCount, f_nodes, f_sound, f_startRow, f_row, f_valueNames, f_rowNames, f_nested, f_runDepth, f_level, f_spent, a_tokKind, a_tokArg, a_match, a_length, a_weight, a_text, a_openStack, a_cellKind, a_cellValue, a_nodeKind, a_partA, a_partB, a_parent, a_mark, a_path, a_left, a_right, a_outerRow, a_outerStart, a_callPos, a_callEnd, a_runKind, x0, a_framePos, a_frameEnd, a_savedKind, a_savedValue)
def xs_framePos (u : SX) (x0 : (Nat → Int32)) : SX := match u with
  | (f_emptyRow, f_consRow, f_maxWords, f_maxCells, f_maxLevels, f_maxFuel, f_openTop, f_count, f_cellCount, f_nodes, f_sound, f_startRow, f_row, f_valueNames, f_rowNames, f_nested, f_runDepth, f_level, f_spent, a_tokKind, a_tokArg, a_match, a_length, a_weight, a_text, a_openStack, a_cellKind, a_cellValue, a_nodeKind, a_partA, a_partB, a_parent, a_mark, a_path, a_left, a_right, a_outerRow, a_outerStart, a_callPos, a_callEnd, a_runKind, a_runValue, _, a_frameEnd, a_savedKind, a_savedValue) => (f_emptyRow, f_consRow, f_maxWords, f_maxCells, f_maxLevels, f_maxFuel, f_openTop, f_count, f_cellCount, f_nodes, f_sound, f_startRow, f_row, f_valueNames, f_rowNames, f_nested, f_runDepth, f_level, f_spent, a_tokKind, a_tokArg, a_match, a_length, a_weight, a_text, a_openStack, a_cellKind, a_cellValue, a_nodeKind, a_partA, a_partB, a_parent, a_mark, a_path, a_left, a_right, a_outerRow, a_outerStart, a_callPos, a_callEnd, a_runKind, a_runValue, x0, a_frameEnd, a_savedKind, a_savedValue)
def xs_spent (u : SX) (x0 : Int32) : SX := match u with
  | (f_emptyRow, f_consRow, f_maxWords, f_maxCells, f_maxLevels, f_maxFuel, f_openTop, f_count, f_cellCount, f_nodes, f_sound, f_startRow, f_row, f_valueNames, f_rowNames, f_nested, f_runDepth, f_level, _, a_tokKind, a_tokArg, a_match, a_length, a_weight, a_text, a_openStack, a_cellKind, a_cellValue, a_nodeKind, a_partA, a_partB, a_parent, a_mark, a_path, a_left, a_right, a_outerRow, a_outerStart, a_callPos, a_callEnd, a_runKind, a_runValue, a_framePos, a_frameEnd, a_savedKind, a_savedValue) => (f_emptyRow, f_consRow, f_maxWords, f_maxCells, f_maxLevels, f_maxFuel, f_openTop, f_count, f_cellCount, f_nodes, f_sound, f_startRow, f_row, f_valueNames, f_rowNames, f_nested, f_runDepth, f_level, x0, a_tokKind, a_tokArg, a_match, a_length, a_weight, a_text, a_openStack, a_cellKind, a_cellValue, a_nodeKind, a_partA, a_partB, a_parent, a_mark, a_path, a_left, a_right, a_outerRow, a_outerStart, a_callPos, a_callEnd, a_runKind, a_runValue, a_framePos, a_frameEnd, a_savedKind, a_savedValue)
def xs_level (u : SX) (x0 : Int32) : SX := match u with
  | (f_emptyRow, f_consRow, f_maxWords, f_maxCells, f_maxLevels, f_maxFuel, f_openTop, f_count, f_cellCount, f_nodes, f_sound, f_startRow, f_row, f_valueNames, f_rowNames, f_nested, f_runDepth, _, f_spent, a_tokKind, a_tokArg, a_match, a_length, a_weight, a_text, a_openStack, a_cellKind, a_cellValue, a_nodeKind, a_partA, a_partB, a_parent, a_mark, a_path, a_left, a_right, a_outerRow, a_outerStart, a_callPos, a_callEnd, a_runKind, a_runValue, a_framePos, a_frameEnd, a_savedKind, a_savedValue) => (f_emptyRow, f_consRow, f_maxWords, f_maxCells, f_maxLevels, f_maxFuel, f_openTop, f_count, f_cellCount, f_nodes, f_sound, f_startRow, f_row, f_valueNames, f_rowNames, f_nested, f_runDepth, x0, f_spent, a_tokKind, a_tokArg, a_match, a_length, a_weight, a_text, a_openStack, a_cellKind, a_cellValue, a_nodeKind, a_partA, a_partB, a_parent, a_mark, a_path, a_left, a_right, a_outerRow, a_outerStart, a_callPos, a_callEnd, a_runKind, a_runValue, a_framePos, a_frameEnd, a_savedKind, a_savedValue)
def xs_cellKind_cellValue (u : SX) (x0 : (Nat → Int32)) (x1 : (Nat → Int32)) : SX := match u with
  | (f_emptyRow, f_consRow, f_maxWords, f_maxCells, f_maxLevels, f_maxFuel, f_openTop, f_count, f_cellCount, f_nodes, f_sound, f_startRow, f_row, f_valueNames, f_rowNames, f_nested, f_runDepth, f_level, f_spent, a_tokKind, a_tokArg, a_match, a_length, a_weight, a_text, a_openStack, _, _, a_nodeKind, a_partA, a_partB, a_parent, a_mark, a_path, a_left, a_right, a_outerRow, a_outerStart, a_callPos, a_callEnd, a_runKind, a_runValue, a_framePos, a_frameEnd, a_savedKind, a_savedValue) => (f_emptyRow, f_consRow, f_maxWords, f_maxCells, f_maxLevels, f_maxFuel, f_openTop, f_count, f_cellCount, f_nodes, f_sound, f_startRow, f_row, f_valueNames, f_rowNames, f_nested, f_runDepth, f_level, f_spent, a_tokKind, a_tokArg, a_match, a_length, a_weight, a_text, a_openStack, x0, x1, a_nodeKind, a_partA, a_partB, a_parent, a_mark, a_path, a_left, a_right, a_outerRow, a_outerStart, a_callPos, a_callEnd, a_runKind, a_runValue, a_framePos, a_frameEnd, a_savedKind, a_savedValue)
def xs_valueNames_rowNames_text (u : SX) (x0 : Int32) (x1 : Int32) (x2 : (Nat → Int32)) : SX := match u with
  | (f_emptyRow, f_consRow, f_maxWords, f_maxCells, f_maxLevels, f_maxFuel, f_openTop, f_count, f_cellCount, f_nodes, f_sound, f_startRow, f_row, _, _, f_nested, f_runDepth, f_level, f_spent, a_tokKind, a_tokArg, a_match, a_length, a_weight, _, a_openStack, a_cellKind, a_cellValue, a_nodeKind, a_partA, a_partB, a_parent, a_mark, a_path, a_left, a_right, a_outerRow, a_outerStart, a_callPos, a_callEnd, a_runKind, a_runValue, a_framePos, a_frameEnd, a_savedKind, a_savedValue) => (f_emptyRow, f_consRow, f_maxWords, f_maxCells, f_maxLevels, f_maxFuel, f_openTop, f_count, f_cellCount, f_nodes, f_sound, f_startRow, f_row, x0, x1, f_nested, f_runDepth, f_level, f_spent, a_tokKind, a_tokArg, a_match, a_length, a_weight, x2, a_openStack, a_cellKind, a_cellValue, a_nodeKind, a_partA, a_partB, a_parent, a_mark, a_path, a_left, a_right, a_outerRow, a_outerStart, a_callPos, a_callEnd, a_runKind, a_runValue, a_framePos, a_frameEnd, a_savedKind, a_savedValue)
def ys_nodes_nodeKind_left_right_cls_def_symbol_finite (u : SY) (x0 : Int32) (x1 : (Nat → Int32)) (x2 : (Nat → Int32)) (x3 : (Nat → Int32)) (x4 : (Nat → Int32)) (x5 : (Nat → Int32)) (x6 : (Nat → Int32)) (x7 : (Nat → Int32)) : SY := match u with
  | (f_maxWords, f_maxCells, f_maxLevels, f_maxFuel, f_count, f_depth, f_copyDepth, f_agenda, f_listSize, _, f_first, f_last, a_kinds, a_args, a_size, a_cellKind, a_cellVal, a_copyKind, a_copyVal, a_agKind, a_agVal, a_agLevel, a_list, a_pend, a_outer, a_begin, a_todo, _, _, _, _, _, _, _) => (f_maxWords, f_maxCells, f_maxLevels, f_maxFuel, f_count, f_depth, f_copyDepth, f_agenda, f_listSize, x0, f_first, f_last, a_kinds, a_args, a_size, a_cellKind, a_cellVal, a_copyKind, a_copyVal, a_agKind, a_agVal, a_agLevel, a_list, a_pend, a_outer, a_begin, a_todo, x1, x2, x3, x4, x5, x6, x7)
def ys_cls (u : SY) (x0 : (Nat → Int32)) : SY := match u with
  | (f_maxWords, f_maxCells, f_maxLevels, f_maxFuel, f_count, f_depth, f_copyDepth, f_agenda, f_listSize, f_nodes, f_first, f_last, a_kinds, a_args, a_size, a_cellKind, a_cellVal, a_copyKind, a_copyVal, a_agKind, a_agVal, a_agLevel, a_list, a_pend, a_outer, a_begin, a_todo, a_nodeKind, a_left, a_right, _, a_def, a_symbol, a_finite) => (f_maxWords, f_maxCells, f_maxLevels, f_maxFuel, f_count, f_depth, f_copyDepth, f_agenda, f_listSize, f_nodes, f_first, f_last, a_kinds, a_args, a_size, a_cellKind, a_cellVal, a_copyKind, a_copyVal, a_agKind, a_agVal, a_agLevel, a_list, a_pend, a_outer, a_begin, a_todo, a_nodeKind, a_left, a_right, x0, a_def, a_symbol, a_finite)
def ys_finite (u : SY) (x0 : (Nat → Int32)) : SY := match u with
  | (f_maxWords, f_maxCells, f_maxLevels, f_maxFuel, f_count, f_depth, f_copyDepth, f_agenda, f_listSize, f_nodes, f_first, f_last, a_kinds, a_args, a_size, a_cellKind, a_cellVal, a_copyKind, a_copyVal, a_agKind, a_agVal, a_agLevel, a_list, a_pend, a_outer, a_begin, a_todo, a_nodeKind, a_left, a_right, a_cls, a_def, a_symbol, _) => (f_maxWords, f_maxCells, f_maxLevels, f_maxFuel, f_count, f_depth, f_copyDepth, f_agenda, f_listSize, f_nodes, f_first, f_last, a_kinds, a_args, a_size, a_cellKind, a_cellVal, a_copyKind, a_copyVal, a_agKind, a_agVal, a_agLevel, a_list, a_pend, a_outer, a_begin, a_todo, a_nodeKind, a_left, a_right, a_cls, a_def, a_symbol, x0)
def ys_def (u : SY) (x0 : (Nat → Int32)) : SY := match u with
  | (f_maxWords, f_maxCells, f_maxLevels, f_maxFuel, f_count, f_depth, f_copyDepth, f_agenda, f_listSize, f_nodes, f_first, f_last, a_kinds, a_args, a_size, a_cellKind, a_cellVal, a_copyKind, a_copyVal, a_agKind, a_agVal, a_agLevel, a_list, a_pend, a_outer, a_begin, a_todo, a_nodeKind, a_left, a_right, a_cls, _, a_symbol, a_finite) => (f_maxWords, f_maxCells, f_maxLevels, f_maxFuel, f_count, f_depth, f_copyDepth, f_agenda, f_listSize, f_nodes, f_first, f_last, a_kinds, a_args, a_size, a_cellKind, a_cellVal, a_copyKind, a_copyVal, a_agKind, a_agVal, a_agLevel, a_list, a_pend, a_outer, a_begin, a_todo, a_nodeKind, a_left, a_right, a_cls, x0, a_symbol, a_finite)
def ys_last (u : SY) (x0 : Int32) : SY := match u with
  | (f_maxWords, f_maxCells, f_maxLevels, f_maxFuel, f_count, f_depth, f_copyDepth, f_agenda, f_listSize, f_nodes, f_first, _, a_kinds, a_args, a_size, a_cellKind, a_cellVal, a_copyKind, a_copyVal, a_agKind, a_agVal, a_agLevel, a_list, a_pend, a_outer, a_begin, a_todo, a_nodeKind, a_left, a_right, a_cls, a_def, a_symbol, a_finite) => (f_maxWords, f_maxCells, f_maxLevels, f_maxFuel, f_count, f_depth, f_copyDepth, f_agenda, f_listSize, f_nodes, f_first, x0, a_kinds, a_args, a_size, a_cellKind, a_cellVal, a_copyKind, a_copyVal, a_agKind, a_agVal, a_agLevel, a_list, a_pend, a_outer, a_begin, a_todo, a_nodeKind, a_left, a_right, a_cls, a_def, a_symbol, a_finite)
def ys_outer_begin (u : SY) (x0 : (Nat → Int32)) (x1 : (Nat → Int32)) : SY := match u with
  | (f_maxWords, f_maxCells, f_maxLevels, f_maxFuel, f_count, f_depth, f_copyDepth, f_agenda, f_listSize, f_nodes, f_first, f_last, a_kinds, a_args, a_size, a_cellKind, a_cellVal, a_copyKind, a_copyVal, a_agKind, a_agVal, a_agLevel, a_list, a_pend, _, _, a_todo, a_nodeKind, a_left, a_right, a_cls, a_def, a_symbol, a_finite) => (f_maxWords, f_maxCells, f_maxLevels, f_maxFuel, f_count, f_depth, f_copyDepth, f_agenda, f_listSize, f_nodes, f_first, f_last, a_kinds, a_args, a_size, a_cellKind, a_cellVal, a_copyKind, a_copyVal, a_agKind, a_agVal, a_agLevel, a_list, a_pend, x0, x1, a_todo, a_nodeKind, a_left, a_right, a_cls, a_def, a_symbol, a_finite)
def ys_first_last (u : SY) (x0 : Int32) (x1 : Int32) : SY := match u with
  | (f_maxWords, f_maxCells, f_maxLevels, f_maxFuel, f_count, f_depth, f_copyDepth, f_agenda, f_listSize, f_nodes, _, _, a_kinds, a_args, a_size, a_cellKind, a_cellVal, a_copyKind, a_copyVal, a_agKind, a_agVal, a_agLevel, a_list, a_pend, a_outer, a_begin, a_todo, a_nodeKind, a_left, a_right, a_cls, a_def, a_symbol, a_finite) => (f_maxWords, f_maxCells, f_maxLevels, f_maxFuel, f_count, f_depth, f_copyDepth, f_agenda, f_listSize, f_nodes, x0, x1, a_kinds, a_args, a_size, a_cellKind, a_cellVal, a_copyKind, a_copyVal, a_agKind, a_agVal, a_agLevel, a_list, a_pend, a_outer, a_begin, a_todo, a_nodeKind, a_left, a_right, a_cls, a_def, a_symbol, a_finite)
def ys_nodes (u : SY) (x0 : Int32) : SY := match u with
  | (f_maxWords, f_maxCells, f_maxLevels, f_maxFuel, f_count, f_depth, f_copyDepth, f_agenda, f_listSize, _, f_first, f_last, a_kinds, a_args, a_size, a_cellKind, a_cellVal, a_copyKind, a_copyVal, a_agKind, a_agVal, a_agLevel, a_list, a_pend, a_outer, a_begin, a_todo, a_nodeKind, a_left, a_right, a_cls, a_def, a_symbol, a_finite) => (f_maxWords, f_maxCells, f_maxLevels, f_maxFuel, f_count, f_depth, f_copyDepth, f_agenda, f_listSize, x0, f_first, f_last, a_kinds, a_args, a_size, a_cellKind, a_cellVal, a_copyKind, a_copyVal, a_agKind, a_agVal, a_agLevel, a_list, a_pend, a_outer, a_begin, a_todo, a_nodeKind, a_left, a_right, a_cls, a_def, a_symbol, a_finite)
def ys_pend (u : SY) (x0 : (Nat → Int32)) : SY := match u with
  | (f_maxWords, f_maxCells, f_maxLevels, f_maxFuel, f_count, f_depth, f_copyDepth, f_agenda, f_listSize, f_nodes, f_first, f_last, a_kinds, a_args, a_size, a_cellKind, a_cellVal, a_copyKind, a_copyVal, a_agKind, a_agVal, a_agLevel, a_list, _, a_outer, a_begin, a_todo, a_nodeKind, a_left, a_right, a_cls, a_def, a_symbol, a_finite) => (f_maxWords, f_maxCells, f_maxLevels, f_maxFuel, f_count, f_depth, f_copyDepth, f_agenda, f_listSize, f_nodes, f_first, f_last, a_kinds, a_args, a_size, a_cellKind, a_cellVal, a_copyKind, a_copyVal, a_agKind, a_agVal, a_agLevel, a_list, x0, a_outer, a_begin, a_todo, a_nodeKind, a_left, a_right, a_cls, a_def, a_symbol, a_finite)
def ys_listSize_list (u : SY) (x0 : Int32) (x1 : (Nat → Int32)) : SY := match u with
  | (f_maxWords, f_maxCells, f_maxLevels, f_maxFuel, f_count, f_depth, f_copyDepth, f_agenda, _, f_nodes, f_first, f_last, a_kinds, a_args, a_size, a_cellKind, a_cellVal, a_copyKind, a_copyVal, a_agKind, a_agVal, a_agLevel, _, a_pend, a_outer, a_begin, a_todo, a_nodeKind, a_left, a_right, a_cls, a_def, a_symbol, a_finite) => (f_maxWords, f_maxCells, f_maxLevels, f_maxFuel, f_count, f_depth, f_copyDepth, f_agenda, x0, f_nodes, f_first, f_last, a_kinds, a_args, a_size, a_cellKind, a_cellVal, a_copyKind, a_copyVal, a_agKind, a_agVal, a_agLevel, x1, a_pend, a_outer, a_begin, a_todo, a_nodeKind, a_left, a_right, a_cls, a_def, a_symbol, a_finite)
def ys_args_size (u : SY) (x0 : (Nat → Int32)) (x1 : (Nat → Int32)) : SY := match u with
  | (f_maxWords, f_maxCells, f_maxLevels, f_maxFuel, f_count, f_depth, f_copyDepth, f_agenda, f_listSize, f_nodes, f_first, f_last, a_kinds, _, _, a_cellKind, a_cellVal, a_copyKind, a_copyVal, a_agKind, a_agVal, a_agLevel, a_list, a_pend, a_outer, a_begin, a_todo, a_nodeKind, a_left, a_right, a_cls, a_def, a_symbol, a_finite) => (f_maxWords, f_maxCells, f_maxLevels, f_maxFuel, f_count, f_depth, f_copyDepth, f_agenda, f_listSize, f_nodes, f_first, f_last, a_kinds, x0, x1, a_cellKind, a_cellVal, a_copyKind, a_copyVal, a_agKind, a_agVal, a_agLevel, a_list, a_pend, a_outer, a_begin, a_todo, a_nodeKind, a_left, a_right, a_cls, a_def, a_symbol, a_finite)
def ys_kinds (u : SY) (x0 : (Nat → Int32)) : SY := match u with
  | (f_maxWords, f_maxCells, f_maxLevels, f_maxFuel, f_count, f_depth, f_copyDepth, f_agenda, f_listSize, f_nodes, f_first, f_last, _, a_args, a_size, a_cellKind, a_cellVal, a_copyKind, a_copyVal, a_agKind, a_agVal, a_agLevel, a_list, a_pend, a_outer, a_begin, a_todo, a_nodeKind, a_left, a_right, a_cls, a_def, a_symbol, a_finite) => (f_maxWords, f_maxCells, f_maxLevels, f_maxFuel, f_count, f_depth, f_copyDepth, f_agenda, f_listSize, f_nodes, f_first, f_last, x0, a_args, a_size, a_cellKind, a_cellVal, a_copyKind, a_copyVal, a_agKind, a_agVal, a_agLevel, a_list, a_pend, a_outer, a_begin, a_todo, a_nodeKind, a_left, a_right, a_cls, a_def, a_symbol, a_finite)
def ys_listSize (u : SY) (x0 : Int32) : SY := match u with
  | (f_maxWords, f_maxCells, f_maxLevels, f_maxFuel, f_count, f_depth, f_copyDepth, f_agenda, _, f_nodes, f_first, f_last, a_kinds, a_args, a_size, a_cellKind, a_cellVal, a_copyKind, a_copyVal, a_agKind, a_agVal, a_agLevel, a_list, a_pend, a_outer, a_begin, a_todo, a_nodeKind, a_left, a_right, a_cls, a_def, a_symbol, a_finite) => (f_maxWords, f_maxCells, f_maxLevels, f_maxFuel, f_count, f_depth, f_copyDepth, f_agenda, x0, f_nodes, f_first, f_last, a_kinds, a_args, a_size, a_cellKind, a_cellVal, a_copyKind, a_copyVal, a_agKind, a_agVal, a_agLevel, a_list, a_pend, a_outer, a_begin, a_todo, a_nodeKind, a_left, a_right, a_cls, a_def, a_symbol, a_finite)
def ys_count_size (u : SY) (x0 : Int32) (x1 : (Nat → Int32)) : SY := match u with
  | (f_maxWords, f_maxCells, f_maxLevels, f_maxFuel, _, f_depth, f_copyDepth, f_agenda, f_listSize, f_nodes, f_first, f_last, a_kinds, a_args, _, a_cellKind, a_cellVal, a_copyKind, a_copyVal, a_agKind, a_agVal, a_agLevel, a_list, a_pend, a_outer, a_begin, a_todo, a_nodeKind, a_left, a_right, a_cls, a_def, a_symbol, a_finite) => (f_maxWords, f_maxCells, f_maxLevels, f_maxFuel, x0, f_depth, f_copyDepth, f_agenda, f_listSize, f_nodes, f_first, f_last, a_kinds, a_args, x1, a_cellKind, a_cellVal, a_copyKind, a_copyVal, a_agKind, a_agVal, a_agLevel, a_list, a_pend, a_outer, a_begin, a_todo, a_nodeKind, a_left, a_right, a_cls, a_def, a_symbol, a_finite)
def ys_size (u : SY) (x0 : (Nat → Int32)) : SY := match u with
  | (f_maxWords, f_maxCells, f_maxLevels, f_maxFuel, f_count, f_depth, f_copyDepth, f_agenda, f_listSize, f_nodes, f_first, f_last, a_kinds, a_args, _, a_cellKind, a_cellVal, a_copyKind, a_copyVal, a_agKind, a_agVal, a_agLevel, a_list, a_pend, a_outer, a_begin, a_todo, a_nodeKind, a_left, a_right, a_cls, a_def, a_symbol, a_finite) => (f_maxWords, f_maxCells, f_maxLevels, f_maxFuel, f_count, f_depth, f_copyDepth, f_agenda, f_listSize, f_nodes, f_first, f_last, a_kinds, a_args, x0, a_cellKind, a_cellVal, a_copyKind, a_copyVal, a_agKind, a_agVal, a_agLevel, a_list, a_pend, a_outer, a_begin, a_todo, a_nodeKind, a_left, a_right, a_cls, a_def, a_symbol, a_finite)
def ys_todo (u : SY) (x0 : (Nat → Int32)) : SY := match u with
  | (f_maxWords, f_maxCells, f_maxLevels, f_maxFuel, f_count, f_depth, f_copyDepth, f_agenda, f_listSize, f_nodes, f_first, f_last, a_kinds, a_args, a_size, a_cellKind, a_cellVal, a_copyKind, a_copyVal, a_agKind, a_agVal, a_agLevel, a_list, a_pend, a_outer, a_begin, _, a_nodeKind, a_left, a_right, a_cls, a_def, a_symbol, a_finite) => (f_maxWords, f_maxCells, f_maxLevels, f_maxFuel, f_count, f_depth, f_copyDepth, f_agenda, f_listSize, f_nodes, f_first, f_last, a_kinds, a_args, a_size, a_cellKind, a_cellVal, a_copyKind, a_copyVal, a_agKind, a_agVal, a_agLevel, a_list, a_pend, a_outer, a_begin, x0, a_nodeKind, a_left, a_right, a_cls, a_def, a_symbol, a_finite)
def ys_symbol (u : SY) (x0 : (Nat → Int32)) : SY := match u with
  | (f_maxWords, f_maxCells, f_maxLevels, f_maxFuel, f_count, f_depth, f_copyDepth, f_agenda, f_listSize, f_nodes, f_first, f_last, a_kinds, a_args, a_size, a_cellKind, a_cellVal, a_copyKind, a_copyVal, a_agKind, a_agVal, a_agLevel, a_list, a_pend, a_outer, a_begin, a_todo, a_nodeKind, a_left, a_right, a_cls, a_def, _, a_finite) => (f_maxWords, f_maxCells, f_maxLevels, f_maxFuel, f_count, f_depth, f_copyDepth, f_agenda, f_listSize, f_nodes, f_first, f_last, a_kinds, a_args, a_size, a_cellKind, a_cellVal, a_copyKind, a_copyVal, a_agKind, a_agVal, a_agLevel, a_list, a_pend, a_outer, a_begin, a_todo, a_nodeKind, a_left, a_right, a_cls, a_def, x0, a_finite)
def ys_depth_cellKind_cellVal (u : SY) (x0 : Int32) (x1 : (Nat → Int32)) (x2 : (Nat → Int32)) : SY := match u with
  | (f_maxWords, f_maxCells, f_maxLevels, f_maxFuel, f_count, _, f_copyDepth, f_agenda, f_listSize, f_nodes, f_first, f_last, a_kinds, a_args, a_size, _, _, a_copyKind, a_copyVal, a_agKind, a_agVal, a_agLevel, a_list, a_pend, a_outer, a_begin, a_todo, a_nodeKind, a_left, a_right, a_cls, a_def, a_symbol, a_finite) => (f_maxWords, f_maxCells, f_maxLevels, f_maxFuel, f_count, x0, f_copyDepth, f_agenda, f_listSize, f_nodes, f_first, f_last, a_kinds, a_args, a_size, x1, x2, a_copyKind, a_copyVal, a_agKind, a_agVal, a_agLevel, a_list, a_pend, a_outer, a_begin, a_todo, a_nodeKind, a_left, a_right, a_cls, a_def, a_symbol, a_finite)
def ys_depth (u : SY) (x0 : Int32) : SY := match u with
  | (f_maxWords, f_maxCells, f_maxLevels, f_maxFuel, f_count, _, f_copyDepth, f_agenda, f_listSize, f_nodes, f_first, f_last, a_kinds, a_args, a_size, a_cellKind, a_cellVal, a_copyKind, a_copyVal, a_agKind, a_agVal, a_agLevel, a_list, a_pend, a_outer, a_begin, a_todo, a_nodeKind, a_left, a_right, a_cls, a_def, a_symbol, a_finite) => (f_maxWords, f_maxCells, f_maxLevels, f_maxFuel, f_count, x0, f_copyDepth, f_agenda, f_listSize, f_nodes, f_first, f_last, a_kinds, a_args, a_size, a_cellKind, a_cellVal, a_copyKind, a_copyVal, a_agKind, a_agVal, a_agLevel, a_list, a_pend, a_outer, a_begin, a_todo, a_nodeKind, a_left, a_right, a_cls, a_def, a_symbol, a_finite)
def ys_copyDepth_copyKind_copyVal (u : SY) (x0 : Int32) (x1 : (Nat → Int32)) (x2 : (Nat → Int32)) : SY := match u with
  | (f_maxWords, f_maxCells, f_maxLevels, f_maxFuel, f_count, f_depth, _, f_agenda, f_listSize, f_nodes, f_first, f_last, a_kinds, a_args, a_size, a_cellKind, a_cellVal, _, _, a_agKind, a_agVal, a_agLevel, a_list, a_pend, a_outer, a_begin, a_todo, a_nodeKind, a_left, a_right, a_cls, a_def, a_symbol, a_finite) => (f_maxWords, f_maxCells, f_maxLevels, f_maxFuel, f_count, f_depth, x0, f_agenda, f_listSize, f_nodes, f_first, f_last, a_kinds, a_args, a_size, a_cellKind, a_cellVal, x1, x2, a_agKind, a_agVal, a_agLevel, a_list, a_pend, a_outer, a_begin, a_todo, a_nodeKind, a_left, a_right, a_cls, a_def, a_symbol, a_finite)
def ys_agenda_agKind_agVal_agLevel (u : SY) (x0 : Int32) (x1 : (Nat → Int32)) (x2 : (Nat → Int32)) (x3 : (Nat → Int32)) : SY := match u with
  | (f_maxWords, f_maxCells, f_maxLevels, f_maxFuel, f_count, f_depth, f_copyDepth, _, f_listSize, f_nodes, f_first, f_last, a_kinds, a_args, a_size, a_cellKind, a_cellVal, a_copyKind, a_copyVal, _, _, _, a_list, a_pend, a_outer, a_begin, a_todo, a_nodeKind, a_left, a_right, a_cls, a_def, a_symbol, a_finite) => (f_maxWords, f_maxCells, f_maxLevels, f_maxFuel, f_count, f_depth, f_copyDepth, x0, f_listSize, f_nodes, f_first, f_last, a_kinds, a_args, a_size, a_cellKind, a_cellVal, a_copyKind, a_copyVal, x1, x2, x3, a_list, a_pend, a_outer, a_begin, a_todo, a_nodeKind, a_left, a_right, a_cls, a_def, a_symbol, a_finite)
def ys_copyDepth (u : SY) (x0 : Int32) : SY := match u with
  | (f_maxWords, f_maxCells, f_maxLevels, f_maxFuel, f_count, f_depth, _, f_agenda, f_listSize, f_nodes, f_first, f_last, a_kinds, a_args, a_size, a_cellKind, a_cellVal, a_copyKind, a_copyVal, a_agKind, a_agVal, a_agLevel, a_list, a_pend, a_outer, a_begin, a_todo, a_nodeKind, a_left, a_right, a_cls, a_def, a_symbol, a_finite) => (f_maxWords, f_maxCells, f_maxLevels, f_maxFuel, f_count, f_depth, x0, f_agenda, f_listSize, f_nodes, f_first, f_last, a_kinds, a_args, a_size, a_cellKind, a_cellVal, a_copyKind, a_copyVal, a_agKind, a_agVal, a_agLevel, a_list, a_pend, a_outer, a_begin, a_todo, a_nodeKind, a_left, a_right, a_cls, a_def, a_symbol, a_finite)
def ys_cellKind_cellVal (u : SY) (x0 : (Nat → Int32)) (x1 : (Nat → Int32)) : SY := match u with
  | (f_maxWords, f_maxCells, f_maxLevels, f_maxFuel, f_count, f_depth, f_copyDepth, f_agenda, f_listSize, f_nodes, f_first, f_last, a_kinds, a_args, a_size, _, _, a_copyKind, a_copyVal, a_agKind, a_agVal, a_agLevel, a_list, a_pend, a_outer, a_begin, a_todo, a_nodeKind, a_left, a_right, a_cls, a_def, a_symbol, a_finite) => (f_maxWords, f_maxCells, f_maxLevels, f_maxFuel, f_count, f_depth, f_copyDepth, f_agenda, f_listSize, f_nodes, f_first, f_last, a_kinds, a_args, a_size, x0, x1, a_copyKind, a_copyVal, a_agKind, a_agVal, a_agLevel, a_list, a_pend, a_outer, a_begin, a_todo, a_nodeKind, a_left, a_right, a_cls, a_def, a_symbol, a_finite)
def ys_agenda (u : SY) (x0 : Int32) : SY := match u with
  | (f_maxWords, f_maxCells, f_maxLevels, f_maxFuel, f_count, f_depth, f_copyDepth, _, f_listSize, f_nodes, f_first, f_last, a_kinds, a_args, a_size, a_cellKind, a_cellVal, a_copyKind, a_copyVal, a_agKind, a_agVal, a_agLevel, a_list, a_pend, a_outer, a_begin, a_todo, a_nodeKind, a_left, a_right, a_cls, a_def, a_symbol, a_finite) => (f_maxWords, f_maxCells, f_maxLevels, f_maxFuel, f_count, f_depth, f_copyDepth, x0, f_listSize, f_nodes, f_first, f_last, a_kinds, a_args, a_size, a_cellKind, a_cellVal, a_copyKind, a_copyVal, a_agKind, a_agVal, a_agLevel, a_list, a_pend, a_outer, a_begin, a_todo, a_nodeKind, a_left, a_right, a_cls, a_def, a_symbol, a_finite)
def ys_copyKind_copyVal (u : SY) (x0 : (Nat → Int32)) (x1 : (Nat → Int32)) : SY := match u with
  | (f_maxWords, f_maxCells, f_maxLevels, f_maxFuel, f_count, f_depth, f_copyDepth, f_agenda, f_listSize, f_nodes, f_first, f_last, a_kinds, a_args, a_size, a_cellKind, a_cellVal, _, _, a_agKind, a_agVal, a_agLevel, a_list, a_pend, a_outer, a_begin, a_todo, a_nodeKind, a_left, a_right, a_cls, a_def, a_symbol, a_finite) => (f_maxWords, f_maxCells, f_maxLevels, f_maxFuel, f_count, f_depth, f_copyDepth, f_agenda, f_listSize, f_nodes, f_first, f_last, a_kinds, a_args, a_size, a_cellKind, a_cellVal, x0, x1, a_agKind, a_agVal, a_agLevel, a_list, a_pend, a_outer, a_begin, a_todo, a_nodeKind, a_left, a_right, a_cls, a_def, a_symbol, a_finite)
def ys_copyDepth_agenda (u : SY) (x0 : Int32) (x1 : Int32) : SY := match u with
  | (f_maxWords, f_maxCells, f_maxLevels, f_maxFuel, f_count, f_depth, _, _, f_listSize, f_nodes, f_first, f_last, a_kinds, a_args, a_size, a_cellKind, a_cellVal, a_copyKind, a_copyVal, a_agKind, a_agVal, a_agLevel, a_list, a_pend, a_outer, a_begin, a_todo, a_nodeKind, a_left, a_right, a_cls, a_def, a_symbol, a_finite) => (f_maxWords, f_maxCells, f_maxLevels, f_maxFuel, f_count, f_depth, x0, x1, f_listSize, f_nodes, f_first, f_last, a_kinds, a_args, a_size, a_cellKind, a_cellVal, a_copyKind, a_copyVal, a_agKind, a_agVal, a_agLevel, a_list, a_pend, a_outer, a_begin, a_todo, a_nodeKind, a_left, a_right, a_cls, a_def, a_symbol, a_finite)
end
end
section
/-! printed by gen/parts.py: the states of the two typings -/
section
abbrev sv_TX : Type := Nat × Nat × Nat × Nat × Nat × (Nat → Nat) × (Nat → Nat) × (Nat → Nat) × (Nat → Nat) × (Nat → Nat) × (Nat → Nat) × (Nat → Nat) × (Nat → Nat) × (Nat → Nat) × (Nat → Nat) × (Nat → Nat) × (Nat → Nat) × (Nat → Nat) × (Nat → Nat)
def tx_n (t : sv_TX) : Nat := t.1
def tx_s (t : sv_TX) : Nat := t.2.1
def tx_st (t : sv_TX) : Nat := t.2.2.1
def tx_rw (t : sv_TX) : Nat := t.2.2.2.1
def tx_ne (t : sv_TX) : Nat := t.2.2.2.2.1
def tx_K (t : sv_TX) : (Nat → Nat) := t.2.2.2.2.2.1
def tx_A (t : sv_TX) : (Nat → Nat) := t.2.2.2.2.2.2.1
def tx_B (t : sv_TX) : (Nat → Nat) := t.2.2.2.2.2.2.2.1
def tx_P (t : sv_TX) : (Nat → Nat) := t.2.2.2.2.2.2.2.2.1
def tx_R (t : sv_TX) : (Nat → Nat) := t.2.2.2.2.2.2.2.2.2.1
def tx_D (t : sv_TX) : (Nat → Nat) := t.2.2.2.2.2.2.2.2.2.2.1
def tx_M (t : sv_TX) : (Nat → Nat) := t.2.2.2.2.2.2.2.2.2.2.2.1
def tx_Q (t : sv_TX) : (Nat → Nat) := t.2.2.2.2.2.2.2.2.2.2.2.2.1
def tx_L (t : sv_TX) : (Nat → Nat) := t.2.2.2.2.2.2.2.2.2.2.2.2.2.1
def tx_G (t : sv_TX) : (Nat → Nat) := t.2.2.2.2.2.2.2.2.2.2.2.2.2.2.1
def tx_oR (t : sv_TX) : (Nat → Nat) := t.2.2.2.2.2.2.2.2.2.2.2.2.2.2.2.1
def tx_oS (t : sv_TX) : (Nat → Nat) := t.2.2.2.2.2.2.2.2.2.2.2.2.2.2.2.2.1
def tx_cP (t : sv_TX) : (Nat → Nat) := t.2.2.2.2.2.2.2.2.2.2.2.2.2.2.2.2.2.1
def tx_cE (t : sv_TX) : (Nat → Nat) := t.2.2.2.2.2.2.2.2.2.2.2.2.2.2.2.2.2.2
def gx (c : SX) (t : sv_TX) : SX := match c with
  | (f_emptyRow, f_consRow, f_maxWords, f_maxCells, f_maxLevels, f_maxFuel, f_openTop, f_count, f_cellCount, _, _, _, _, f_valueNames, f_rowNames, _, f_runDepth, f_level, f_spent, a_tokKind, a_tokArg, a_match, a_length, a_weight, a_text, a_openStack, a_cellKind, a_cellValue, _, _, _, _, _, _, _, _, _, _, _, _, a_runKind, a_runValue, a_framePos, a_frameEnd, a_savedKind, a_savedValue) => match t with
    | (zn, zs, zst, zrw, zne, zK, zA, zB, zP, _, _, zM, zQ, zL, zG, zoR, zoS, zcP, zcE) => (f_emptyRow, f_consRow, f_maxWords, f_maxCells, f_maxLevels, f_maxFuel, f_openTop, f_count, f_cellCount, nI (zn), nI (zs), nI (zst), nI (zrw), f_valueNames, f_rowNames, nI (zne), f_runDepth, f_level, f_spent, a_tokKind, a_tokArg, a_match, a_length, a_weight, a_text, a_openStack, a_cellKind, a_cellValue, sv_na (zK), sv_na (zA), sv_na (zB), sv_na (zP), sv_na (zM), sv_na (zQ), sv_na (zL), sv_na (zG), sv_na (zoR), sv_na (zoS), sv_na (zcP), sv_na (zcE), a_runKind, a_runValue, a_framePos, a_frameEnd, a_savedKind, a_savedValue)
theorem gx_emptyRow (c : SX) (t : sv_TX) : xq_emptyRow (gx c t) = xq_emptyRow c := rfl
theorem gx_consRow (c : SX) (t : sv_TX) : xq_consRow (gx c t) = xq_consRow c := rfl
theorem gx_maxWords (c : SX) (t : sv_TX) : xq_maxWords (gx c t) = xq_maxWords c := rfl
theorem gx_maxCells (c : SX) (t : sv_TX) : xq_maxCells (gx c t) = xq_maxCells c := rfl
theorem gx_maxLevels (c : SX) (t : sv_TX) : xq_maxLevels (gx c t) = xq_maxLevels c := rfl
theorem gx_maxFuel (c : SX) (t : sv_TX) : xq_maxFuel (gx c t) = xq_maxFuel c := rfl
theorem gx_openTop (c : SX) (t : sv_TX) : xq_openTop (gx c t) = xq_openTop c := rfl
theorem gx_count (c : SX) (t : sv_TX) : xq_count (gx c t) = xq_count c := rfl
theorem gx_cellCount (c : SX) (t : sv_TX) : xq_cellCount (gx c t) = xq_cellCount c := rfl
theorem gx_nodes (c : SX) (t : sv_TX) : xq_nodes (gx c t) = nI (tx_n t) := rfl
theorem gx_sound (c : SX) (t : sv_TX) : xq_sound (gx c t) = nI (tx_s t) := rfl
theorem gx_startRow (c : SX) (t : sv_TX) : xq_startRow (gx c t) = nI (tx_st t) := rfl
theorem gx_row (c : SX) (t : sv_TX) : xq_row (gx c t) = nI (tx_rw t) := rfl
theorem gx_valueNames (c : SX) (t : sv_TX) : xq_valueNames (gx c t) = xq_valueNames c := rfl
theorem gx_rowNames (c : SX) (t : sv_TX) : xq_rowNames (gx c t) = xq_rowNames c := rfl
theorem gx_nested (c : SX) (t : sv_TX) : xq_nested (gx c t) = nI (tx_ne t) := rfl
theorem gx_runDepth (c : SX) (t : sv_TX) : xq_runDepth (gx c t) = xq_runDepth c := rfl
theorem gx_level (c : SX) (t : sv_TX) : xq_level (gx c t) = xq_level c := rfl
theorem gx_spent (c : SX) (t : sv_TX) : xq_spent (gx c t) = xq_spent c := rfl
theorem gx_tokKind (c : SX) (t : sv_TX) : xq_tokKind (gx c t) = xq_tokKind c := rfl
theorem gx_tokArg (c : SX) (t : sv_TX) : xq_tokArg (gx c t) = xq_tokArg c := rfl
theorem gx_match (c : SX) (t : sv_TX) : xq_match (gx c t) = xq_match c := rfl
theorem gx_length (c : SX) (t : sv_TX) : xq_length (gx c t) = xq_length c := rfl
theorem gx_weight (c : SX) (t : sv_TX) : xq_weight (gx c t) = xq_weight c := rfl
theorem gx_text (c : SX) (t : sv_TX) : xq_text (gx c t) = xq_text c := rfl
theorem gx_openStack (c : SX) (t : sv_TX) : xq_openStack (gx c t) = xq_openStack c := rfl
theorem gx_cellKind (c : SX) (t : sv_TX) : xq_cellKind (gx c t) = xq_cellKind c := rfl
theorem gx_cellValue (c : SX) (t : sv_TX) : xq_cellValue (gx c t) = xq_cellValue c := rfl
theorem gx_nodeKind (c : SX) (t : sv_TX) : xq_nodeKind (gx c t) = sv_na (tx_K t) := rfl
theorem gx_partA (c : SX) (t : sv_TX) : xq_partA (gx c t) = sv_na (tx_A t) := rfl
theorem gx_partB (c : SX) (t : sv_TX) : xq_partB (gx c t) = sv_na (tx_B t) := rfl
theorem gx_parent (c : SX) (t : sv_TX) : xq_parent (gx c t) = sv_na (tx_P t) := rfl
theorem gx_mark (c : SX) (t : sv_TX) : xq_mark (gx c t) = sv_na (tx_M t) := rfl
theorem gx_path (c : SX) (t : sv_TX) : xq_path (gx c t) = sv_na (tx_Q t) := rfl
theorem gx_left (c : SX) (t : sv_TX) : xq_left (gx c t) = sv_na (tx_L t) := rfl
theorem gx_right (c : SX) (t : sv_TX) : xq_right (gx c t) = sv_na (tx_G t) := rfl
theorem gx_outerRow (c : SX) (t : sv_TX) : xq_outerRow (gx c t) = sv_na (tx_oR t) := rfl
theorem gx_outerStart (c : SX) (t : sv_TX) : xq_outerStart (gx c t) = sv_na (tx_oS t) := rfl
theorem gx_callPos (c : SX) (t : sv_TX) : xq_callPos (gx c t) = sv_na (tx_cP t) := rfl
theorem gx_callEnd (c : SX) (t : sv_TX) : xq_callEnd (gx c t) = sv_na (tx_cE t) := rfl
theorem gx_runKind (c : SX) (t : sv_TX) : xq_runKind (gx c t) = xq_runKind c := rfl
theorem gx_runValue (c : SX) (t : sv_TX) : xq_runValue (gx c t) = xq_runValue c := rfl
theorem gx_framePos (c : SX) (t : sv_TX) : xq_framePos (gx c t) = xq_framePos c := rfl
theorem gx_frameEnd (c : SX) (t : sv_TX) : xq_frameEnd (gx c t) = xq_frameEnd c := rfl
theorem gx_savedKind (c : SX) (t : sv_TX) : xq_savedKind (gx c t) = xq_savedKind c := rfl
theorem gx_savedValue (c : SX) (t : sv_TX) : xq_savedValue (gx c t) = xq_savedValue c := rfl
abbrev sv_TY : Type := Nat × Nat × Nat × (Nat → Nat) × (Nat → Nat) × (Nat → Nat) × (Nat → Nat) × (Nat → Nat) × (Nat → Nat) × (Nat → Nat) × (Nat → Nat) × (Nat → Nat)
def ty_n (t : sv_TY) : Nat := t.1
def ty_fi (t : sv_TY) : Nat := t.2.1
def ty_la (t : sv_TY) : Nat := t.2.2.1
def ty_K (t : sv_TY) : (Nat → Nat) := t.2.2.2.1
def ty_L (t : sv_TY) : (Nat → Nat) := t.2.2.2.2.1
def ty_R (t : sv_TY) : (Nat → Nat) := t.2.2.2.2.2.1
def ty_C (t : sv_TY) : (Nat → Nat) := t.2.2.2.2.2.2.1
def ty_E (t : sv_TY) : (Nat → Nat) := t.2.2.2.2.2.2.2.1
def ty_S (t : sv_TY) : (Nat → Nat) := t.2.2.2.2.2.2.2.2.1
def ty_F (t : sv_TY) : (Nat → Nat) := t.2.2.2.2.2.2.2.2.2.1
def ty_o (t : sv_TY) : (Nat → Nat) := t.2.2.2.2.2.2.2.2.2.2.1
def ty_b (t : sv_TY) : (Nat → Nat) := t.2.2.2.2.2.2.2.2.2.2.2
def gy (c : SY) (t : sv_TY) : SY := match c with
  | (f_maxWords, f_maxCells, f_maxLevels, f_maxFuel, f_count, f_depth, f_copyDepth, f_agenda, f_listSize, _, _, _, a_kinds, a_args, a_size, a_cellKind, a_cellVal, a_copyKind, a_copyVal, a_agKind, a_agVal, a_agLevel, a_list, a_pend, _, _, a_todo, _, _, _, _, _, _, _) => match t with
    | (zn, zfi, zla, zK, zL, zR, zC, zE, zS, zF, zo, zb) => (f_maxWords, f_maxCells, f_maxLevels, f_maxFuel, f_count, f_depth, f_copyDepth, f_agenda, f_listSize, nI (zn), nI (zfi), nI (zla), a_kinds, a_args, a_size, a_cellKind, a_cellVal, a_copyKind, a_copyVal, a_agKind, a_agVal, a_agLevel, a_list, a_pend, sv_na (zo), sv_na (zb), a_todo, sv_na (zK), sv_na (zL), sv_na (zR), sv_na (zC), sv_na (zE), sv_na (zS), sv_na (zF))
theorem gy_maxWords (c : SY) (t : sv_TY) : yq_maxWords (gy c t) = yq_maxWords c := rfl
theorem gy_maxCells (c : SY) (t : sv_TY) : yq_maxCells (gy c t) = yq_maxCells c := rfl
theorem gy_maxLevels (c : SY) (t : sv_TY) : yq_maxLevels (gy c t) = yq_maxLevels c := rfl
theorem gy_maxFuel (c : SY) (t : sv_TY) : yq_maxFuel (gy c t) = yq_maxFuel c := rfl
theorem gy_count (c : SY) (t : sv_TY) : yq_count (gy c t) = yq_count c := rfl
theorem gy_depth (c : SY) (t : sv_TY) : yq_depth (gy c t) = yq_depth c := rfl
theorem gy_copyDepth (c : SY) (t : sv_TY) : yq_copyDepth (gy c t) = yq_copyDepth c := rfl
theorem gy_agenda (c : SY) (t : sv_TY) : yq_agenda (gy c t) = yq_agenda c := rfl
theorem gy_listSize (c : SY) (t : sv_TY) : yq_listSize (gy c t) = yq_listSize c := rfl
theorem gy_nodes (c : SY) (t : sv_TY) : yq_nodes (gy c t) = nI (ty_n t) := rfl
theorem gy_first (c : SY) (t : sv_TY) : yq_first (gy c t) = nI (ty_fi t) := rfl
theorem gy_last (c : SY) (t : sv_TY) : yq_last (gy c t) = nI (ty_la t) := rfl
theorem gy_kinds (c : SY) (t : sv_TY) : yq_kinds (gy c t) = yq_kinds c := rfl
theorem gy_args (c : SY) (t : sv_TY) : yq_args (gy c t) = yq_args c := rfl
theorem gy_size (c : SY) (t : sv_TY) : yq_size (gy c t) = yq_size c := rfl
theorem gy_cellKind (c : SY) (t : sv_TY) : yq_cellKind (gy c t) = yq_cellKind c := rfl
theorem gy_cellVal (c : SY) (t : sv_TY) : yq_cellVal (gy c t) = yq_cellVal c := rfl
theorem gy_copyKind (c : SY) (t : sv_TY) : yq_copyKind (gy c t) = yq_copyKind c := rfl
theorem gy_copyVal (c : SY) (t : sv_TY) : yq_copyVal (gy c t) = yq_copyVal c := rfl
theorem gy_agKind (c : SY) (t : sv_TY) : yq_agKind (gy c t) = yq_agKind c := rfl
theorem gy_agVal (c : SY) (t : sv_TY) : yq_agVal (gy c t) = yq_agVal c := rfl
theorem gy_agLevel (c : SY) (t : sv_TY) : yq_agLevel (gy c t) = yq_agLevel c := rfl
theorem gy_list (c : SY) (t : sv_TY) : yq_list (gy c t) = yq_list c := rfl
theorem gy_pend (c : SY) (t : sv_TY) : yq_pend (gy c t) = yq_pend c := rfl
theorem gy_outer (c : SY) (t : sv_TY) : yq_outer (gy c t) = sv_na (ty_o t) := rfl
theorem gy_begin (c : SY) (t : sv_TY) : yq_begin (gy c t) = sv_na (ty_b t) := rfl
theorem gy_todo (c : SY) (t : sv_TY) : yq_todo (gy c t) = yq_todo c := rfl
theorem gy_nodeKind (c : SY) (t : sv_TY) : yq_nodeKind (gy c t) = sv_na (ty_K t) := rfl
theorem gy_left (c : SY) (t : sv_TY) : yq_left (gy c t) = sv_na (ty_L t) := rfl
theorem gy_right (c : SY) (t : sv_TY) : yq_right (gy c t) = sv_na (ty_R t) := rfl
theorem gy_cls (c : SY) (t : sv_TY) : yq_cls (gy c t) = sv_na (ty_C t) := rfl
theorem gy_def (c : SY) (t : sv_TY) : yq_def (gy c t) = sv_na (ty_E t) := rfl
theorem gy_symbol (c : SY) (t : sv_TY) : yq_symbol (gy c t) = sv_na (ty_S t) := rfl
theorem gy_finite (c : SY) (t : sv_TY) : yq_finite (gy c t) = sv_na (ty_F t) := rfl
end
end
section
/-! printed by gen/parts.py: clean equations -/
section
theorem we_X_make (post : Int32 → SX → Prop) (u : SX) (p0 : Int32) (p1 : Int32) (p2 : Int32) : wpX_make post u p0 p1 p2 = (∀ f_nodes_1 : Int32 , f_nodes_1 = (xq_nodes u) + 1 → (vp_in (xq_nodes u) 512 ∧ ∀ a_nodeKind_3 : Nat → Int32 , a_nodeKind_3 = upd (xq_nodeKind u) (xq_nodes u).toNatClampNeg p0 → (vp_in (xq_nodes u) 512 ∧ ∀ a_partA_5 : Nat → Int32 , a_partA_5 = upd (xq_partA u) (xq_nodes u).toNatClampNeg p1 → (vp_in (xq_nodes u) 512 ∧ ∀ a_partB_7 : Nat → Int32 , a_partB_7 = upd (xq_partB u) (xq_nodes u).toNatClampNeg p2 → (vp_in (xq_nodes u) 512 ∧ ∀ a_parent_9 : Nat → Int32 , a_parent_9 = upd (xq_parent u) (xq_nodes u).toNatClampNeg (xq_nodes u) → (post (xq_nodes u) (xs_nodes_nodeKind_partA_partB_parent u f_nodes_1 a_nodeKind_3 a_partA_5 a_partB_7 a_parent_9))))))) := rfl
theorem we_X_beginTyping (post : SX → Prop) (u : SX) (p0 : Int32) : wpX_beginTyping post u p0 = (wpX_make (fun r_1 u1 => (post (xs_startRow_row u1 r_1 r_1))) (xs_nodes_sound_nested u 0 1 0) p0 0 0) := rfl
theorem we_X_give (post : SX → Prop) (u : SX) (p0 : Int32) : wpX_give post u p0 = (wpX_make (fun r_1 u1 => (post (xs_row u1 r_1))) u 5 (xq_row u) p0) := rfl
theorem we_X_giveInt (post : SX → Prop) (u : SX) : wpX_giveInt post u = (wpX_make (fun r_1 u1 => (wpX_give (fun u2 => (post u2)) u1 r_1)) u 1 0 0) := rfl
theorem we_X_openBody (post : SX → Prop) (u : SX) : wpX_openBody post u = (vp_in (xq_nested u) 32 ∧ ∀ a_outerRow_2 : Nat → Int32 , a_outerRow_2 = upd (xq_outerRow u) (xq_nested u).toNatClampNeg (xq_row u) → (vp_in (xq_nested u) 32 ∧ ∀ a_outerStart_4 : Nat → Int32 , a_outerStart_4 = upd (xq_outerStart u) (xq_nested u).toNatClampNeg (xq_startRow u) → (∀ f_nested_5 : Int32 , f_nested_5 = (xq_nested u) + 1 → (wpX_make (fun r_6 u1 => (post (xs_startRow_row u1 r_6 r_6))) (xs_nested_outerRow_outerStart u f_nested_5 a_outerRow_2 a_outerStart_4) 200 0 0)))) := rfl
theorem we_X_closeBody (post : SX → Prop) (u : SX) : wpX_closeBody post u = (wpX_make (fun r_1 u1 => (∀ f_nested_48 : Int32 , f_nested_48 = (xq_nested u1) - 1 → (vp_in f_nested_48 32 ∧ (∀ f_row_50 : Int32 , f_row_50 = (xq_outerRow u1) f_nested_48.toNatClampNeg → (vp_in f_nested_48 32 ∧ (∀ f_startRow_52 : Int32 , f_startRow_52 = (xq_outerStart u1) f_nested_48.toNatClampNeg → (wpX_give (fun u2 => (post u2)) (xs_startRow_row_nested u1 f_startRow_52 f_row_50 f_nested_48) r_1))))))) u 2 (xq_startRow u) (xq_row u)) := rfl
def lqX_find_4 (post : Int32 → Prop) (n : Nat) (x2 : Int32) (x3 : Int32) (u : SX) : Prop := match u with
  | (f_emptyRow, f_consRow, f_maxWords, f_maxCells, f_maxLevels, f_maxFuel, f_openTop, f_count, f_cellCount, f_nodes, f_sound, f_startRow, f_row, f_valueNames, f_rowNames, f_nested, f_runDepth, f_level, f_spent, a_tokKind, a_tokArg, a_match, a_length, a_weight, a_text, a_openStack, a_cellKind, a_cellValue, a_nodeKind, a_partA, a_partB, a_parent, a_mark, a_path, a_left, a_right, a_outerRow, a_outerStart, a_callPos, a_callEnd, a_runKind, a_runValue, a_framePos, a_frameEnd, a_savedKind, a_savedValue) => wX_find_4 post f_emptyRow f_consRow f_maxWords f_maxCells f_maxLevels f_maxFuel f_openTop f_count f_cellCount f_nodes f_sound f_startRow f_row f_valueNames f_rowNames f_nested f_runDepth f_level f_spent a_tokKind a_tokArg a_match a_length a_weight a_text a_openStack a_cellKind a_cellValue a_nodeKind a_partA a_partB a_parent a_mark a_path a_left a_right a_outerRow a_outerStart a_callPos a_callEnd a_runKind a_runValue a_framePos a_frameEnd a_savedKind a_savedValue n x2 x3
theorem lqX_find_4_s (post : Int32 → Prop) (n : Nat) (x2 : Int32) (x3 : Int32) (u : SX) : lqX_find_4 post (n + 1) x2 x3 u = ((((xq_nodes u) ≤ x3 → (post x2)) ∧ (¬ (xq_nodes u) ≤ x3 → (vp_in x2 512 ∧ (((((xq_parent u) x2.toNatClampNeg) = x2 → (post x2)) ∧ (¬ ((xq_parent u) x2.toNatClampNeg) = x2 → (vp_in x2 512 ∧ (∀ x2_5 : Int32 , x2_5 = (xq_parent u) x2.toNatClampNeg → (∀ x3_6 : Int32 , x3_6 = x3 + 1 → (lqX_find_4 post n x2_5 x3_6 u))))))))))) := rfl
theorem we_X_find (post : Int32 → Prop) (u : SX) (p0 : Int32) : wpX_find post u p0 = (∃ n4 : Nat , lqX_find_4 post n4 p0 0 u) := rfl
theorem we_X_isVariable (post : Int32 → Prop) (u : SX) (p0 : Int32) : wpX_isVariable post u p0 = (vp_in p0 512 ∧ (((((xq_nodeKind u) p0.toNatClampNeg) = 100 → (post 1)) ∧ (¬ ((xq_nodeKind u) p0.toNatClampNeg) = 100 → (vp_in p0 512 ∧ (((((xq_nodeKind u) p0.toNatClampNeg) = 200 → (post 1)) ∧ (¬ ((xq_nodeKind u) p0.toNatClampNeg) = 200 → (post 0))))))))) := rfl
theorem we_X_hasParts (post : Int32 → Prop) (u : SX) (p0 : Int32) : wpX_hasParts post u p0 = (vp_in p0 512 ∧ (((((xq_nodeKind u) p0.toNatClampNeg) = 2 → (post 1)) ∧ (¬ ((xq_nodeKind u) p0.toNatClampNeg) = 2 → (vp_in p0 512 ∧ (((((xq_nodeKind u) p0.toNatClampNeg) = 5 → (post 1)) ∧ (¬ ((xq_nodeKind u) p0.toNatClampNeg) = 5 → (post 0))))))))) := rfl
theorem we_X_join (post : Int32 → SX → Prop) (u : SX) (p0 : Int32) (p1 : Int32) : wpX_join post u p0 p1 = (wpX_isVariable (fun r_1 => (((r_1 = 0 → (wpX_isVariable (fun r_49 => (((r_49 = 0 → (vp_in p0 512 ∧ (vp_in p1 512 ∧ (((((xq_nodeKind u) p0.toNatClampNeg) = ((xq_nodeKind u) p1.toNatClampNeg) → (vp_in p0 512 ∧ ∀ a_parent_101 : Nat → Int32 , a_parent_101 = upd (xq_parent u) p0.toNatClampNeg p1 → (wpX_hasParts (fun r_102 => (narrow .boolean (.int r_102) = .int r_102 ∧ (post r_102 (xs_parent u a_parent_101)))) (xs_parent u a_parent_101) p1))) ∧ (¬ ((xq_nodeKind u) p0.toNatClampNeg) = ((xq_nodeKind u) p1.toNatClampNeg) → (post 0 (xs_sound u 0)))))))) ∧ (¬ r_49 = 0 → (vp_in p1 512 ∧ ∀ a_parent_151 : Nat → Int32 , a_parent_151 = upd (xq_parent u) p1.toNatClampNeg p0 → (post 0 (xs_parent u a_parent_151))))))) u p1)) ∧ (¬ r_1 = 0 → (vp_in p0 512 ∧ ∀ a_parent_153 : Nat → Int32 , a_parent_153 = upd (xq_parent u) p0.toNatClampNeg p1 → (post 0 (xs_parent u a_parent_153))))))) u p0) := rfl
def lqX_unify_19 (post : SX → Prop) (n : Nat) (x3 : Int32) (x4 : Int32) (u : SX) : Prop := match u with
  | (f_emptyRow, f_consRow, f_maxWords, f_maxCells, f_maxLevels, f_maxFuel, f_openTop, f_count, f_cellCount, f_nodes, f_sound, f_startRow, f_row, f_valueNames, f_rowNames, f_nested, f_runDepth, f_level, f_spent, a_tokKind, a_tokArg, a_match, a_length, a_weight, a_text, a_openStack, a_cellKind, a_cellValue, a_nodeKind, a_partA, a_partB, a_parent, a_mark, a_path, a_left, a_right, a_outerRow, a_outerStart, a_callPos, a_callEnd, a_runKind, a_runValue, a_framePos, a_frameEnd, a_savedKind, a_savedValue) => wX_unify_19 post n x3 x4 f_emptyRow f_consRow f_maxWords f_maxCells f_maxLevels f_maxFuel f_openTop f_count f_cellCount f_nodes f_sound f_startRow f_row f_valueNames f_rowNames f_nested f_runDepth f_level f_spent a_tokKind a_tokArg a_match a_length a_weight a_text a_openStack a_cellKind a_cellValue a_nodeKind a_partA a_partB a_parent a_mark a_path a_left a_right a_outerRow a_outerStart a_callPos a_callEnd a_runKind a_runValue a_framePos a_frameEnd a_savedKind a_savedValue
theorem lqX_unify_19_s (post : SX → Prop) (n : Nat) (x3 : Int32) (x4 : Int32) (u : SX) : lqX_unify_19 post (n + 1) x3 x4 u = ((((2 * (Int32.ofNat 512)) ≤ x4 → (post u)) ∧ (¬ (2 * (Int32.ofNat 512)) ≤ x4 → (((x3 ≤ 0 → (post u)) ∧ (¬ x3 ≤ 0 → ((((xq_sound u) = 0 → (post u)) ∧ (¬ (xq_sound u) = 0 → (∀ x3_8 : Int32 , x3_8 = x3 + (- 1) → (vp_in x3_8 512 ∧ (wpX_find (fun r_10 => (vp_in x3_8 512 ∧ (wpX_find (fun r_58 => (((r_10 = r_58 → (∀ x4_106 : Int32 , x4_106 = x4 + 1 → (lqX_unify_19 post n x3_8 x4_106 u))) ∧ (¬ r_10 = r_58 → (wpX_join (fun r_107 u1 => (((r_107 = 0 → (∀ x4_155 : Int32 , x4_155 = x4 + 1 → (lqX_unify_19 post n x3_8 x4_155 u1))) ∧ (¬ r_107 = 0 → (vp_in r_10 512 ∧ (vp_in x3_8 512 ∧ ∀ a_left_158 : Nat → Int32 , a_left_158 = upd (xq_left u1) x3_8.toNatClampNeg ((xq_partA u1) r_10.toNatClampNeg) → (vp_in r_58 512 ∧ (vp_in x3_8 512 ∧ ∀ a_right_161 : Nat → Int32 , a_right_161 = upd (xq_right u1) x3_8.toNatClampNeg ((xq_partA u1) r_58.toNatClampNeg) → (vp_in r_10 512 ∧ (vp_in (x3_8 + 1) 512 ∧ ∀ a_left_164 : Nat → Int32 , a_left_164 = upd a_left_158 (x3_8 + 1).toNatClampNeg ((xq_partB u1) r_10.toNatClampNeg) → (vp_in r_58 512 ∧ (vp_in (x3_8 + 1) 512 ∧ ∀ a_right_167 : Nat → Int32 , a_right_167 = upd a_right_161 (x3_8 + 1).toNatClampNeg ((xq_partB u1) r_58.toNatClampNeg) → (∀ x3_168 : Int32 , x3_168 = x3_8 + 2 → (∀ x4_169 : Int32 , x4_169 = x4 + 1 → (lqX_unify_19 post n x3_168 x4_169 (xs_left_right u1 a_left_164 a_right_167)))))))))))))))) u r_10 r_58))))) u ((xq_right u) x3_8.toNatClampNeg)))) u ((xq_left u) x3_8.toNatClampNeg))))))))))))) := rfl
theorem we_X_unify (post : SX → Prop) (u : SX) (p0 : Int32) (p1 : Int32) : wpX_unify post u p0 p1 = (∀ a_left_2 : Nat → Int32 , a_left_2 = upd (xq_left u) 0 p0 → (∀ a_right_4 : Nat → Int32 , a_right_4 = upd (xq_right u) 0 p1 → (∃ n19 : Nat , lqX_unify_19 post n19 1 0 (xs_left_right u a_left_2 a_right_4)))) := rfl
theorem we_X_take (post : Int32 → SX → Prop) (u : SX) : wpX_take post u = (wpX_find (fun r_1 => (vp_in r_1 512 ∧ (((((xq_nodeKind u) r_1.toNatClampNeg) = 5 → (vp_in r_1 512 ∧ (∀ f_row_239 : Int32 , f_row_239 = (xq_partA u) r_1.toNatClampNeg → (vp_in r_1 512 ∧ (post ((xq_partB u) r_1.toNatClampNeg) (xs_row u f_row_239)))))) ∧ (¬ ((xq_nodeKind u) r_1.toNatClampNeg) = 5 → (wpX_make (fun r_50 u1 => (wpX_make (fun r_97 u2 => (wpX_make (fun r_144 u3 => (wpX_unify (fun u4 => (post r_97 (xs_row u4 r_50))) u3 r_1 r_144)) u2 5 r_50 r_97)) u1 100 0 0)) u 200 0 0)))))) u (xq_row u)) := rfl
theorem we_X_typeDup (post : SX → Prop) (u : SX) : wpX_typeDup post u = (wpX_take (fun r_1 u1 => (wpX_give (fun u2 => (wpX_give (fun u3 => (post u3)) u2 r_1)) u1 r_1)) u) := rfl
theorem we_X_typeSwap (post : SX → Prop) (u : SX) : wpX_typeSwap post u = (wpX_take (fun r_1 u1 => (wpX_take (fun r_48 u2 => (wpX_give (fun u3 => (wpX_give (fun u4 => (post u4)) u3 r_48)) u2 r_1)) u1)) u) := rfl
theorem we_X_wantQuotation (post : Int32 → SX → Prop) (u : SX) : wpX_wantQuotation post u = (wpX_make (fun r_1 u1 => (wpX_make (fun r_48 u2 => (post r_48 u2)) u1 2 (xq_row u1) r_1)) u 200 0 0) := rfl
theorem we_X_typeApply (post : SX → Prop) (u : SX) : wpX_typeApply post u = (wpX_take (fun r_1 u1 => (wpX_wantQuotation (fun r_48 u2 => (wpX_unify (fun u3 => (vp_in r_48 512 ∧ (∀ f_row_143 : Int32 , f_row_143 = (xq_partB u3) r_48.toNatClampNeg → (post (xs_row u3 f_row_143))))) u2 r_1 r_48)) u1)) u) := rfl
theorem we_X_typeDip (post : SX → Prop) (u : SX) : wpX_typeDip post u = (wpX_take (fun r_1 u1 => (wpX_take (fun r_48 u2 => (wpX_wantQuotation (fun r_95 u3 => (wpX_unify (fun u4 => (vp_in r_95 512 ∧ (∀ f_row_190 : Int32 , f_row_190 = (xq_partB u4) r_95.toNatClampNeg → (wpX_give (fun u5 => (post u5)) (xs_row u4 f_row_190) r_48)))) u3 r_1 r_95)) u2)) u1)) u) := rfl
theorem we_X_takeInt (post : SX → Prop) (u : SX) : wpX_takeInt post u = (wpX_take (fun r_1 u1 => (wpX_make (fun r_48 u2 => (wpX_unify (fun u3 => (post u3)) u2 r_1 r_48)) u1 1 0 0)) u) := rfl
theorem we_X_typeIf (post : SX → Prop) (u : SX) : wpX_typeIf post u = (wpX_take (fun r_1 u1 => (wpX_take (fun r_48 u2 => (wpX_takeInt (fun u3 => (wpX_wantQuotation (fun r_142 u4 => (wpX_unify (fun u5 => (wpX_unify (fun u6 => (vp_in r_142 512 ∧ (∀ f_row_284 : Int32 , f_row_284 = (xq_partB u6) r_142.toNatClampNeg → (post (xs_row u6 f_row_284))))) u5 r_48 r_142)) u4 r_1 r_142)) u3)) u2)) u1)) u) := rfl
def pqX_typeToken_132 (post : SX → Prop) (u : SX) : Prop := match u with
  | (f_emptyRow, f_consRow, f_maxWords, f_maxCells, f_maxLevels, f_maxFuel, f_openTop, f_count, f_cellCount, f_nodes, f_sound, f_startRow, f_row, f_valueNames, f_rowNames, f_nested, f_runDepth, f_level, f_spent, a_tokKind, a_tokArg, a_match, a_length, a_weight, a_text, a_openStack, a_cellKind, a_cellValue, a_nodeKind, a_partA, a_partB, a_parent, a_mark, a_path, a_left, a_right, a_outerRow, a_outerStart, a_callPos, a_callEnd, a_runKind, a_runValue, a_framePos, a_frameEnd, a_savedKind, a_savedValue) => wX_typeToken_132 post f_emptyRow f_consRow f_maxWords f_maxCells f_maxLevels f_maxFuel f_openTop f_count f_cellCount f_nodes f_sound f_startRow f_row f_valueNames f_rowNames f_nested f_runDepth f_level f_spent a_tokKind a_tokArg a_match a_length a_weight a_text a_openStack a_cellKind a_cellValue a_nodeKind a_partA a_partB a_parent a_mark a_path a_left a_right a_outerRow a_outerStart a_callPos a_callEnd a_runKind a_runValue a_framePos a_frameEnd a_savedKind a_savedValue
theorem pqX_typeToken_132_e (post : SX → Prop) (u : SX) : pqX_typeToken_132 post u = (wpX_takeInt (fun u1 => (wpX_takeInt (fun u2 => (wpX_giveInt (fun u3 => (post u3)) u2)) u1)) u) := rfl
theorem we_X_typeToken (post : SX → Prop) (u : SX) (p0 : Int32) : wpX_typeToken post u p0 = (((p0 < 1 → (pqX_typeToken_132 post u)) ∧ (¬ p0 < 1 → (((13 < p0 → (pqX_typeToken_132 post u)) ∧ (¬ 13 < p0 → (((p0 = 1 → (wpX_giveInt (fun u1 => (post u1)) u)) ∧ (¬ p0 = 1 → (((p0 = 2 → (pqX_typeToken_132 post u)) ∧ (¬ p0 = 2 → (((p0 = 3 → (wpX_openBody (fun u2 => (post u2)) u)) ∧ (¬ p0 = 3 → (((p0 = 4 → (wpX_closeBody (fun u3 => (post u3)) u)) ∧ (¬ p0 = 4 → (((p0 = 5 → (wpX_typeDup (fun u4 => (post u4)) u)) ∧ (¬ p0 = 5 → (((p0 = 6 → (wpX_take (fun r_338 u5 => (post u5)) u)) ∧ (¬ p0 = 6 → (((p0 = 7 → (wpX_typeSwap (fun u6 => (post u6)) u)) ∧ (¬ p0 = 7 → (((p0 = 8 → (pqX_typeToken_132 post u)) ∧ (¬ p0 = 8 → (((p0 = 9 → (pqX_typeToken_132 post u)) ∧ (¬ p0 = 9 → (((p0 = 10 → (pqX_typeToken_132 post u)) ∧ (¬ p0 = 10 → (((p0 = 11 → (wpX_typeApply (fun u7 => (post u7)) u)) ∧ (¬ p0 = 11 → (((p0 = 12 → (wpX_typeDip (fun u8 => (post u8)) u)) ∧ (¬ p0 = 12 → (((p0 = 13 → (wpX_typeIf (fun u9 => (post u9)) u)) ∧ (¬ p0 = 13 → (True)))))))))))))))))))))))))))))))))))))))))))))) := rfl
end
end
section
/-! printed by gen/parts.py: clean equations -/
section
theorem we_X_isWord (post : Int32 → Prop) (u : SX) (p0 : Int32) : wpX_isWord post u p0 = (((p0 < 0 → (post 0)) ∧ (¬ p0 < 0 → ((((xq_count u) ≤ p0 → (post 0)) ∧ (¬ (xq_count u) ≤ p0 → (post 1))))))) := rfl
theorem we_X_tokenWeight (post : Int32 → Prop) (u : SX) (p0 : Int32) (p1 : Int32) : wpX_tokenWeight post u p0 p1 = (((p0 = 2 → (vp_in p1 8 ∧ (post (1 + ((xq_weight u) p1.toNatClampNeg))))) ∧ (¬ p0 = 2 → (post 1)))) := rfl
def pqX_walk_36 (post : SX → Prop) (J11 : Int32 → Int32 → Int32 → Int32 → SX → Prop) (x3 : Int32) (x4 : Int32) (x5 : Int32) (x6 : Int32) (u : SX) : Prop := match u with
  | (f_emptyRow, f_consRow, f_maxWords, f_maxCells, f_maxLevels, f_maxFuel, f_openTop, f_count, f_cellCount, f_nodes, f_sound, f_startRow, f_row, f_valueNames, f_rowNames, f_nested, f_runDepth, f_level, f_spent, a_tokKind, a_tokArg, a_match, a_length, a_weight, a_text, a_openStack, a_cellKind, a_cellValue, a_nodeKind, a_partA, a_partB, a_parent, a_mark, a_path, a_left, a_right, a_outerRow, a_outerStart, a_callPos, a_callEnd, a_runKind, a_runValue, a_framePos, a_frameEnd, a_savedKind, a_savedValue) => wX_walk_36 post (fun qx3 qx4 qx5 qx6 qf_emptyRow qf_consRow qf_maxWords qf_maxCells qf_maxLevels qf_maxFuel qf_openTop qf_count qf_cellCount qf_nodes qf_sound qf_startRow qf_row qf_valueNames qf_rowNames qf_nested qf_runDepth qf_level qf_spent qa_tokKind qa_tokArg qa_match qa_length qa_weight qa_text qa_openStack qa_cellKind qa_cellValue qa_nodeKind qa_partA qa_partB qa_parent qa_mark qa_path qa_left qa_right qa_outerRow qa_outerStart qa_callPos qa_callEnd qa_runKind qa_runValue qa_framePos qa_frameEnd qa_savedKind qa_savedValue => J11 qx3 qx4 qx5 qx6 (qf_emptyRow, qf_consRow, qf_maxWords, qf_maxCells, qf_maxLevels, qf_maxFuel, qf_openTop, qf_count, qf_cellCount, qf_nodes, qf_sound, qf_startRow, qf_row, qf_valueNames, qf_rowNames, qf_nested, qf_runDepth, qf_level, qf_spent, qa_tokKind, qa_tokArg, qa_match, qa_length, qa_weight, qa_text, qa_openStack, qa_cellKind, qa_cellValue, qa_nodeKind, qa_partA, qa_partB, qa_parent, qa_mark, qa_path, qa_left, qa_right, qa_outerRow, qa_outerStart, qa_callPos, qa_callEnd, qa_runKind, qa_runValue, qa_framePos, qa_frameEnd, qa_savedKind, qa_savedValue)) x3 x4 x5 x6 f_emptyRow f_consRow f_maxWords f_maxCells f_maxLevels f_maxFuel f_openTop f_count f_cellCount f_nodes f_sound f_startRow f_row f_valueNames f_rowNames f_nested f_runDepth f_level f_spent a_tokKind a_tokArg a_match a_length a_weight a_text a_openStack a_cellKind a_cellValue a_nodeKind a_partA a_partB a_parent a_mark a_path a_left a_right a_outerRow a_outerStart a_callPos a_callEnd a_runKind a_runValue a_framePos a_frameEnd a_savedKind a_savedValue
theorem pqX_walk_36_e (post : SX → Prop) (J11 : Int32 → Int32 → Int32 → Int32 → SX → Prop) (x3 : Int32) (x4 : Int32) (x5 : Int32) (x6 : Int32) (u : SX) : pqX_walk_36 post J11 x3 x4 x5 x6 u = (((x3 < x4 → (vp_in x3 256 ∧ (((((xq_tokKind u) x3.toNatClampNeg) = 2 → (vp_in x5 8 ∧ ∀ a_callPos_58 : Nat → Int32 , a_callPos_58 = upd (xq_callPos u) x5.toNatClampNeg (x3 + 1) → (vp_in x5 8 ∧ ∀ a_callEnd_60 : Nat → Int32 , a_callEnd_60 = upd (xq_callEnd u) x5.toNatClampNeg x4 → (∀ x5_61 : Int32 , x5_61 = x5 + 1 → (vp_in x3 256 ∧ (∀ x7_63 : Int32 , x7_63 = (xq_tokArg u) x3.toNatClampNeg → (∀ x3_64 : Int32 , x3_64 = 32 * x7_63 → (vp_in x7_63 8 ∧ (∀ x4_66 : Int32 , x4_66 = x3_64 + ((xq_length u) x7_63.toNatClampNeg) → (∀ x6_67 : Int32 , x6_67 = x6 + 1 → (J11 x3_64 x4_66 x5_61 x6_67 (xs_callPos_callEnd u a_callPos_58 a_callEnd_60)))))))))))) ∧ (¬ ((xq_tokKind u) x3.toNatClampNeg) = 2 → (vp_in x3 256 ∧ (wpX_typeToken (fun u1 => (∀ x3_55 : Int32 , x3_55 = x3 + 1 → (∀ x6_56 : Int32 , x6_56 = x6 + 1 → (J11 x3_55 x4 x5 x6_56 u1)))) u ((xq_tokKind u) x3.toNatClampNeg)))))))) ∧ (¬ x3 < x4 → (∀ x5_68 : Int32 , x5_68 = x5 + (- 1) → (vp_in x5_68 8 ∧ (∀ x3_70 : Int32 , x3_70 = (xq_callPos u) x5_68.toNatClampNeg → (vp_in x5_68 8 ∧ (∀ x4_72 : Int32 , x4_72 = (xq_callEnd u) x5_68.toNatClampNeg → (∀ x6_73 : Int32 , x6_73 = x6 + 1 → (J11 x3_70 x4_72 x5_68 x6_73 u)))))))))) := rfl
def lqX_walk_11 (post : SX → Prop) (n : Nat) (x3 : Int32) (x4 : Int32) (x5 : Int32) (x6 : Int32) (u : SX) : Prop := match u with
  | (f_emptyRow, f_consRow, f_maxWords, f_maxCells, f_maxLevels, f_maxFuel, f_openTop, f_count, f_cellCount, f_nodes, f_sound, f_startRow, f_row, f_valueNames, f_rowNames, f_nested, f_runDepth, f_level, f_spent, a_tokKind, a_tokArg, a_match, a_length, a_weight, a_text, a_openStack, a_cellKind, a_cellValue, a_nodeKind, a_partA, a_partB, a_parent, a_mark, a_path, a_left, a_right, a_outerRow, a_outerStart, a_callPos, a_callEnd, a_runKind, a_runValue, a_framePos, a_frameEnd, a_savedKind, a_savedValue) => wX_walk_11 post n x3 x4 x5 x6 f_emptyRow f_consRow f_maxWords f_maxCells f_maxLevels f_maxFuel f_openTop f_count f_cellCount f_nodes f_sound f_startRow f_row f_valueNames f_rowNames f_nested f_runDepth f_level f_spent a_tokKind a_tokArg a_match a_length a_weight a_text a_openStack a_cellKind a_cellValue a_nodeKind a_partA a_partB a_parent a_mark a_path a_left a_right a_outerRow a_outerStart a_callPos a_callEnd a_runKind a_runValue a_framePos a_frameEnd a_savedKind a_savedValue
theorem lqX_walk_11_s (post : SX → Prop) (n : Nat) (x3 : Int32) (x4 : Int32) (x5 : Int32) (x6 : Int32) (u : SX) : lqX_walk_11 post (n + 1) x3 x4 x5 x6 u = (((64 < x6 → (post u)) ∧ (¬ 64 < x6 → ((((xq_sound u) = 0 → (post u)) ∧ (¬ (xq_sound u) = 0 → (((x3 < x4 → (pqX_walk_36 post (lqX_walk_11 post n) x3 x4 x5 x6 u)) ∧ (¬ x3 < x4 → (((x5 ≤ 0 → (post u)) ∧ (¬ x5 ≤ 0 → (pqX_walk_36 post (lqX_walk_11 post n) x3 x4 x5 x6 u))))))))))))) := rfl
theorem we_X_walk (post : SX → Prop) (u : SX) (p0 : Int32) (p1 : Int32) : wpX_walk post u p0 p1 = (∃ n11 : Nat , lqX_walk_11 post n11 p0 p1 0 0 u) := rfl
def pqX_explore_56 (post : Int32 → SX → Prop) (J11 : Int32 → Int32 → SX → Prop) (x2 : Int32) (x3 : Int32) (x4 : Int32) (u : SX) : Prop := match u with
  | (f_emptyRow, f_consRow, f_maxWords, f_maxCells, f_maxLevels, f_maxFuel, f_openTop, f_count, f_cellCount, f_nodes, f_sound, f_startRow, f_row, f_valueNames, f_rowNames, f_nested, f_runDepth, f_level, f_spent, a_tokKind, a_tokArg, a_match, a_length, a_weight, a_text, a_openStack, a_cellKind, a_cellValue, a_nodeKind, a_partA, a_partB, a_parent, a_mark, a_path, a_left, a_right, a_outerRow, a_outerStart, a_callPos, a_callEnd, a_runKind, a_runValue, a_framePos, a_frameEnd, a_savedKind, a_savedValue) => wX_explore_56 post (fun qx2 qx3 qa_tokKind qa_tokArg qa_match qa_length qa_weight qa_text qa_openStack qa_cellKind qa_cellValue qa_nodeKind qa_partA qa_partB qa_parent qa_mark qa_path qa_left qa_right qa_outerRow qa_outerStart qa_callPos qa_callEnd qa_runKind qa_runValue qa_framePos qa_frameEnd qa_savedKind qa_savedValue => J11 qx2 qx3 (f_emptyRow, f_consRow, f_maxWords, f_maxCells, f_maxLevels, f_maxFuel, f_openTop, f_count, f_cellCount, f_nodes, f_sound, f_startRow, f_row, f_valueNames, f_rowNames, f_nested, f_runDepth, f_level, f_spent, qa_tokKind, qa_tokArg, qa_match, qa_length, qa_weight, qa_text, qa_openStack, qa_cellKind, qa_cellValue, qa_nodeKind, qa_partA, qa_partB, qa_parent, qa_mark, qa_path, qa_left, qa_right, qa_outerRow, qa_outerStart, qa_callPos, qa_callEnd, qa_runKind, qa_runValue, qa_framePos, qa_frameEnd, qa_savedKind, qa_savedValue)) x2 x3 x4 f_emptyRow f_consRow f_maxWords f_maxCells f_maxLevels f_maxFuel f_openTop f_count f_cellCount f_nodes f_sound f_startRow f_row f_valueNames f_rowNames f_nested f_runDepth f_level f_spent a_tokKind a_tokArg a_match a_length a_weight a_text a_openStack a_cellKind a_cellValue a_nodeKind a_partA a_partB a_parent a_mark a_path a_left a_right a_outerRow a_outerStart a_callPos a_callEnd a_runKind a_runValue a_framePos a_frameEnd a_savedKind a_savedValue
theorem pqX_explore_56_e (post : Int32 → SX → Prop) (J11 : Int32 → Int32 → SX → Prop) (x2 : Int32) (x3 : Int32) (x4 : Int32) (u : SX) : pqX_explore_56 post J11 x2 x3 x4 u = (vp_in x4 512 ∧ ∀ a_mark_10 : Nat → Int32 , a_mark_10 = upd (xq_mark u) x4.toNatClampNeg 3 → (∀ x2_11 : Int32 , x2_11 = x2 + (- 1) → (∀ x3_12 : Int32 , x3_12 = x3 + 1 → (J11 x2_11 x3_12 (xs_mark u a_mark_10))))) := rfl
def pqX_explore_97 (post : Int32 → SX → Prop) (J11 : Int32 → Int32 → SX → Prop) (x2 : Int32) (x3 : Int32) (x4 : Int32) (z0 : Int32) (u : SX) : Prop := match u with
  | (f_emptyRow, f_consRow, f_maxWords, f_maxCells, f_maxLevels, f_maxFuel, f_openTop, f_count, f_cellCount, f_nodes, f_sound, f_startRow, f_row, f_valueNames, f_rowNames, f_nested, f_runDepth, f_level, f_spent, a_tokKind, a_tokArg, a_match, a_length, a_weight, a_text, a_openStack, a_cellKind, a_cellValue, a_nodeKind, a_partA, a_partB, a_parent, a_mark, a_path, a_left, a_right, a_outerRow, a_outerStart, a_callPos, a_callEnd, a_runKind, a_runValue, a_framePos, a_frameEnd, a_savedKind, a_savedValue) => wX_explore_97 post (fun qx2 qx3 qa_tokKind qa_tokArg qa_match qa_length qa_weight qa_text qa_openStack qa_cellKind qa_cellValue qa_nodeKind qa_partA qa_partB qa_parent qa_mark qa_path qa_left qa_right qa_outerRow qa_outerStart qa_callPos qa_callEnd qa_runKind qa_runValue qa_framePos qa_frameEnd qa_savedKind qa_savedValue => J11 qx2 qx3 (f_emptyRow, f_consRow, f_maxWords, f_maxCells, f_maxLevels, f_maxFuel, f_openTop, f_count, f_cellCount, f_nodes, f_sound, f_startRow, f_row, f_valueNames, f_rowNames, f_nested, f_runDepth, f_level, f_spent, qa_tokKind, qa_tokArg, qa_match, qa_length, qa_weight, qa_text, qa_openStack, qa_cellKind, qa_cellValue, qa_nodeKind, qa_partA, qa_partB, qa_parent, qa_mark, qa_path, qa_left, qa_right, qa_outerRow, qa_outerStart, qa_callPos, qa_callEnd, qa_runKind, qa_runValue, qa_framePos, qa_frameEnd, qa_savedKind, qa_savedValue)) x2 x3 x4 z0 f_emptyRow f_consRow f_maxWords f_maxCells f_maxLevels f_maxFuel f_openTop f_count f_cellCount f_nodes f_sound f_startRow f_row f_valueNames f_rowNames f_nested f_runDepth f_level f_spent a_tokKind a_tokArg a_match a_length a_weight a_text a_openStack a_cellKind a_cellValue a_nodeKind a_partA a_partB a_parent a_mark a_path a_left a_right a_outerRow a_outerStart a_callPos a_callEnd a_runKind a_runValue a_framePos a_frameEnd a_savedKind a_savedValue
theorem pqX_explore_97_e (post : Int32 → SX → Prop) (J11 : Int32 → Int32 → SX → Prop) (x2 : Int32) (x3 : Int32) (x4 : Int32) (z0 : Int32) (u : SX) : pqX_explore_97 post J11 x2 x3 x4 z0 u = (vp_in x4 512 ∧ (vp_in x4 512 ∧ ∀ a_mark_66 : Nat → Int32 , a_mark_66 = upd (xq_mark u) x4.toNatClampNeg (((xq_mark u) x4.toNatClampNeg) + 1) → (wpX_find (fun r_67 => (vp_in r_67 512 ∧ ((((a_mark_66 r_67.toNatClampNeg) = 0 → (vp_in x2 512 ∧ ∀ a_path_120 : Nat → Int32 , a_path_120 = upd (xq_path u) x2.toNatClampNeg r_67 → (∀ x2_121 : Int32 , x2_121 = x2 + 1 → (∀ x3_122 : Int32 , x3_122 = x3 + 1 → (J11 x2_121 x3_122 (xs_mark_path u a_mark_66 a_path_120)))))) ∧ (¬ (a_mark_66 r_67.toNatClampNeg) = 0 → (vp_in r_67 512 ∧ ((((a_mark_66 r_67.toNatClampNeg) = 3 → (∀ x3_118 : Int32 , x3_118 = x3 + 1 → (J11 x2 x3_118 (xs_mark u a_mark_66)))) ∧ (¬ (a_mark_66 r_67.toNatClampNeg) = 3 → (post 0 (xs_mark u a_mark_66))))))))))) (xs_mark u a_mark_66) z0))) := rfl
def lqX_explore_11 (post : Int32 → SX → Prop) (n : Nat) (x2 : Int32) (x3 : Int32) (u : SX) : Prop := match u with
  | (f_emptyRow, f_consRow, f_maxWords, f_maxCells, f_maxLevels, f_maxFuel, f_openTop, f_count, f_cellCount, f_nodes, f_sound, f_startRow, f_row, f_valueNames, f_rowNames, f_nested, f_runDepth, f_level, f_spent, a_tokKind, a_tokArg, a_match, a_length, a_weight, a_text, a_openStack, a_cellKind, a_cellValue, a_nodeKind, a_partA, a_partB, a_parent, a_mark, a_path, a_left, a_right, a_outerRow, a_outerStart, a_callPos, a_callEnd, a_runKind, a_runValue, a_framePos, a_frameEnd, a_savedKind, a_savedValue) => wX_explore_11 post f_emptyRow f_consRow f_maxWords f_maxCells f_maxLevels f_maxFuel f_openTop f_count f_cellCount f_nodes f_sound f_startRow f_row f_valueNames f_rowNames f_nested f_runDepth f_level f_spent n x2 x3 a_tokKind a_tokArg a_match a_length a_weight a_text a_openStack a_cellKind a_cellValue a_nodeKind a_partA a_partB a_parent a_mark a_path a_left a_right a_outerRow a_outerStart a_callPos a_callEnd a_runKind a_runValue a_framePos a_frameEnd a_savedKind a_savedValue
theorem lqX_explore_11_s (post : Int32 → SX → Prop) (n : Nat) (x2 : Int32) (x3 : Int32) (u : SX) : lqX_explore_11 post (n + 1) x2 x3 u = ((((3 * (Int32.ofNat 512)) ≤ x3 → (post 1 u)) ∧ (¬ (3 * (Int32.ofNat 512)) ≤ x3 → (((x2 ≤ 0 → (post 1 u)) ∧ (¬ x2 ≤ 0 → (vp_in (x2 - 1) 512 ∧ (∀ x4_6 : Int32 , x4_6 = (xq_path u) (x2 - 1).toNatClampNeg → (vp_in x4_6 512 ∧ (((((xq_mark u) x4_6.toNatClampNeg) = 2 → (pqX_explore_56 post (lqX_explore_11 post n) x2 x3 x4_6 u)) ∧ (¬ ((xq_mark u) x4_6.toNatClampNeg) = 2 → (wpX_hasParts (fun r_13 => (((r_13 = 0 → (pqX_explore_56 post (lqX_explore_11 post n) x2 x3 x4_6 u)) ∧ (¬ r_13 = 0 → (vp_in x4_6 512 ∧ (((((xq_mark u) x4_6.toNatClampNeg) = 0 → (vp_in x4_6 512 ∧ (pqX_explore_97 post (lqX_explore_11 post n) x2 x3 x4_6 ((xq_partA u) x4_6.toNatClampNeg) u))) ∧ (¬ ((xq_mark u) x4_6.toNatClampNeg) = 0 → (vp_in x4_6 512 ∧ (pqX_explore_97 post (lqX_explore_11 post n) x2 x3 x4_6 ((xq_partB u) x4_6.toNatClampNeg) u)))))))))) u x4_6))))))))))))) := rfl
theorem we_X_explore (post : Int32 → SX → Prop) (u : SX) (p0 : Int32) : wpX_explore post u p0 = (∀ a_path_2 : Nat → Int32 , a_path_2 = upd (xq_path u) 0 p0 → (∃ n11 : Nat , lqX_explore_11 post n11 1 0 (xs_path u a_path_2))) := rfl
def lqX_finishTyping_25 (post : SX → Prop) (n : Nat) (x1 : Int32) (u : SX) : Prop := match u with
  | (f_emptyRow, f_consRow, f_maxWords, f_maxCells, f_maxLevels, f_maxFuel, f_openTop, f_count, f_cellCount, f_nodes, f_sound, f_startRow, f_row, f_valueNames, f_rowNames, f_nested, f_runDepth, f_level, f_spent, a_tokKind, a_tokArg, a_match, a_length, a_weight, a_text, a_openStack, a_cellKind, a_cellValue, a_nodeKind, a_partA, a_partB, a_parent, a_mark, a_path, a_left, a_right, a_outerRow, a_outerStart, a_callPos, a_callEnd, a_runKind, a_runValue, a_framePos, a_frameEnd, a_savedKind, a_savedValue) => wX_finishTyping_25 post n x1 f_emptyRow f_consRow f_maxWords f_maxCells f_maxLevels f_maxFuel f_openTop f_count f_cellCount f_nodes f_sound f_startRow f_row f_valueNames f_rowNames f_nested f_runDepth f_level f_spent a_tokKind a_tokArg a_match a_length a_weight a_text a_openStack a_cellKind a_cellValue a_nodeKind a_partA a_partB a_parent a_mark a_path a_left a_right a_outerRow a_outerStart a_callPos a_callEnd a_runKind a_runValue a_framePos a_frameEnd a_savedKind a_savedValue
theorem lqX_finishTyping_25_s (post : SX → Prop) (n : Nat) (x1 : Int32) (u : SX) : lqX_finishTyping_25 post (n + 1) x1 u = ((((xq_nodes u) ≤ x1 → (post u)) ∧ (¬ (xq_nodes u) ≤ x1 → ((((xq_sound u) = 0 → (post u)) ∧ (¬ (xq_sound u) = 0 → (vp_in x1 512 ∧ (((((xq_parent u) x1.toNatClampNeg) = x1 → (vp_in x1 512 ∧ (((((xq_mark u) x1.toNatClampNeg) = 0 → (wpX_explore (fun r_10 u1 => (narrow .boolean (.int r_10) = .int r_10 ∧ fits .boolean (.int r_10) = true ∧ (∀ x1_59 : Int32 , x1_59 = x1 + 1 → (lqX_finishTyping_25 post n x1_59 (xs_sound u1 r_10))))) u x1)) ∧ (¬ ((xq_mark u) x1.toNatClampNeg) = 0 → (∀ x1_9 : Int32 , x1_9 = x1 + 1 → (lqX_finishTyping_25 post n x1_9 u))))))) ∧ (¬ ((xq_parent u) x1.toNatClampNeg) = x1 → (∀ x1_6 : Int32 , x1_6 = x1 + 1 → (lqX_finishTyping_25 post n x1_6 u)))))))))))) := rfl
def lqX_finishTyping_2 (post : SX → Prop) (n : Nat) (x1 : Int32) (u : SX) : Prop := match u with
  | (f_emptyRow, f_consRow, f_maxWords, f_maxCells, f_maxLevels, f_maxFuel, f_openTop, f_count, f_cellCount, f_nodes, f_sound, f_startRow, f_row, f_valueNames, f_rowNames, f_nested, f_runDepth, f_level, f_spent, a_tokKind, a_tokArg, a_match, a_length, a_weight, a_text, a_openStack, a_cellKind, a_cellValue, a_nodeKind, a_partA, a_partB, a_parent, a_mark, a_path, a_left, a_right, a_outerRow, a_outerStart, a_callPos, a_callEnd, a_runKind, a_runValue, a_framePos, a_frameEnd, a_savedKind, a_savedValue) => wX_finishTyping_2 post f_emptyRow f_consRow f_maxWords f_maxCells f_maxLevels f_maxFuel f_openTop f_count f_cellCount f_nodes f_sound f_startRow f_row f_valueNames f_rowNames f_nested f_runDepth f_level f_spent n x1 a_tokKind a_tokArg a_match a_length a_weight a_text a_openStack a_cellKind a_cellValue a_nodeKind a_partA a_partB a_parent a_mark a_path a_left a_right a_outerRow a_outerStart a_callPos a_callEnd a_runKind a_runValue a_framePos a_frameEnd a_savedKind a_savedValue
theorem lqX_finishTyping_2_s (post : SX → Prop) (n : Nat) (x1 : Int32) (u : SX) : lqX_finishTyping_2 post (n + 1) x1 u = ((((xq_nodes u) ≤ x1 → (∃ n25 : Nat , lqX_finishTyping_25 post n25 0 u)) ∧ (¬ (xq_nodes u) ≤ x1 → (vp_in x1 512 ∧ ∀ a_mark_61 : Nat → Int32 , a_mark_61 = upd (xq_mark u) x1.toNatClampNeg 0 → (∀ x1_62 : Int32 , x1_62 = x1 + 1 → (lqX_finishTyping_2 post n x1_62 (xs_mark u a_mark_61))))))) := rfl
theorem we_X_finishTyping (post : SX → Prop) (u : SX) : wpX_finishTyping post u = (∃ n2 : Nat , lqX_finishTyping_2 post n2 0 u) := rfl
def pqX_symbol_61 (post : Int32 → SX → Prop) (x1 : Int32) (u : SX) : Prop := match u with
  | (f_emptyRow, f_consRow, f_maxWords, f_maxCells, f_maxLevels, f_maxFuel, f_openTop, f_count, f_cellCount, f_nodes, f_sound, f_startRow, f_row, f_valueNames, f_rowNames, f_nested, f_runDepth, f_level, f_spent, a_tokKind, a_tokArg, a_match, a_length, a_weight, a_text, a_openStack, a_cellKind, a_cellValue, a_nodeKind, a_partA, a_partB, a_parent, a_mark, a_path, a_left, a_right, a_outerRow, a_outerStart, a_callPos, a_callEnd, a_runKind, a_runValue, a_framePos, a_frameEnd, a_savedKind, a_savedValue) => wX_symbol_61 post x1 f_emptyRow f_consRow f_maxWords f_maxCells f_maxLevels f_maxFuel f_openTop f_count f_cellCount f_nodes f_sound f_startRow f_row f_valueNames f_rowNames f_nested f_runDepth f_level f_spent a_tokKind a_tokArg a_match a_length a_weight a_text a_openStack a_cellKind a_cellValue a_nodeKind a_partA a_partB a_parent a_mark a_path a_left a_right a_outerRow a_outerStart a_callPos a_callEnd a_runKind a_runValue a_framePos a_frameEnd a_savedKind a_savedValue
theorem pqX_symbol_61_e (post : Int32 → SX → Prop) (x1 : Int32) (u : SX) : pqX_symbol_61 post x1 u = (vp_in x1 512 ∧ (((((xq_mark u) x1.toNatClampNeg) = 0 → (vp_in x1 512 ∧ ∀ a_mark_55 : Nat → Int32 , a_mark_55 = upd (xq_mark u) x1.toNatClampNeg (200 + (xq_rowNames u)) → (∀ f_rowNames_56 : Int32 , f_rowNames_56 = (xq_rowNames u) + 1 → (vp_in x1 512 ∧ (post (a_mark_55 x1.toNatClampNeg) (xs_rowNames_mark u f_rowNames_56 a_mark_55)))))) ∧ (¬ ((xq_mark u) x1.toNatClampNeg) = 0 → (vp_in x1 512 ∧ (post ((xq_mark u) x1.toNatClampNeg) u)))))) := rfl
theorem we_X_symbol (post : Int32 → SX → Prop) (u : SX) (p0 : Int32) : wpX_symbol post u p0 = (wpX_isVariable (fun r_1 => (((r_1 = 0 → (vp_in p0 512 ∧ (post ((xq_nodeKind u) p0.toNatClampNeg) u))) ∧ (¬ r_1 = 0 → (vp_in p0 512 ∧ (((((xq_mark u) p0.toNatClampNeg) = 0 → (vp_in p0 512 ∧ (((((xq_nodeKind u) p0.toNatClampNeg) = 100 → (vp_in p0 512 ∧ ∀ a_mark_61 : Nat → Int32 , a_mark_61 = upd (xq_mark u) p0.toNatClampNeg (100 + (xq_valueNames u)) → (∀ f_valueNames_62 : Int32 , f_valueNames_62 = (xq_valueNames u) + 1 → (vp_in p0 512 ∧ (post (a_mark_61 p0.toNatClampNeg) (xs_valueNames_mark u f_valueNames_62 a_mark_61)))))) ∧ (¬ ((xq_nodeKind u) p0.toNatClampNeg) = 100 → (pqX_symbol_61 post p0 u)))))) ∧ (¬ ((xq_mark u) p0.toNatClampNeg) = 0 → (pqX_symbol_61 post p0 u))))))))) u p0) := rfl
def pqX_writeText_178 (post : SX → Prop) (J60 : Int32 → Int32 → Int32 → SX → Prop) (x1 : Int32) (x2 : Int32) (x3 : Int32) (x4 : Int32) (x5 : Int32) (x6 : Int32) (z0 : Int32) (z1 : Int32) (u : SX) : Prop := match u with
  | (f_emptyRow, f_consRow, f_maxWords, f_maxCells, f_maxLevels, f_maxFuel, f_openTop, f_count, f_cellCount, f_nodes, f_sound, f_startRow, f_row, f_valueNames, f_rowNames, f_nested, f_runDepth, f_level, f_spent, a_tokKind, a_tokArg, a_match, a_length, a_weight, a_text, a_openStack, a_cellKind, a_cellValue, a_nodeKind, a_partA, a_partB, a_parent, a_mark, a_path, a_left, a_right, a_outerRow, a_outerStart, a_callPos, a_callEnd, a_runKind, a_runValue, a_framePos, a_frameEnd, a_savedKind, a_savedValue) => wX_writeText_178 post (fun qx2 qx3 qx4 qf_emptyRow qf_consRow qf_maxWords qf_maxCells qf_maxLevels qf_maxFuel qf_openTop qf_count qf_cellCount qf_nodes qf_sound qf_startRow qf_row qf_valueNames qf_rowNames qf_nested qf_runDepth qf_level qf_spent qa_tokKind qa_tokArg qa_match qa_length qa_weight qa_text qa_openStack qa_cellKind qa_cellValue qa_nodeKind qa_partA qa_partB qa_parent qa_mark qa_path qa_left qa_right qa_outerRow qa_outerStart qa_callPos qa_callEnd qa_runKind qa_runValue qa_framePos qa_frameEnd qa_savedKind qa_savedValue => J60 qx2 qx3 qx4 (qf_emptyRow, qf_consRow, qf_maxWords, qf_maxCells, qf_maxLevels, qf_maxFuel, qf_openTop, qf_count, qf_cellCount, qf_nodes, qf_sound, qf_startRow, qf_row, qf_valueNames, qf_rowNames, qf_nested, qf_runDepth, qf_level, qf_spent, qa_tokKind, qa_tokArg, qa_match, qa_length, qa_weight, qa_text, qa_openStack, qa_cellKind, qa_cellValue, qa_nodeKind, qa_partA, qa_partB, qa_parent, qa_mark, qa_path, qa_left, qa_right, qa_outerRow, qa_outerStart, qa_callPos, qa_callEnd, qa_runKind, qa_runValue, qa_framePos, qa_frameEnd, qa_savedKind, qa_savedValue)) x1 x2 x3 x4 x5 x6 z0 z1 f_emptyRow f_consRow f_maxWords f_maxCells f_maxLevels f_maxFuel f_openTop f_count f_cellCount f_nodes f_sound f_startRow f_row f_valueNames f_rowNames f_nested f_runDepth f_level f_spent a_tokKind a_tokArg a_match a_length a_weight a_text a_openStack a_cellKind a_cellValue a_nodeKind a_partA a_partB a_parent a_mark a_path a_left a_right a_outerRow a_outerStart a_callPos a_callEnd a_runKind a_runValue a_framePos a_frameEnd a_savedKind a_savedValue
theorem pqX_writeText_178_e (post : SX → Prop) (J60 : Int32 → Int32 → Int32 → SX → Prop) (x1 : Int32) (x2 : Int32) (x3 : Int32) (x4 : Int32) (x5 : Int32) (x6 : Int32) (z0 : Int32) (z1 : Int32) (u : SX) : pqX_writeText_178 post J60 x1 x2 x3 x4 x5 x6 z0 z1 u = (vp_in z1 512 ∧ ∀ a_path_114 : Nat → Int32 , a_path_114 = upd (xq_path u) z1.toNatClampNeg z0 → (((x6 = 0 → (vp_in x5 512 ∧ (vp_in (x2 + 1) 512 ∧ ∀ a_path_118 : Nat → Int32 , a_path_118 = upd a_path_114 (x2 + 1).toNatClampNeg ((xq_partA u) x5.toNatClampNeg) → (∀ x2_119 : Int32 , x2_119 = x2 + 2 → (∀ x4_120 : Int32 , x4_120 = x4 + 1 → (J60 x2_119 x3 x4_120 (xs_path u a_path_118))))))) ∧ (¬ x6 = 0 → (vp_in x5 512 ∧ (vp_in (x2 + 1) 512 ∧ ∀ a_path_123 : Nat → Int32 , a_path_123 = upd a_path_114 (x2 + 1).toNatClampNeg ((xq_partB u) x5.toNatClampNeg) → (∀ x2_124 : Int32 , x2_124 = x2 + 2 → (∀ x4_125 : Int32 , x4_125 = x4 + 1 → (J60 x2_124 x3 x4_125 (xs_path u a_path_123)))))))))) := rfl
def pqX_writeText_149 (post : SX → Prop) (J60 : Int32 → Int32 → Int32 → SX → Prop) (x1 : Int32) (x2 : Int32) (x3 : Int32) (x4 : Int32) (x5 : Int32) (z0 : Int32) (u : SX) : Prop := match u with
  | (f_emptyRow, f_consRow, f_maxWords, f_maxCells, f_maxLevels, f_maxFuel, f_openTop, f_count, f_cellCount, f_nodes, f_sound, f_startRow, f_row, f_valueNames, f_rowNames, f_nested, f_runDepth, f_level, f_spent, a_tokKind, a_tokArg, a_match, a_length, a_weight, a_text, a_openStack, a_cellKind, a_cellValue, a_nodeKind, a_partA, a_partB, a_parent, a_mark, a_path, a_left, a_right, a_outerRow, a_outerStart, a_callPos, a_callEnd, a_runKind, a_runValue, a_framePos, a_frameEnd, a_savedKind, a_savedValue) => wX_writeText_149 post (fun qx2 qx3 qx4 qf_emptyRow qf_consRow qf_maxWords qf_maxCells qf_maxLevels qf_maxFuel qf_openTop qf_count qf_cellCount qf_nodes qf_sound qf_startRow qf_row qf_valueNames qf_rowNames qf_nested qf_runDepth qf_level qf_spent qa_tokKind qa_tokArg qa_match qa_length qa_weight qa_text qa_openStack qa_cellKind qa_cellValue qa_nodeKind qa_partA qa_partB qa_parent qa_mark qa_path qa_left qa_right qa_outerRow qa_outerStart qa_callPos qa_callEnd qa_runKind qa_runValue qa_framePos qa_frameEnd qa_savedKind qa_savedValue => J60 qx2 qx3 qx4 (qf_emptyRow, qf_consRow, qf_maxWords, qf_maxCells, qf_maxLevels, qf_maxFuel, qf_openTop, qf_count, qf_cellCount, qf_nodes, qf_sound, qf_startRow, qf_row, qf_valueNames, qf_rowNames, qf_nested, qf_runDepth, qf_level, qf_spent, qa_tokKind, qa_tokArg, qa_match, qa_length, qa_weight, qa_text, qa_openStack, qa_cellKind, qa_cellValue, qa_nodeKind, qa_partA, qa_partB, qa_parent, qa_mark, qa_path, qa_left, qa_right, qa_outerRow, qa_outerStart, qa_callPos, qa_callEnd, qa_runKind, qa_runValue, qa_framePos, qa_frameEnd, qa_savedKind, qa_savedValue)) x1 x2 x3 x4 x5 z0 f_emptyRow f_consRow f_maxWords f_maxCells f_maxLevels f_maxFuel f_openTop f_count f_cellCount f_nodes f_sound f_startRow f_row f_valueNames f_rowNames f_nested f_runDepth f_level f_spent a_tokKind a_tokArg a_match a_length a_weight a_text a_openStack a_cellKind a_cellValue a_nodeKind a_partA a_partB a_parent a_mark a_path a_left a_right a_outerRow a_outerStart a_callPos a_callEnd a_runKind a_runValue a_framePos a_frameEnd a_savedKind a_savedValue
theorem pqX_writeText_149_e (post : SX → Prop) (J60 : Int32 → Int32 → Int32 → SX → Prop) (x1 : Int32) (x2 : Int32) (x3 : Int32) (x4 : Int32) (x5 : Int32) (z0 : Int32) (u : SX) : pqX_writeText_149 post J60 x1 x2 x3 x4 x5 z0 u = (((z0 = 0 → (vp_in x5 512 ∧ (pqX_writeText_178 post J60 x1 x2 x3 x4 x5 z0 ((xq_partB u) x5.toNatClampNeg) x2 u))) ∧ (¬ z0 = 0 → (vp_in x5 512 ∧ (pqX_writeText_178 post J60 x1 x2 x3 x4 x5 z0 ((xq_partA u) x5.toNatClampNeg) x2 u))))) := rfl
def pqX_writeText_124 (post : SX → Prop) (J60 : Int32 → Int32 → Int32 → SX → Prop) (x1 : Int32) (x2 : Int32) (x3 : Int32) (x4 : Int32) (x5 : Int32) (u : SX) : Prop := match u with
  | (f_emptyRow, f_consRow, f_maxWords, f_maxCells, f_maxLevels, f_maxFuel, f_openTop, f_count, f_cellCount, f_nodes, f_sound, f_startRow, f_row, f_valueNames, f_rowNames, f_nested, f_runDepth, f_level, f_spent, a_tokKind, a_tokArg, a_match, a_length, a_weight, a_text, a_openStack, a_cellKind, a_cellValue, a_nodeKind, a_partA, a_partB, a_parent, a_mark, a_path, a_left, a_right, a_outerRow, a_outerStart, a_callPos, a_callEnd, a_runKind, a_runValue, a_framePos, a_frameEnd, a_savedKind, a_savedValue) => wX_writeText_124 post (fun qx2 qx3 qx4 qf_emptyRow qf_consRow qf_maxWords qf_maxCells qf_maxLevels qf_maxFuel qf_openTop qf_count qf_cellCount qf_nodes qf_sound qf_startRow qf_row qf_valueNames qf_rowNames qf_nested qf_runDepth qf_level qf_spent qa_tokKind qa_tokArg qa_match qa_length qa_weight qa_text qa_openStack qa_cellKind qa_cellValue qa_nodeKind qa_partA qa_partB qa_parent qa_mark qa_path qa_left qa_right qa_outerRow qa_outerStart qa_callPos qa_callEnd qa_runKind qa_runValue qa_framePos qa_frameEnd qa_savedKind qa_savedValue => J60 qx2 qx3 qx4 (qf_emptyRow, qf_consRow, qf_maxWords, qf_maxCells, qf_maxLevels, qf_maxFuel, qf_openTop, qf_count, qf_cellCount, qf_nodes, qf_sound, qf_startRow, qf_row, qf_valueNames, qf_rowNames, qf_nested, qf_runDepth, qf_level, qf_spent, qa_tokKind, qa_tokArg, qa_match, qa_length, qa_weight, qa_text, qa_openStack, qa_cellKind, qa_cellValue, qa_nodeKind, qa_partA, qa_partB, qa_parent, qa_mark, qa_path, qa_left, qa_right, qa_outerRow, qa_outerStart, qa_callPos, qa_callEnd, qa_runKind, qa_runValue, qa_framePos, qa_frameEnd, qa_savedKind, qa_savedValue)) x1 x2 x3 x4 x5 f_emptyRow f_consRow f_maxWords f_maxCells f_maxLevels f_maxFuel f_openTop f_count f_cellCount f_nodes f_sound f_startRow f_row f_valueNames f_rowNames f_nested f_runDepth f_level f_spent a_tokKind a_tokArg a_match a_length a_weight a_text a_openStack a_cellKind a_cellValue a_nodeKind a_partA a_partB a_parent a_mark a_path a_left a_right a_outerRow a_outerStart a_callPos a_callEnd a_runKind a_runValue a_framePos a_frameEnd a_savedKind a_savedValue
theorem pqX_writeText_124_e (post : SX → Prop) (J60 : Int32 → Int32 → Int32 → SX → Prop) (x1 : Int32) (x2 : Int32) (x3 : Int32) (x4 : Int32) (x5 : Int32) (u : SX) : pqX_writeText_124 post J60 x1 x2 x3 x4 x5 u = (wpX_hasParts (fun r_60 => (((r_60 = 0 → (∀ x4_108 : Int32 , x4_108 = x4 + 1 → (J60 x2 x3 x4_108 u))) ∧ (¬ r_60 = 0 → (vp_in x5 512 ∧ (((((xq_nodeKind u) x5.toNatClampNeg) = 5 → (pqX_writeText_149 post J60 x1 x2 x3 x4 x5 1 u)) ∧ (¬ ((xq_nodeKind u) x5.toNatClampNeg) = 5 → (pqX_writeText_149 post J60 x1 x2 x3 x4 x5 0 u))))))))) u x5) := rfl
def lqX_writeText_60 (post : SX → Prop) (x1 : Int32) (n : Nat) (x2 : Int32) (x3 : Int32) (x4 : Int32) (u : SX) : Prop := match u with
  | (f_emptyRow, f_consRow, f_maxWords, f_maxCells, f_maxLevels, f_maxFuel, f_openTop, f_count, f_cellCount, f_nodes, f_sound, f_startRow, f_row, f_valueNames, f_rowNames, f_nested, f_runDepth, f_level, f_spent, a_tokKind, a_tokArg, a_match, a_length, a_weight, a_text, a_openStack, a_cellKind, a_cellValue, a_nodeKind, a_partA, a_partB, a_parent, a_mark, a_path, a_left, a_right, a_outerRow, a_outerStart, a_callPos, a_callEnd, a_runKind, a_runValue, a_framePos, a_frameEnd, a_savedKind, a_savedValue) => wX_writeText_60 post x1 n x2 x3 x4 f_emptyRow f_consRow f_maxWords f_maxCells f_maxLevels f_maxFuel f_openTop f_count f_cellCount f_nodes f_sound f_startRow f_row f_valueNames f_rowNames f_nested f_runDepth f_level f_spent a_tokKind a_tokArg a_match a_length a_weight a_text a_openStack a_cellKind a_cellValue a_nodeKind a_partA a_partB a_parent a_mark a_path a_left a_right a_outerRow a_outerStart a_callPos a_callEnd a_runKind a_runValue a_framePos a_frameEnd a_savedKind a_savedValue
theorem lqX_writeText_60_s (post : SX → Prop) (x1 : Int32) (n : Nat) (x2 : Int32) (x3 : Int32) (x4 : Int32) (u : SX) : lqX_writeText_60 post x1 (n + 1) x2 x3 x4 u = (((130 ≤ x4 → (post u)) ∧ (¬ 130 ≤ x4 → (((x2 ≤ 0 → (post u)) ∧ (¬ x2 ≤ 0 → (((64 ≤ x3 → (post u)) ∧ (¬ 64 ≤ x3 → (∀ x2_9 : Int32 , x2_9 = x2 + (- 1) → (vp_in x2_9 512 ∧ (wpX_find (fun r_11 => (vp_in r_11 512 ∧ (((((xq_nodeKind u) r_11.toNatClampNeg) = 5 → (pqX_writeText_124 post (lqX_writeText_60 post x1 n) x1 x2_9 x3 x4 r_11 u)) ∧ (¬ ((xq_nodeKind u) r_11.toNatClampNeg) = 5 → (wpX_symbol (fun r_127 u1 => (vp_in ((64 * x1) + x3) 448 ∧ ∀ a_text_175 : Nat → Int32 , a_text_175 = upd (xq_text u1) ((64 * x1) + x3).toNatClampNeg r_127 → (∀ x3_176 : Int32 , x3_176 = x3 + 1 → (pqX_writeText_124 post (lqX_writeText_60 post x1 n) x1 x2_9 x3_176 x4 r_11 (xs_text u1 a_text_175))))) u r_11)))))) u ((xq_path u) x2_9.toNatClampNeg))))))))))))) := rfl
def lqX_writeText_2 (post : SX → Prop) (x1 : Int32) (n : Nat) (x2 : Int32) (u : SX) : Prop := match u with
  | (f_emptyRow, f_consRow, f_maxWords, f_maxCells, f_maxLevels, f_maxFuel, f_openTop, f_count, f_cellCount, f_nodes, f_sound, f_startRow, f_row, f_valueNames, f_rowNames, f_nested, f_runDepth, f_level, f_spent, a_tokKind, a_tokArg, a_match, a_length, a_weight, a_text, a_openStack, a_cellKind, a_cellValue, a_nodeKind, a_partA, a_partB, a_parent, a_mark, a_path, a_left, a_right, a_outerRow, a_outerStart, a_callPos, a_callEnd, a_runKind, a_runValue, a_framePos, a_frameEnd, a_savedKind, a_savedValue) => wX_writeText_2 post x1 f_emptyRow f_consRow f_maxWords f_maxCells f_maxLevels f_maxFuel f_openTop f_count f_cellCount f_nodes f_sound f_startRow f_row f_valueNames f_rowNames f_nested f_runDepth f_level f_spent n x2 a_tokKind a_tokArg a_match a_length a_weight a_text a_openStack a_cellKind a_cellValue a_nodeKind a_partA a_partB a_parent a_mark a_path a_left a_right a_outerRow a_outerStart a_callPos a_callEnd a_runKind a_runValue a_framePos a_frameEnd a_savedKind a_savedValue
theorem lqX_writeText_2_s (post : SX → Prop) (x1 : Int32) (n : Nat) (x2 : Int32) (u : SX) : lqX_writeText_2 post x1 (n + 1) x2 u = ((((xq_nodes u) ≤ x2 → (∀ a_path_3 : Nat → Int32 , a_path_3 = upd (xq_path u) 0 (xq_row u) → (∀ a_path_5 : Nat → Int32 , a_path_5 = upd a_path_3 1 (xq_startRow u) → (∃ n60 : Nat , lqX_writeText_60 post x1 n60 2 0 0 (xs_valueNames_rowNames_path u 0 0 a_path_5))))) ∧ (¬ (xq_nodes u) ≤ x2 → (vp_in x2 512 ∧ ∀ a_mark_178 : Nat → Int32 , a_mark_178 = upd (xq_mark u) x2.toNatClampNeg 0 → (∀ x2_179 : Int32 , x2_179 = x2 + 1 → (lqX_writeText_2 post x1 n x2_179 (xs_mark u a_mark_178))))))) := rfl
theorem we_X_writeText (post : SX → Prop) (u : SX) (p0 : Int32) : wpX_writeText post u p0 = (∃ n2 : Nat , lqX_writeText_2 post p0 n2 0 u) := rfl
theorem we_X_end (post : Int32 → SX → Prop) (u : SX) : wpX_end post u = (((0 < (xq_openTop u) → (post (- 1) u)) ∧ (¬ 0 < (xq_openTop u) → ((((xq_count u) = (xq_maxWords u) → (post (- 1) u)) ∧ (¬ (xq_count u) = (xq_maxWords u) → (∀ f_count_3 : Int32 , f_count_3 = (xq_count u) + 1 → (wpX_beginTyping (fun u1 => (vp_in (xq_count u) 8 ∧ (wpX_walk (fun u2 => (wpX_finishTyping (fun u3 => ((((xq_sound u3) = 0 → (post (xq_count u) u3)) ∧ (¬ (xq_sound u3) = 0 → (wpX_writeText (fun u4 => (post (xq_count u) u4)) u3 (xq_count u)))))) u2)) u1 (32 * (xq_count u)) ((32 * (xq_count u)) + ((xq_length u1) (xq_count u).toNatClampNeg))))) (xs_count u f_count_3) 200)))))))) := rfl
def lqX_quotationWeight_4 (post : Int32 → Prop) (x1 : Int32) (n : Nat) (x2 : Int32) (x3 : Int32) (u : SX) : Prop := match u with
  | (f_emptyRow, f_consRow, f_maxWords, f_maxCells, f_maxLevels, f_maxFuel, f_openTop, f_count, f_cellCount, f_nodes, f_sound, f_startRow, f_row, f_valueNames, f_rowNames, f_nested, f_runDepth, f_level, f_spent, a_tokKind, a_tokArg, a_match, a_length, a_weight, a_text, a_openStack, a_cellKind, a_cellValue, a_nodeKind, a_partA, a_partB, a_parent, a_mark, a_path, a_left, a_right, a_outerRow, a_outerStart, a_callPos, a_callEnd, a_runKind, a_runValue, a_framePos, a_frameEnd, a_savedKind, a_savedValue) => wX_quotationWeight_4 post x1 f_emptyRow f_consRow f_maxWords f_maxCells f_maxLevels f_maxFuel f_openTop f_count f_cellCount f_nodes f_sound f_startRow f_row f_valueNames f_rowNames f_nested f_runDepth f_level f_spent a_tokKind a_tokArg a_match a_length a_weight a_text a_openStack a_cellKind a_cellValue a_nodeKind a_partA a_partB a_parent a_mark a_path a_left a_right a_outerRow a_outerStart a_callPos a_callEnd a_runKind a_runValue a_framePos a_frameEnd a_savedKind a_savedValue n x2 x3
theorem lqX_quotationWeight_4_s (post : Int32 → Prop) (x1 : Int32) (n : Nat) (x2 : Int32) (x3 : Int32) (u : SX) : lqX_quotationWeight_4 post x1 (n + 1) x2 x3 u = (vp_in x1 256 ∧ (((((xq_match u) x1.toNatClampNeg) < x3 → (post x2)) ∧ (¬ ((xq_match u) x1.toNatClampNeg) < x3 → (vp_in x3 256 ∧ (vp_in x3 256 ∧ (wpX_tokenWeight (fun r_5 => (∀ x2_52 : Int32 , x2_52 = x2 + r_5 → (∀ x3_53 : Int32 , x3_53 = x3 + 1 → (lqX_quotationWeight_4 post x1 n x2_52 x3_53 u)))) u ((xq_tokKind u) x3.toNatClampNeg) ((xq_tokArg u) x3.toNatClampNeg)))))))) := rfl
theorem we_X_quotationWeight (post : Int32 → Prop) (u : SX) (p0 : Int32) : wpX_quotationWeight post u p0 = (∃ n4 : Nat , lqX_quotationWeight_4 post p0 n4 0 p0 u) := rfl
def lqX_stackWeight_4 (post : Int32 → Prop) (n : Nat) (x1 : Int32) (x2 : Int32) (u : SX) : Prop := match u with
  | (f_emptyRow, f_consRow, f_maxWords, f_maxCells, f_maxLevels, f_maxFuel, f_openTop, f_count, f_cellCount, f_nodes, f_sound, f_startRow, f_row, f_valueNames, f_rowNames, f_nested, f_runDepth, f_level, f_spent, a_tokKind, a_tokArg, a_match, a_length, a_weight, a_text, a_openStack, a_cellKind, a_cellValue, a_nodeKind, a_partA, a_partB, a_parent, a_mark, a_path, a_left, a_right, a_outerRow, a_outerStart, a_callPos, a_callEnd, a_runKind, a_runValue, a_framePos, a_frameEnd, a_savedKind, a_savedValue) => wX_stackWeight_4 post f_emptyRow f_consRow f_maxWords f_maxCells f_maxLevels f_maxFuel f_openTop f_count f_cellCount f_nodes f_sound f_startRow f_row f_valueNames f_rowNames f_nested f_runDepth f_level f_spent a_tokKind a_tokArg a_match a_length a_weight a_text a_openStack a_cellKind a_cellValue a_nodeKind a_partA a_partB a_parent a_mark a_path a_left a_right a_outerRow a_outerStart a_callPos a_callEnd a_runKind a_runValue a_framePos a_frameEnd a_savedKind a_savedValue n x1 x2
theorem lqX_stackWeight_4_s (post : Int32 → Prop) (n : Nat) (x1 : Int32) (x2 : Int32) (u : SX) : lqX_stackWeight_4 post (n + 1) x1 x2 u = ((((xq_cellCount u) ≤ x2 → (post x1)) ∧ (¬ (xq_cellCount u) ≤ x2 → (vp_in x2 16 ∧ (((((xq_cellKind u) x2.toNatClampNeg) = 1 → (∀ x1_54 : Int32 , x1_54 = x1 + 1 → (∀ x2_55 : Int32 , x2_55 = x2 + 1 → (lqX_stackWeight_4 post n x1_54 x2_55 u)))) ∧ (¬ ((xq_cellKind u) x2.toNatClampNeg) = 1 → (vp_in x2 16 ∧ (wpX_quotationWeight (fun r_5 => (∀ x1_52 : Int32 , x1_52 = x1 + r_5 → (∀ x2_53 : Int32 , x2_53 = x2 + 1 → (lqX_stackWeight_4 post n x1_52 x2_53 u)))) u ((xq_cellValue u) x2.toNatClampNeg)))))))))) := rfl
theorem we_X_stackWeight (post : Int32 → Prop) (u : SX) : wpX_stackWeight post u = (∃ n4 : Nat , lqX_stackWeight_4 post n4 0 0 u) := rfl
def lqX_typeCells_2 (post : SX → Prop) (n : Nat) (x1 : Int32) (u : SX) : Prop := match u with
  | (f_emptyRow, f_consRow, f_maxWords, f_maxCells, f_maxLevels, f_maxFuel, f_openTop, f_count, f_cellCount, f_nodes, f_sound, f_startRow, f_row, f_valueNames, f_rowNames, f_nested, f_runDepth, f_level, f_spent, a_tokKind, a_tokArg, a_match, a_length, a_weight, a_text, a_openStack, a_cellKind, a_cellValue, a_nodeKind, a_partA, a_partB, a_parent, a_mark, a_path, a_left, a_right, a_outerRow, a_outerStart, a_callPos, a_callEnd, a_runKind, a_runValue, a_framePos, a_frameEnd, a_savedKind, a_savedValue) => wX_typeCells_2 post n x1 f_emptyRow f_consRow f_maxWords f_maxCells f_maxLevels f_maxFuel f_openTop f_count f_cellCount f_nodes f_sound f_startRow f_row f_valueNames f_rowNames f_nested f_runDepth f_level f_spent a_tokKind a_tokArg a_match a_length a_weight a_text a_openStack a_cellKind a_cellValue a_nodeKind a_partA a_partB a_parent a_mark a_path a_left a_right a_outerRow a_outerStart a_callPos a_callEnd a_runKind a_runValue a_framePos a_frameEnd a_savedKind a_savedValue
theorem lqX_typeCells_2_s (post : SX → Prop) (n : Nat) (x1 : Int32) (u : SX) : lqX_typeCells_2 post (n + 1) x1 u = ((((xq_cellCount u) ≤ x1 → (post u)) ∧ (¬ (xq_cellCount u) ≤ x1 → (vp_in x1 16 ∧ (((((xq_cellKind u) x1.toNatClampNeg) = 1 → (wpX_giveInt (fun u1 => (∀ x1_102 : Int32 , x1_102 = x1 + 1 → (lqX_typeCells_2 post n x1_102 u1))) u)) ∧ (¬ ((xq_cellKind u) x1.toNatClampNeg) = 1 → (vp_in x1 16 ∧ (vp_in x1 16 ∧ (vp_in ((xq_cellValue u) x1.toNatClampNeg) 256 ∧ (wpX_walk (fun u2 => (∀ x1_54 : Int32 , x1_54 = x1 + 1 → (lqX_typeCells_2 post n x1_54 u2))) u ((xq_cellValue u) x1.toNatClampNeg) (((xq_match u) ((xq_cellValue u) x1.toNatClampNeg).toNatClampNeg) + 1)))))))))))) := rfl
theorem we_X_typeCells (post : SX → Prop) (u : SX) : wpX_typeCells post u = (∃ n2 : Nat , lqX_typeCells_2 post n2 0 u) := rfl
theorem we_X_fit (post : Int32 → SX → Prop) (u : SX) (p0 : Int32) : wpX_fit post u p0 = (wpX_isWord (fun r_1 => (((r_1 = 0 → (post (- 1) u)) ∧ (¬ r_1 = 0 → (wpX_stackWeight (fun r_49 => (vp_in p0 8 ∧ ((((r_49 + ((xq_weight u) p0.toNatClampNeg)) ≤ 32 → (wpX_beginTyping (fun u1 => (wpX_typeCells (fun u2 => (vp_in p0 8 ∧ (wpX_walk (fun u3 => (wpX_finishTyping (fun u4 => ((((xq_sound u4) = 0 → (post 0 u4)) ∧ (¬ (xq_sound u4) = 0 → (post 1 u4))))) u3)) u2 (32 * p0) ((32 * p0) + ((xq_length u2) p0.toNatClampNeg))))) u1)) u 4)) ∧ (¬ (r_49 + ((xq_weight u) p0.toNatClampNeg)) ≤ 32 → (post 2 u)))))) u))))) u p0) := rfl
def pqX_result_60 (post : Int32 → SX → Prop) (x3 : Int32) (u : SX) : Prop := match u with
  | (f_emptyRow, f_consRow, f_maxWords, f_maxCells, f_maxLevels, f_maxFuel, f_openTop, f_count, f_cellCount, f_nodes, f_sound, f_startRow, f_row, f_valueNames, f_rowNames, f_nested, f_runDepth, f_level, f_spent, a_tokKind, a_tokArg, a_match, a_length, a_weight, a_text, a_openStack, a_cellKind, a_cellValue, a_nodeKind, a_partA, a_partB, a_parent, a_mark, a_path, a_left, a_right, a_outerRow, a_outerStart, a_callPos, a_callEnd, a_runKind, a_runValue, a_framePos, a_frameEnd, a_savedKind, a_savedValue) => wX_result_60 post x3 f_emptyRow f_consRow f_maxWords f_maxCells f_maxLevels f_maxFuel f_openTop f_count f_cellCount f_nodes f_sound f_startRow f_row f_valueNames f_rowNames f_nested f_runDepth f_level f_spent a_tokKind a_tokArg a_match a_length a_weight a_text a_openStack a_cellKind a_cellValue a_nodeKind a_partA a_partB a_parent a_mark a_path a_left a_right a_outerRow a_outerStart a_callPos a_callEnd a_runKind a_runValue a_framePos a_frameEnd a_savedKind a_savedValue
theorem pqX_result_60_e (post : Int32 → SX → Prop) (x3 : Int32) (u : SX) : pqX_result_60 post x3 u = (vp_in x3 512 ∧ (((((xq_nodeKind u) x3.toNatClampNeg) = 5 → (vp_in x3 512 ∧ (wpX_find (fun r_101 => (vp_in r_101 512 ∧ (((((xq_nodeKind u) r_101.toNatClampNeg) = 100 → (post 3 u)) ∧ (¬ ((xq_nodeKind u) r_101.toNatClampNeg) = 100 → (vp_in r_101 512 ∧ (post ((xq_nodeKind u) r_101.toNatClampNeg) u))))))) u ((xq_partB u) x3.toNatClampNeg)))) ∧ (¬ ((xq_nodeKind u) x3.toNatClampNeg) = 5 → (post 0 u))))) := rfl
def lqX_result_27 (post : Int32 → SX → Prop) (x2 : Int32) (n : Nat) (x3 : Int32) (x4 : Int32) (u : SX) : Prop := match u with
  | (f_emptyRow, f_consRow, f_maxWords, f_maxCells, f_maxLevels, f_maxFuel, f_openTop, f_count, f_cellCount, f_nodes, f_sound, f_startRow, f_row, f_valueNames, f_rowNames, f_nested, f_runDepth, f_level, f_spent, a_tokKind, a_tokArg, a_match, a_length, a_weight, a_text, a_openStack, a_cellKind, a_cellValue, a_nodeKind, a_partA, a_partB, a_parent, a_mark, a_path, a_left, a_right, a_outerRow, a_outerStart, a_callPos, a_callEnd, a_runKind, a_runValue, a_framePos, a_frameEnd, a_savedKind, a_savedValue) => wX_result_27 post x2 f_emptyRow f_consRow f_maxWords f_maxCells f_maxLevels f_maxFuel f_openTop f_count f_cellCount f_nodes f_sound f_startRow f_row f_valueNames f_rowNames f_nested f_runDepth f_level f_spent a_tokKind a_tokArg a_match a_length a_weight a_text a_openStack a_cellKind a_cellValue a_nodeKind a_partA a_partB a_parent a_mark a_path a_left a_right a_outerRow a_outerStart a_callPos a_callEnd a_runKind a_runValue a_framePos a_frameEnd a_savedKind a_savedValue n x3 x4
theorem lqX_result_27_s (post : Int32 → SX → Prop) (x2 : Int32) (n : Nat) (x3 : Int32) (x4 : Int32) (u : SX) : lqX_result_27 post x2 (n + 1) x3 x4 u = (((x2 ≤ x4 → (pqX_result_60 post x3 u)) ∧ (¬ x2 ≤ x4 → (vp_in x3 512 ∧ (((((xq_nodeKind u) x3.toNatClampNeg) = 5 → (vp_in x3 512 ∧ (wpX_find (fun r_154 => (∀ x4_201 : Int32 , x4_201 = x4 + 1 → (lqX_result_27 post x2 n r_154 x4_201 u))) u ((xq_partA u) x3.toNatClampNeg)))) ∧ (¬ ((xq_nodeKind u) x3.toNatClampNeg) = 5 → (pqX_result_60 post x3 u)))))))) := rfl
theorem we_X_result (post : Int32 → SX → Prop) (u : SX) (p0 : Int32) (p1 : Int32) : wpX_result post u p0 p1 = (wpX_fit (fun r_1 u1 => (((r_1 = 1 → (((0 ≤ p1 → (wpX_find (fun r_50 => (∃ n27 : Nat , lqX_result_27 post p1 n27 r_50 0 u1)) u1 (xq_row u1))) ∧ (¬ 0 ≤ p1 → (post 0 u1))))) ∧ (¬ r_1 = 1 → (post 0 u1))))) u p0) := rfl
end
end
section
/-! printed by gen/parts.py: clean equations -/
section
def pqX_append_45 (post : SX → Prop) (x1 : Int32) (x3 : Int32) (z0 : Int32) (z1 : Int32) (u : SX) : Prop := match u with
  | (f_emptyRow, f_consRow, f_maxWords, f_maxCells, f_maxLevels, f_maxFuel, f_openTop, f_count, f_cellCount, f_nodes, f_sound, f_startRow, f_row, f_valueNames, f_rowNames, f_nested, f_runDepth, f_level, f_spent, a_tokKind, a_tokArg, a_match, a_length, a_weight, a_text, a_openStack, a_cellKind, a_cellValue, a_nodeKind, a_partA, a_partB, a_parent, a_mark, a_path, a_left, a_right, a_outerRow, a_outerStart, a_callPos, a_callEnd, a_runKind, a_runValue, a_framePos, a_frameEnd, a_savedKind, a_savedValue) => wX_append_45 post x1 x3 z0 z1 f_emptyRow f_consRow f_maxWords f_maxCells f_maxLevels f_maxFuel f_openTop f_count f_cellCount f_nodes f_sound f_startRow f_row f_valueNames f_rowNames f_nested f_runDepth f_level f_spent a_tokKind a_tokArg a_match a_length a_weight a_text a_openStack a_cellKind a_cellValue a_nodeKind a_partA a_partB a_parent a_mark a_path a_left a_right a_outerRow a_outerStart a_callPos a_callEnd a_runKind a_runValue a_framePos a_frameEnd a_savedKind a_savedValue
theorem pqX_append_45_e (post : SX → Prop) (x1 : Int32) (x3 : Int32) (z0 : Int32) (z1 : Int32) (u : SX) : pqX_append_45 post x1 x3 z0 z1 u = (vp_in z1 256 ∧ ∀ a_tokArg_7 : Nat → Int32 , a_tokArg_7 = upd (xq_tokArg u) z1.toNatClampNeg z0 → (vp_in (xq_count u) 8 ∧ (vp_in (xq_count u) 8 ∧ ∀ a_length_10 : Nat → Int32 , a_length_10 = upd (xq_length u) (xq_count u).toNatClampNeg (((xq_length u) (xq_count u).toNatClampNeg) + 1) → (((x1 = 3 → (vp_in (xq_openTop u) 32 ∧ ∀ a_openStack_18 : Nat → Int32 , a_openStack_18 = upd (xq_openStack u) (xq_openTop u).toNatClampNeg x3 → (∀ f_openTop_19 : Int32 , f_openTop_19 = (xq_openTop u) + 1 → (post (xs_openTop_tokArg_length_openStack u f_openTop_19 a_tokArg_7 a_length_10 a_openStack_18))))) ∧ (¬ x1 = 3 → (((x1 = 4 → (∀ f_openTop_13 : Int32 , f_openTop_13 = (xq_openTop u) - 1 → (vp_in f_openTop_13 32 ∧ (vp_in ((xq_openStack u) f_openTop_13.toNatClampNeg) 256 ∧ ∀ a_match_16 : Nat → Int32 , a_match_16 = upd (xq_match u) ((xq_openStack u) f_openTop_13.toNatClampNeg).toNatClampNeg x3 → (post (xs_openTop_tokArg_match_length u f_openTop_13 a_tokArg_7 a_match_16 a_length_10)))))) ∧ (¬ x1 = 4 → (post (xs_tokArg_length u a_tokArg_7 a_length_10))))))))))) := rfl
def pqX_append_40 (post : SX → Prop) (x1 : Int32) (x2 : Int32) (x3 : Int32) (z0 : Int32) (u : SX) : Prop := match u with
  | (f_emptyRow, f_consRow, f_maxWords, f_maxCells, f_maxLevels, f_maxFuel, f_openTop, f_count, f_cellCount, f_nodes, f_sound, f_startRow, f_row, f_valueNames, f_rowNames, f_nested, f_runDepth, f_level, f_spent, a_tokKind, a_tokArg, a_match, a_length, a_weight, a_text, a_openStack, a_cellKind, a_cellValue, a_nodeKind, a_partA, a_partB, a_parent, a_mark, a_path, a_left, a_right, a_outerRow, a_outerStart, a_callPos, a_callEnd, a_runKind, a_runValue, a_framePos, a_frameEnd, a_savedKind, a_savedValue) => wX_append_40 post x1 x2 x3 z0 f_emptyRow f_consRow f_maxWords f_maxCells f_maxLevels f_maxFuel f_openTop f_count f_cellCount f_nodes f_sound f_startRow f_row f_valueNames f_rowNames f_nested f_runDepth f_level f_spent a_tokKind a_tokArg a_match a_length a_weight a_text a_openStack a_cellKind a_cellValue a_nodeKind a_partA a_partB a_parent a_mark a_path a_left a_right a_outerRow a_outerStart a_callPos a_callEnd a_runKind a_runValue a_framePos a_frameEnd a_savedKind a_savedValue
theorem pqX_append_40_e (post : SX → Prop) (x1 : Int32) (x2 : Int32) (x3 : Int32) (z0 : Int32) (u : SX) : pqX_append_40 post x1 x2 x3 z0 u = (pqX_append_45 post x1 x3 x2 z0 u) := rfl
theorem we_X_append (post : SX → Prop) (u : SX) (p0 : Int32) (p1 : Int32) : wpX_append post u p0 p1 = (vp_in (xq_count u) 8 ∧ (∀ x3_2 : Int32 , x3_2 = (32 * (xq_count u)) + ((xq_length u) (xq_count u).toNatClampNeg) → (vp_in x3_2 256 ∧ ∀ a_tokKind_4 : Nat → Int32 , a_tokKind_4 = upd (xq_tokKind u) x3_2.toNatClampNeg p0 → (((p0 = 1 → (pqX_append_40 post p0 p1 x3_2 x3_2 (xs_tokKind u a_tokKind_4))) ∧ (¬ p0 = 1 → (((p0 = 2 → (pqX_append_40 post p0 p1 x3_2 x3_2 (xs_tokKind u a_tokKind_4))) ∧ (¬ p0 = 2 → (pqX_append_45 post p0 x3_2 0 x3_2 (xs_tokKind u a_tokKind_4))))))))))) := rfl
def pqX_token_42 (post : Int32 → SX → Prop) (x1 : Int32) (x2 : Int32) (u : SX) : Prop := match u with
  | (f_emptyRow, f_consRow, f_maxWords, f_maxCells, f_maxLevels, f_maxFuel, f_openTop, f_count, f_cellCount, f_nodes, f_sound, f_startRow, f_row, f_valueNames, f_rowNames, f_nested, f_runDepth, f_level, f_spent, a_tokKind, a_tokArg, a_match, a_length, a_weight, a_text, a_openStack, a_cellKind, a_cellValue, a_nodeKind, a_partA, a_partB, a_parent, a_mark, a_path, a_left, a_right, a_outerRow, a_outerStart, a_callPos, a_callEnd, a_runKind, a_runValue, a_framePos, a_frameEnd, a_savedKind, a_savedValue) => wX_token_42 post x1 x2 f_emptyRow f_consRow f_maxWords f_maxCells f_maxLevels f_maxFuel f_openTop f_count f_cellCount f_nodes f_sound f_startRow f_row f_valueNames f_rowNames f_nested f_runDepth f_level f_spent a_tokKind a_tokArg a_match a_length a_weight a_text a_openStack a_cellKind a_cellValue a_nodeKind a_partA a_partB a_parent a_mark a_path a_left a_right a_outerRow a_outerStart a_callPos a_callEnd a_runKind a_runValue a_framePos a_frameEnd a_savedKind a_savedValue
theorem pqX_token_42_e (post : Int32 → SX → Prop) (x1 : Int32) (x2 : Int32) (u : SX) : pqX_token_42 post x1 x2 u = (vp_in (xq_count u) 8 ∧ (wpX_tokenWeight (fun r_6 => (∀ x3_53 : Int32 , x3_53 = ((xq_weight u) (xq_count u).toNatClampNeg) + r_6 → (((x3_53 ≤ 32 → (vp_in (xq_count u) 8 ∧ ∀ a_weight_56 : Nat → Int32 , a_weight_56 = upd (xq_weight u) (xq_count u).toNatClampNeg x3_53 → (wpX_append (fun u1 => (vp_in (xq_count u1) 8 ∧ (post ((xq_length u1) (xq_count u1).toNatClampNeg) u1))) (xs_weight u a_weight_56) x1 x2))) ∧ (¬ x3_53 ≤ 32 → (post (- 2) u)))))) u x1 x2)) := rfl
def pqX_token_28 (post : Int32 → SX → Prop) (x1 : Int32) (x2 : Int32) (u : SX) : Prop := match u with
  | (f_emptyRow, f_consRow, f_maxWords, f_maxCells, f_maxLevels, f_maxFuel, f_openTop, f_count, f_cellCount, f_nodes, f_sound, f_startRow, f_row, f_valueNames, f_rowNames, f_nested, f_runDepth, f_level, f_spent, a_tokKind, a_tokArg, a_match, a_length, a_weight, a_text, a_openStack, a_cellKind, a_cellValue, a_nodeKind, a_partA, a_partB, a_parent, a_mark, a_path, a_left, a_right, a_outerRow, a_outerStart, a_callPos, a_callEnd, a_runKind, a_runValue, a_framePos, a_frameEnd, a_savedKind, a_savedValue) => wX_token_28 post x1 x2 f_emptyRow f_consRow f_maxWords f_maxCells f_maxLevels f_maxFuel f_openTop f_count f_cellCount f_nodes f_sound f_startRow f_row f_valueNames f_rowNames f_nested f_runDepth f_level f_spent a_tokKind a_tokArg a_match a_length a_weight a_text a_openStack a_cellKind a_cellValue a_nodeKind a_partA a_partB a_parent a_mark a_path a_left a_right a_outerRow a_outerStart a_callPos a_callEnd a_runKind a_runValue a_framePos a_frameEnd a_savedKind a_savedValue
theorem pqX_token_28_e (post : Int32 → SX → Prop) (x1 : Int32) (x2 : Int32) (u : SX) : pqX_token_28 post x1 x2 u = (((x1 = 4 → ((((xq_openTop u) = 0 → (post (- 1) u)) ∧ (¬ (xq_openTop u) = 0 → (pqX_token_42 post x1 x2 u))))) ∧ (¬ x1 = 4 → (pqX_token_42 post x1 x2 u)))) := rfl
theorem we_X_token (post : Int32 → SX → Prop) (u : SX) (p0 : Int32) (p1 : Int32) : wpX_token post u p0 p1 = (((p0 < 1 → (post (- 1) u)) ∧ (¬ p0 < 1 → (((p0 ≤ 13 → (((p0 = 2 → (wpX_isWord (fun r_106 => (((r_106 = 0 → (post (- 1) u)) ∧ (¬ r_106 = 0 → (pqX_token_28 post p0 p1 u))))) u p1)) ∧ (¬ p0 = 2 → (pqX_token_28 post p0 p1 u))))) ∧ (¬ p0 ≤ 13 → (post (- 1) u))))))) := rfl
theorem we_X_scrap (post : SX → Prop) (u : SX) : wpX_scrap post u = (vp_in (xq_count u) 8 ∧ ∀ a_length_2 : Nat → Int32 , a_length_2 = upd (xq_length u) (xq_count u).toNatClampNeg 0 → (vp_in (xq_count u) 8 ∧ ∀ a_weight_4 : Nat → Int32 , a_weight_4 = upd (xq_weight u) (xq_count u).toNatClampNeg 0 → (post (xs_openTop_length_weight u 0 a_length_2 a_weight_4)))) := rfl
theorem we_X_words (post : Int32 → Prop) (u : SX) : wpX_words post u = (post (xq_count u)) := rfl
theorem we_X_isToken (post : Int32 → Prop) (u : SX) (p0 : Int32) (p1 : Int32) : wpX_isToken post u p0 p1 = (((p0 < 0 → (post 0)) ∧ (¬ p0 < 0 → ((((xq_count u) < p0 → (post 0)) ∧ (¬ (xq_count u) < p0 → (((p1 < 0 → (post 0)) ∧ (¬ p1 < 0 → (vp_in p0 8 ∧ (((((xq_length u) p0.toNatClampNeg) ≤ p1 → (post 0)) ∧ (¬ ((xq_length u) p0.toNatClampNeg) ≤ p1 → (post 1)))))))))))))) := rfl
theorem we_X_tokenKind (post : Int32 → Prop) (u : SX) (p0 : Int32) (p1 : Int32) : wpX_tokenKind post u p0 p1 = (wpX_isToken (fun r_1 => (((r_1 = 0 → (post 0)) ∧ (¬ r_1 = 0 → (vp_in ((32 * p0) + p1) 256 ∧ (post ((xq_tokKind u) ((32 * p0) + p1).toNatClampNeg))))))) u p0 p1) := rfl
theorem we_X_tokenArg (post : Int32 → Prop) (u : SX) (p0 : Int32) (p1 : Int32) : wpX_tokenArg post u p0 p1 = (wpX_isToken (fun r_1 => (((r_1 = 0 → (post 0)) ∧ (¬ r_1 = 0 → (vp_in ((32 * p0) + p1) 256 ∧ (post ((xq_tokArg u) ((32 * p0) + p1).toNatClampNeg))))))) u p0 p1) := rfl
theorem we_X_effect (post : Int32 → Prop) (u : SX) (p0 : Int32) (p1 : Int32) : wpX_effect post u p0 p1 = (wpX_isWord (fun r_1 => (((r_1 = 0 → (post (- 1))) ∧ (¬ r_1 = 0 → (((p1 < 0 → (post 0)) ∧ (¬ p1 < 0 → (((p1 ≤ 63 → (vp_in ((64 * p0) + p1) 448 ∧ (post ((xq_text u) ((64 * p0) + p1).toNatClampNeg)))) ∧ (¬ p1 ≤ 63 → (post 0))))))))))) u p0) := rfl
theorem we_X_push (post : Int32 → SX → Prop) (u : SX) (p0 : Int32) : wpX_push post u p0 = ((((xq_cellCount u) = (xq_maxCells u) → (post 0 u)) ∧ (¬ (xq_cellCount u) = (xq_maxCells u) → (vp_in (xq_cellCount u) 16 ∧ ∀ a_cellKind_3 : Nat → Int32 , a_cellKind_3 = upd (xq_cellKind u) (xq_cellCount u).toNatClampNeg 1 → (vp_in (xq_cellCount u) 16 ∧ ∀ a_cellValue_5 : Nat → Int32 , a_cellValue_5 = upd (xq_cellValue u) (xq_cellCount u).toNatClampNeg p0 → (∀ f_cellCount_6 : Int32 , f_cellCount_6 = (xq_cellCount u) + 1 → (post 1 (xs_cellCount_cellKind_cellValue u f_cellCount_6 a_cellKind_3 a_cellValue_5)))))))) := rfl
theorem we_X_pop (post : Int32 → SX → Prop) (u : SX) : wpX_pop post u = ((((xq_cellCount u) = 0 → (post 0 u)) ∧ (¬ (xq_cellCount u) = 0 → (∀ f_cellCount_2 : Int32 , f_cellCount_2 = (xq_cellCount u) - 1 → (post 1 (xs_cellCount u f_cellCount_2)))))) := rfl
theorem we_X_depth (post : Int32 → Prop) (u : SX) : wpX_depth post u = (post (xq_cellCount u)) := rfl
theorem we_X_kind (post : Int32 → Prop) (u : SX) (p0 : Int32) : wpX_kind post u p0 = (((p0 < 0 → (post 0)) ∧ (¬ p0 < 0 → (((p0 < (xq_cellCount u) → (vp_in (((xq_cellCount u) - 1) - p0) 16 ∧ (post ((xq_cellKind u) (((xq_cellCount u) - 1) - p0).toNatClampNeg)))) ∧ (¬ p0 < (xq_cellCount u) → (post 0))))))) := rfl
theorem we_X_value (post : Int32 → Prop) (u : SX) (p0 : Int32) : wpX_value post u p0 = (((p0 < 0 → (post 0)) ∧ (¬ p0 < 0 → (((p0 < (xq_cellCount u) → (vp_in (((xq_cellCount u) - 1) - p0) 16 ∧ (post ((xq_cellValue u) (((xq_cellCount u) - 1) - p0).toNatClampNeg)))) ∧ (¬ p0 < (xq_cellCount u) → (post 0))))))) := rfl
end
end
section
/-! printed by gen/parts.py: clean equations -/
section
theorem we_X_enter (post : SX → Prop) (u : SX) (p0 : Int32) (p1 : Int32) : wpX_enter post u p0 p1 = (∀ f_level_1 : Int32 , f_level_1 = (xq_level u) + 1 → (vp_in f_level_1 34 ∧ ∀ a_framePos_3 : Nat → Int32 , a_framePos_3 = upd (xq_framePos u) f_level_1.toNatClampNeg p0 → (vp_in f_level_1 34 ∧ ∀ a_frameEnd_5 : Nat → Int32 , a_frameEnd_5 = upd (xq_frameEnd u) f_level_1.toNatClampNeg p1 → (vp_in f_level_1 34 ∧ ∀ a_savedKind_7 : Nat → Int32 , a_savedKind_7 = upd (xq_savedKind u) f_level_1.toNatClampNeg 0 → (post (xs_level_framePos_frameEnd_savedKind u f_level_1 a_framePos_3 a_frameEnd_5 a_savedKind_7)))))) := rfl
def lqX_startRun_2 (post : SX → Prop) (x1 : Int32) (n : Nat) (x2 : Int32) (u : SX) : Prop := match u with
  | (f_emptyRow, f_consRow, f_maxWords, f_maxCells, f_maxLevels, f_maxFuel, f_openTop, f_count, f_cellCount, f_nodes, f_sound, f_startRow, f_row, f_valueNames, f_rowNames, f_nested, f_runDepth, f_level, f_spent, a_tokKind, a_tokArg, a_match, a_length, a_weight, a_text, a_openStack, a_cellKind, a_cellValue, a_nodeKind, a_partA, a_partB, a_parent, a_mark, a_path, a_left, a_right, a_outerRow, a_outerStart, a_callPos, a_callEnd, a_runKind, a_runValue, a_framePos, a_frameEnd, a_savedKind, a_savedValue) => wX_startRun_2 post x1 f_emptyRow f_consRow f_maxWords f_maxCells f_maxLevels f_maxFuel f_openTop f_count f_cellCount f_nodes f_sound f_startRow f_row f_valueNames f_rowNames f_nested f_runDepth f_level f_spent n x2 a_tokKind a_tokArg a_match a_length a_weight a_text a_openStack a_cellKind a_cellValue a_nodeKind a_partA a_partB a_parent a_mark a_path a_left a_right a_outerRow a_outerStart a_callPos a_callEnd a_runKind a_runValue a_framePos a_frameEnd a_savedKind a_savedValue
theorem lqX_startRun_2_s (post : SX → Prop) (x1 : Int32) (n : Nat) (x2 : Int32) (u : SX) : lqX_startRun_2 post x1 (n + 1) x2 u = ((((xq_cellCount u) ≤ x2 → (vp_in x1 8 ∧ (wpX_enter (fun u1 => (post u1)) (xs_runDepth_level_spent u (xq_cellCount u) 0 0) (32 * x1) ((32 * x1) + ((xq_length u) x1.toNatClampNeg))))) ∧ (¬ (xq_cellCount u) ≤ x2 → (vp_in x2 16 ∧ (vp_in x2 16 ∧ ∀ a_runKind_52 : Nat → Int32 , a_runKind_52 = upd (xq_runKind u) x2.toNatClampNeg ((xq_cellKind u) x2.toNatClampNeg) → (vp_in x2 16 ∧ (vp_in x2 16 ∧ ∀ a_runValue_55 : Nat → Int32 , a_runValue_55 = upd (xq_runValue u) x2.toNatClampNeg ((xq_cellValue u) x2.toNatClampNeg) → (∀ x2_56 : Int32 , x2_56 = x2 + 1 → (lqX_startRun_2 post x1 n x2_56 (xs_runKind_runValue u a_runKind_52 a_runValue_55)))))))))) := rfl
theorem we_X_startRun (post : SX → Prop) (u : SX) (p0 : Int32) : wpX_startRun post u p0 = (∃ n2 : Nat , lqX_startRun_2 post p0 n2 0 u) := rfl
theorem we_X_runPush (post : Int32 → SX → Prop) (u : SX) (p0 : Int32) (p1 : Int32) : wpX_runPush post u p0 p1 = ((((xq_runDepth u) = (xq_maxCells u) → (post 4 u)) ∧ (¬ (xq_runDepth u) = (xq_maxCells u) → (vp_in (xq_runDepth u) 16 ∧ ∀ a_runKind_3 : Nat → Int32 , a_runKind_3 = upd (xq_runKind u) (xq_runDepth u).toNatClampNeg p0 → (vp_in (xq_runDepth u) 16 ∧ ∀ a_runValue_5 : Nat → Int32 , a_runValue_5 = upd (xq_runValue u) (xq_runDepth u).toNatClampNeg p1 → (∀ f_runDepth_6 : Int32 , f_runDepth_6 = (xq_runDepth u) + 1 → (post 0 (xs_runDepth_runKind_runValue u f_runDepth_6 a_runKind_3 a_runValue_5)))))))) := rfl
theorem we_X_runCall (post : Int32 → SX → Prop) (u : SX) (p0 : Int32) : wpX_runCall post u p0 = ((((xq_level u) = (xq_maxLevels u) → (post 3 u)) ∧ (¬ (xq_level u) = (xq_maxLevels u) → (vp_in p0 8 ∧ (wpX_enter (fun u1 => (post 0 u1)) u (32 * p0) ((32 * p0) + ((xq_length u) p0.toNatClampNeg))))))) := rfl
theorem we_X_runDup (post : Int32 → SX → Prop) (u : SX) : wpX_runDup post u = (((1 ≤ (xq_runDepth u) → (vp_in ((xq_runDepth u) - 1) 16 ∧ (vp_in ((xq_runDepth u) - 1) 16 ∧ (wpX_runPush (fun r_4 u1 => (post r_4 u1)) u ((xq_runKind u) ((xq_runDepth u) - 1).toNatClampNeg) ((xq_runValue u) ((xq_runDepth u) - 1).toNatClampNeg))))) ∧ (¬ 1 ≤ (xq_runDepth u) → (post 5 u)))) := rfl
theorem we_X_runDrop (post : Int32 → SX → Prop) (u : SX) : wpX_runDrop post u = (((1 ≤ (xq_runDepth u) → (∀ f_runDepth_2 : Int32 , f_runDepth_2 = (xq_runDepth u) - 1 → (post 0 (xs_runDepth u f_runDepth_2)))) ∧ (¬ 1 ≤ (xq_runDepth u) → (post 5 u)))) := rfl
theorem we_X_runSwap (post : Int32 → SX → Prop) (u : SX) : wpX_runSwap post u = (((2 ≤ (xq_runDepth u) → (∀ x1_2 : Int32 , x1_2 = (xq_runDepth u) - 1 → (∀ x2_3 : Int32 , x2_3 = (xq_runDepth u) - 2 → (vp_in x1_2 16 ∧ (∀ x3_5 : Int32 , x3_5 = (xq_runKind u) x1_2.toNatClampNeg → (vp_in x1_2 16 ∧ (∀ x4_7 : Int32 , x4_7 = (xq_runValue u) x1_2.toNatClampNeg → (vp_in x2_3 16 ∧ (vp_in x1_2 16 ∧ ∀ a_runKind_10 : Nat → Int32 , a_runKind_10 = upd (xq_runKind u) x1_2.toNatClampNeg ((xq_runKind u) x2_3.toNatClampNeg) → (vp_in x2_3 16 ∧ (vp_in x1_2 16 ∧ ∀ a_runValue_13 : Nat → Int32 , a_runValue_13 = upd (xq_runValue u) x1_2.toNatClampNeg ((xq_runValue u) x2_3.toNatClampNeg) → (vp_in x2_3 16 ∧ ∀ a_runKind_15 : Nat → Int32 , a_runKind_15 = upd a_runKind_10 x2_3.toNatClampNeg x3_5 → (vp_in x2_3 16 ∧ ∀ a_runValue_17 : Nat → Int32 , a_runValue_17 = upd a_runValue_13 x2_3.toNatClampNeg x4_7 → (post 0 (xs_runKind_runValue u a_runKind_15 a_runValue_17))))))))))))))) ∧ (¬ 2 ≤ (xq_runDepth u) → (post 5 u)))) := rfl
theorem we_X_runApply (post : Int32 → SX → Prop) (u : SX) : wpX_runApply post u = (((1 ≤ (xq_runDepth u) → (vp_in ((xq_runDepth u) - 1) 16 ∧ (((((xq_runKind u) ((xq_runDepth u) - 1).toNatClampNeg) = 2 → ((((xq_level u) = (xq_maxLevels u) → (post 3 u)) ∧ (¬ (xq_level u) = (xq_maxLevels u) → (∀ f_runDepth_5 : Int32 , f_runDepth_5 = (xq_runDepth u) - 1 → (vp_in f_runDepth_5 16 ∧ (∀ x1_7 : Int32 , x1_7 = (xq_runValue u) f_runDepth_5.toNatClampNeg → (vp_in x1_7 256 ∧ (wpX_enter (fun u1 => (post 0 u1)) (xs_runDepth u f_runDepth_5) (x1_7 + 1) ((xq_match u) x1_7.toNatClampNeg)))))))))) ∧ (¬ ((xq_runKind u) ((xq_runDepth u) - 1).toNatClampNeg) = 2 → (post 7 u)))))) ∧ (¬ 1 ≤ (xq_runDepth u) → (post 5 u)))) := rfl
theorem we_X_runDip (post : Int32 → SX → Prop) (u : SX) : wpX_runDip post u = (((2 ≤ (xq_runDepth u) → (vp_in ((xq_runDepth u) - 1) 16 ∧ (((((xq_runKind u) ((xq_runDepth u) - 1).toNatClampNeg) = 2 → ((((xq_level u) = (xq_maxLevels u) → (post 3 u)) ∧ (¬ (xq_level u) = (xq_maxLevels u) → (∀ f_runDepth_5 : Int32 , f_runDepth_5 = (xq_runDepth u) - 2 → (vp_in (f_runDepth_5 + 1) 16 ∧ (∀ x1_7 : Int32 , x1_7 = (xq_runValue u) (f_runDepth_5 + 1).toNatClampNeg → (vp_in x1_7 256 ∧ (wpX_enter (fun u1 => (vp_in (xq_runDepth u1) 16 ∧ (vp_in (xq_level u1) 34 ∧ ∀ a_savedKind_58 : Nat → Int32 , a_savedKind_58 = upd (xq_savedKind u1) (xq_level u1).toNatClampNeg ((xq_runKind u1) (xq_runDepth u1).toNatClampNeg) → (vp_in (xq_runDepth u1) 16 ∧ (vp_in (xq_level u1) 34 ∧ ∀ a_savedValue_61 : Nat → Int32 , a_savedValue_61 = upd (xq_savedValue u1) (xq_level u1).toNatClampNeg ((xq_runValue u1) (xq_runDepth u1).toNatClampNeg) → (post 0 (xs_savedKind_savedValue u1 a_savedKind_58 a_savedValue_61))))))) (xs_runDepth u f_runDepth_5) (x1_7 + 1) ((xq_match u) x1_7.toNatClampNeg)))))))))) ∧ (¬ ((xq_runKind u) ((xq_runDepth u) - 1).toNatClampNeg) = 2 → (post 7 u)))))) ∧ (¬ 2 ≤ (xq_runDepth u) → (post 5 u)))) := rfl
def pqX_runIf_121 (post : Int32 → SX → Prop) (z0 : Int32) (u : SX) : Prop := match u with
  | (f_emptyRow, f_consRow, f_maxWords, f_maxCells, f_maxLevels, f_maxFuel, f_openTop, f_count, f_cellCount, f_nodes, f_sound, f_startRow, f_row, f_valueNames, f_rowNames, f_nested, f_runDepth, f_level, f_spent, a_tokKind, a_tokArg, a_match, a_length, a_weight, a_text, a_openStack, a_cellKind, a_cellValue, a_nodeKind, a_partA, a_partB, a_parent, a_mark, a_path, a_left, a_right, a_outerRow, a_outerStart, a_callPos, a_callEnd, a_runKind, a_runValue, a_framePos, a_frameEnd, a_savedKind, a_savedValue) => wX_runIf_121 post z0 f_emptyRow f_consRow f_maxWords f_maxCells f_maxLevels f_maxFuel f_openTop f_count f_cellCount f_nodes f_sound f_startRow f_row f_valueNames f_rowNames f_nested f_runDepth f_level f_spent a_tokKind a_tokArg a_match a_length a_weight a_text a_openStack a_cellKind a_cellValue a_nodeKind a_partA a_partB a_parent a_mark a_path a_left a_right a_outerRow a_outerStart a_callPos a_callEnd a_runKind a_runValue a_framePos a_frameEnd a_savedKind a_savedValue
theorem pqX_runIf_121_e (post : Int32 → SX → Prop) (z0 : Int32) (u : SX) : pqX_runIf_121 post z0 u = (vp_in z0 256 ∧ (wpX_enter (fun u1 => (post 0 u1)) u (z0 + 1) ((xq_match u) z0.toNatClampNeg))) := rfl
theorem we_X_runIf (post : Int32 → SX → Prop) (u : SX) : wpX_runIf post u = (((3 ≤ (xq_runDepth u) → (vp_in ((xq_runDepth u) - 1) 16 ∧ (((((xq_runKind u) ((xq_runDepth u) - 1).toNatClampNeg) = 2 → (vp_in ((xq_runDepth u) - 2) 16 ∧ (((((xq_runKind u) ((xq_runDepth u) - 2).toNatClampNeg) = 2 → (vp_in ((xq_runDepth u) - 3) 16 ∧ (((((xq_runKind u) ((xq_runDepth u) - 3).toNatClampNeg) = 1 → ((((xq_level u) = (xq_maxLevels u) → (post 3 u)) ∧ (¬ (xq_level u) = (xq_maxLevels u) → (∀ f_runDepth_9 : Int32 , f_runDepth_9 = (xq_runDepth u) - 3 → (vp_in f_runDepth_9 16 ∧ (((((xq_runValue u) f_runDepth_9.toNatClampNeg) = 0 → (vp_in (f_runDepth_9 + 2) 16 ∧ (pqX_runIf_121 post ((xq_runValue u) (f_runDepth_9 + 2).toNatClampNeg) (xs_runDepth u f_runDepth_9)))) ∧ (¬ ((xq_runValue u) f_runDepth_9.toNatClampNeg) = 0 → (vp_in (f_runDepth_9 + 1) 16 ∧ (pqX_runIf_121 post ((xq_runValue u) (f_runDepth_9 + 1).toNatClampNeg) (xs_runDepth u f_runDepth_9)))))))))))) ∧ (¬ ((xq_runKind u) ((xq_runDepth u) - 3).toNatClampNeg) = 1 → (post 6 u)))))) ∧ (¬ ((xq_runKind u) ((xq_runDepth u) - 2).toNatClampNeg) = 2 → (post 7 u)))))) ∧ (¬ ((xq_runKind u) ((xq_runDepth u) - 1).toNatClampNeg) = 2 → (post 7 u)))))) ∧ (¬ 3 ≤ (xq_runDepth u) → (post 5 u)))) := rfl
def pqX_runArithmetic_112 (post : Int32 → SX → Prop) (x4 : Int32) (u : SX) : Prop := match u with
  | (f_emptyRow, f_consRow, f_maxWords, f_maxCells, f_maxLevels, f_maxFuel, f_openTop, f_count, f_cellCount, f_nodes, f_sound, f_startRow, f_row, f_valueNames, f_rowNames, f_nested, f_runDepth, f_level, f_spent, a_tokKind, a_tokArg, a_match, a_length, a_weight, a_text, a_openStack, a_cellKind, a_cellValue, a_nodeKind, a_partA, a_partB, a_parent, a_mark, a_path, a_left, a_right, a_outerRow, a_outerStart, a_callPos, a_callEnd, a_runKind, a_runValue, a_framePos, a_frameEnd, a_savedKind, a_savedValue) => wX_runArithmetic_112 post x4 f_emptyRow f_consRow f_maxWords f_maxCells f_maxLevels f_maxFuel f_openTop f_count f_cellCount f_nodes f_sound f_startRow f_row f_valueNames f_rowNames f_nested f_runDepth f_level f_spent a_tokKind a_tokArg a_match a_length a_weight a_text a_openStack a_cellKind a_cellValue a_nodeKind a_partA a_partB a_parent a_mark a_path a_left a_right a_outerRow a_outerStart a_callPos a_callEnd a_runKind a_runValue a_framePos a_frameEnd a_savedKind a_savedValue
theorem pqX_runArithmetic_112_e (post : Int32 → SX → Prop) (x4 : Int32) (u : SX) : pqX_runArithmetic_112 post x4 u = (vp_in ((xq_runDepth u) - 1) 16 ∧ ∀ a_runValue_15 : Nat → Int32 , a_runValue_15 = upd (xq_runValue u) ((xq_runDepth u) - 1).toNatClampNeg x4 → (post 0 (xs_runValue u a_runValue_15))) := rfl
def pqX_runArithmetic_85 (post : Int32 → SX → Prop) (x1 : Int32) (x2 : Int32) (x3 : Int32) (z0 : Int32) (u : SX) : Prop := match u with
  | (f_emptyRow, f_consRow, f_maxWords, f_maxCells, f_maxLevels, f_maxFuel, f_openTop, f_count, f_cellCount, f_nodes, f_sound, f_startRow, f_row, f_valueNames, f_rowNames, f_nested, f_runDepth, f_level, f_spent, a_tokKind, a_tokArg, a_match, a_length, a_weight, a_text, a_openStack, a_cellKind, a_cellValue, a_nodeKind, a_partA, a_partB, a_parent, a_mark, a_path, a_left, a_right, a_outerRow, a_outerStart, a_callPos, a_callEnd, a_runKind, a_runValue, a_framePos, a_frameEnd, a_savedKind, a_savedValue) => wX_runArithmetic_85 post x1 x2 x3 z0 f_emptyRow f_consRow f_maxWords f_maxCells f_maxLevels f_maxFuel f_openTop f_count f_cellCount f_nodes f_sound f_startRow f_row f_valueNames f_rowNames f_nested f_runDepth f_level f_spent a_tokKind a_tokArg a_match a_length a_weight a_text a_openStack a_cellKind a_cellValue a_nodeKind a_partA a_partB a_parent a_mark a_path a_left a_right a_outerRow a_outerStart a_callPos a_callEnd a_runKind a_runValue a_framePos a_frameEnd a_savedKind a_savedValue
theorem pqX_runArithmetic_85_e (post : Int32 → SX → Prop) (x1 : Int32) (x2 : Int32) (x3 : Int32) (z0 : Int32) (u : SX) : pqX_runArithmetic_85 post x1 x2 x3 z0 u = (((x1 = 8 → (∀ x4_17 : Int32 , x4_17 = x3 + x2 → (pqX_runArithmetic_112 post x4_17 u))) ∧ (¬ x1 = 8 → (((x1 = 9 → (∀ x4_16 : Int32 , x4_16 = x3 - x2 → (pqX_runArithmetic_112 post x4_16 u))) ∧ (¬ x1 = 9 → (pqX_runArithmetic_112 post z0 u))))))) := rfl
theorem we_X_runArithmetic (post : Int32 → SX → Prop) (u : SX) (p0 : Int32) : wpX_runArithmetic post u p0 = (((2 ≤ (xq_runDepth u) → (vp_in ((xq_runDepth u) - 1) 16 ∧ (((((xq_runKind u) ((xq_runDepth u) - 1).toNatClampNeg) = 1 → (vp_in ((xq_runDepth u) - 2) 16 ∧ (((((xq_runKind u) ((xq_runDepth u) - 2).toNatClampNeg) = 1 → (∀ f_runDepth_6 : Int32 , f_runDepth_6 = (xq_runDepth u) - 1 → (vp_in f_runDepth_6 16 ∧ (∀ x2_8 : Int32 , x2_8 = (xq_runValue u) f_runDepth_6.toNatClampNeg → (vp_in (f_runDepth_6 - 1) 16 ∧ (∀ x3_10 : Int32 , x3_10 = (xq_runValue u) (f_runDepth_6 - 1).toNatClampNeg → (((x2_8 ≤ x3_10 → (pqX_runArithmetic_85 post p0 x2_8 x3_10 0 (xs_runDepth u f_runDepth_6))) ∧ (¬ x2_8 ≤ x3_10 → (pqX_runArithmetic_85 post p0 x2_8 x3_10 1 (xs_runDepth u f_runDepth_6))))))))))) ∧ (¬ ((xq_runKind u) ((xq_runDepth u) - 2).toNatClampNeg) = 1 → (post 6 u)))))) ∧ (¬ ((xq_runKind u) ((xq_runDepth u) - 1).toNatClampNeg) = 1 → (post 6 u)))))) ∧ (¬ 2 ≤ (xq_runDepth u) → (post 5 u)))) := rfl
def pqX_runItem_200 (post : Int32 → SX → Prop) (x1 : Int32) (u : SX) : Prop := match u with
  | (f_emptyRow, f_consRow, f_maxWords, f_maxCells, f_maxLevels, f_maxFuel, f_openTop, f_count, f_cellCount, f_nodes, f_sound, f_startRow, f_row, f_valueNames, f_rowNames, f_nested, f_runDepth, f_level, f_spent, a_tokKind, a_tokArg, a_match, a_length, a_weight, a_text, a_openStack, a_cellKind, a_cellValue, a_nodeKind, a_partA, a_partB, a_parent, a_mark, a_path, a_left, a_right, a_outerRow, a_outerStart, a_callPos, a_callEnd, a_runKind, a_runValue, a_framePos, a_frameEnd, a_savedKind, a_savedValue) => wX_runItem_200 post x1 f_emptyRow f_consRow f_maxWords f_maxCells f_maxLevels f_maxFuel f_openTop f_count f_cellCount f_nodes f_sound f_startRow f_row f_valueNames f_rowNames f_nested f_runDepth f_level f_spent a_tokKind a_tokArg a_match a_length a_weight a_text a_openStack a_cellKind a_cellValue a_nodeKind a_partA a_partB a_parent a_mark a_path a_left a_right a_outerRow a_outerStart a_callPos a_callEnd a_runKind a_runValue a_framePos a_frameEnd a_savedKind a_savedValue
theorem pqX_runItem_200_e (post : Int32 → SX → Prop) (x1 : Int32) (u : SX) : pqX_runItem_200 post x1 u = (vp_in x1 256 ∧ (wpX_runArithmetic (fun r_14 u1 => (post r_14 u1)) u ((xq_tokKind u) x1.toNatClampNeg))) := rfl
def pqX_runItem_65 (post : Int32 → SX → Prop) (x1 : Int32) (z0 : Int32) (z1 : Int32) (u : SX) : Prop := match u with
  | (f_emptyRow, f_consRow, f_maxWords, f_maxCells, f_maxLevels, f_maxFuel, f_openTop, f_count, f_cellCount, f_nodes, f_sound, f_startRow, f_row, f_valueNames, f_rowNames, f_nested, f_runDepth, f_level, f_spent, a_tokKind, a_tokArg, a_match, a_length, a_weight, a_text, a_openStack, a_cellKind, a_cellValue, a_nodeKind, a_partA, a_partB, a_parent, a_mark, a_path, a_left, a_right, a_outerRow, a_outerStart, a_callPos, a_callEnd, a_runKind, a_runValue, a_framePos, a_frameEnd, a_savedKind, a_savedValue) => wX_runItem_65 post x1 z0 z1 f_emptyRow f_consRow f_maxWords f_maxCells f_maxLevels f_maxFuel f_openTop f_count f_cellCount f_nodes f_sound f_startRow f_row f_valueNames f_rowNames f_nested f_runDepth f_level f_spent a_tokKind a_tokArg a_match a_length a_weight a_text a_openStack a_cellKind a_cellValue a_nodeKind a_partA a_partB a_parent a_mark a_path a_left a_right a_outerRow a_outerStart a_callPos a_callEnd a_runKind a_runValue a_framePos a_frameEnd a_savedKind a_savedValue
theorem pqX_runItem_65_e (post : Int32 → SX → Prop) (x1 : Int32) (z0 : Int32) (z1 : Int32) (u : SX) : pqX_runItem_65 post x1 z0 z1 u = (vp_in z1 34 ∧ ∀ a_framePos_8 : Nat → Int32 , a_framePos_8 = upd (xq_framePos u) z1.toNatClampNeg z0 → (vp_in x1 256 ∧ (∀ k_10 : Int32 , k_10 = (xq_tokKind u) x1.toNatClampNeg → (((k_10 < 1 → (pqX_runItem_200 post x1 (xs_framePos u a_framePos_8))) ∧ (¬ k_10 < 1 → (((13 < k_10 → (pqX_runItem_200 post x1 (xs_framePos u a_framePos_8))) ∧ (¬ 13 < k_10 → (((k_10 = 1 → (vp_in x1 256 ∧ (wpX_runPush (fun r_63 u1 => (post r_63 u1)) (xs_framePos u a_framePos_8) 1 ((xq_tokArg u) x1.toNatClampNeg)))) ∧ (¬ k_10 = 1 → (((k_10 = 2 → (vp_in x1 256 ∧ (wpX_runCall (fun r_112 u2 => (post r_112 u2)) (xs_framePos u a_framePos_8) ((xq_tokArg u) x1.toNatClampNeg)))) ∧ (¬ k_10 = 2 → (((k_10 = 3 → (wpX_runPush (fun r_160 u3 => (post r_160 u3)) (xs_framePos u a_framePos_8) 2 x1)) ∧ (¬ k_10 = 3 → (((k_10 = 4 → (pqX_runItem_200 post x1 (xs_framePos u a_framePos_8))) ∧ (¬ k_10 = 4 → (((k_10 = 5 → (wpX_runDup (fun r_209 u4 => (post r_209 u4)) (xs_framePos u a_framePos_8))) ∧ (¬ k_10 = 5 → (((k_10 = 6 → (wpX_runDrop (fun r_257 u5 => (post r_257 u5)) (xs_framePos u a_framePos_8))) ∧ (¬ k_10 = 6 → (((k_10 = 7 → (wpX_runSwap (fun r_305 u6 => (post r_305 u6)) (xs_framePos u a_framePos_8))) ∧ (¬ k_10 = 7 → (((k_10 = 8 → (pqX_runItem_200 post x1 (xs_framePos u a_framePos_8))) ∧ (¬ k_10 = 8 → (((k_10 = 9 → (pqX_runItem_200 post x1 (xs_framePos u a_framePos_8))) ∧ (¬ k_10 = 9 → (((k_10 = 10 → (pqX_runItem_200 post x1 (xs_framePos u a_framePos_8))) ∧ (¬ k_10 = 10 → (((k_10 = 11 → (wpX_runApply (fun r_356 u7 => (post r_356 u7)) (xs_framePos u a_framePos_8))) ∧ (¬ k_10 = 11 → (((k_10 = 12 → (wpX_runDip (fun r_404 u8 => (post r_404 u8)) (xs_framePos u a_framePos_8))) ∧ (¬ k_10 = 12 → (((k_10 = 13 → (wpX_runIf (fun r_452 u9 => (post r_452 u9)) (xs_framePos u a_framePos_8))) ∧ (¬ k_10 = 13 → (True))))))))))))))))))))))))))))))))))))))))))))))))) := rfl
theorem we_X_runItem (post : Int32 → SX → Prop) (u : SX) : wpX_runItem post u = ((((xq_spent u) = (xq_maxFuel u) → (post 2 u)) ∧ (¬ (xq_spent u) = (xq_maxFuel u) → (∀ f_spent_2 : Int32 , f_spent_2 = (xq_spent u) + 1 → (vp_in (xq_level u) 34 ∧ (∀ x1_4 : Int32 , x1_4 = (xq_framePos u) (xq_level u).toNatClampNeg → (vp_in x1_4 256 ∧ (((((xq_tokKind u) x1_4.toNatClampNeg) = 3 → (vp_in x1_4 256 ∧ (pqX_runItem_65 post x1_4 (((xq_match u) x1_4.toNatClampNeg) + 1) (xq_level u) (xs_spent u f_spent_2)))) ∧ (¬ ((xq_tokKind u) x1_4.toNatClampNeg) = 3 → (pqX_runItem_65 post x1_4 (x1_4 + 1) (xq_level u) (xs_spent u f_spent_2)))))))))))) := rfl
theorem we_X_leave (post : Int32 → SX → Prop) (u : SX) : wpX_leave post u = (∀ f_level_1 : Int32 , f_level_1 = (xq_level u) - 1 → (vp_in (xq_level u) 34 ∧ (((((xq_savedKind u) (xq_level u).toNatClampNeg) = 0 → (((f_level_1 = 0 → (post 1 (xs_level u f_level_1))) ∧ (¬ f_level_1 = 0 → (post 0 (xs_level u f_level_1)))))) ∧ (¬ ((xq_savedKind u) (xq_level u).toNatClampNeg) = 0 → (vp_in (xq_level u) 34 ∧ (vp_in (xq_level u) 34 ∧ (wpX_runPush (fun r_7 u1 => (post r_7 u1)) (xs_level u f_level_1) ((xq_savedKind u) (xq_level u).toNatClampNeg) ((xq_savedValue u) (xq_level u).toNatClampNeg))))))))) := rfl
def lqX_keepCopy_2 (post : SX → Prop) (n : Nat) (x1 : Int32) (u : SX) : Prop := match u with
  | (f_emptyRow, f_consRow, f_maxWords, f_maxCells, f_maxLevels, f_maxFuel, f_openTop, f_count, f_cellCount, f_nodes, f_sound, f_startRow, f_row, f_valueNames, f_rowNames, f_nested, f_runDepth, f_level, f_spent, a_tokKind, a_tokArg, a_match, a_length, a_weight, a_text, a_openStack, a_cellKind, a_cellValue, a_nodeKind, a_partA, a_partB, a_parent, a_mark, a_path, a_left, a_right, a_outerRow, a_outerStart, a_callPos, a_callEnd, a_runKind, a_runValue, a_framePos, a_frameEnd, a_savedKind, a_savedValue) => wX_keepCopy_2 post f_emptyRow f_consRow f_maxWords f_maxCells f_maxLevels f_maxFuel f_openTop f_count f_cellCount f_nodes f_sound f_startRow f_row f_valueNames f_rowNames f_nested f_runDepth f_level f_spent n x1 a_tokKind a_tokArg a_match a_length a_weight a_text a_openStack a_cellKind a_cellValue a_nodeKind a_partA a_partB a_parent a_mark a_path a_left a_right a_outerRow a_outerStart a_callPos a_callEnd a_runKind a_runValue a_framePos a_frameEnd a_savedKind a_savedValue
theorem lqX_keepCopy_2_s (post : SX → Prop) (n : Nat) (x1 : Int32) (u : SX) : lqX_keepCopy_2 post (n + 1) x1 u = ((((xq_runDepth u) ≤ x1 → (post (xs_cellCount u (xq_runDepth u)))) ∧ (¬ (xq_runDepth u) ≤ x1 → (vp_in x1 16 ∧ (vp_in x1 16 ∧ ∀ a_cellKind_4 : Nat → Int32 , a_cellKind_4 = upd (xq_cellKind u) x1.toNatClampNeg ((xq_runKind u) x1.toNatClampNeg) → (vp_in x1 16 ∧ (vp_in x1 16 ∧ ∀ a_cellValue_7 : Nat → Int32 , a_cellValue_7 = upd (xq_cellValue u) x1.toNatClampNeg ((xq_runValue u) x1.toNatClampNeg) → (∀ x1_8 : Int32 , x1_8 = x1 + 1 → (lqX_keepCopy_2 post n x1_8 (xs_cellKind_cellValue u a_cellKind_4 a_cellValue_7)))))))))) := rfl
theorem we_X_keepCopy (post : SX → Prop) (u : SX) : wpX_keepCopy post u = (∃ n2 : Nat , lqX_keepCopy_2 post n2 0 u) := rfl
def pqX_run_74 (post : Int32 → SX → Prop) (x2 : Int32) (u : SX) : Prop := match u with
  | (f_emptyRow, f_consRow, f_maxWords, f_maxCells, f_maxLevels, f_maxFuel, f_openTop, f_count, f_cellCount, f_nodes, f_sound, f_startRow, f_row, f_valueNames, f_rowNames, f_nested, f_runDepth, f_level, f_spent, a_tokKind, a_tokArg, a_match, a_length, a_weight, a_text, a_openStack, a_cellKind, a_cellValue, a_nodeKind, a_partA, a_partB, a_parent, a_mark, a_path, a_left, a_right, a_outerRow, a_outerStart, a_callPos, a_callEnd, a_runKind, a_runValue, a_framePos, a_frameEnd, a_savedKind, a_savedValue) => wX_run_74 post x2 f_emptyRow f_consRow f_maxWords f_maxCells f_maxLevels f_maxFuel f_openTop f_count f_cellCount f_nodes f_sound f_startRow f_row f_valueNames f_rowNames f_nested f_runDepth f_level f_spent a_tokKind a_tokArg a_match a_length a_weight a_text a_openStack a_cellKind a_cellValue a_nodeKind a_partA a_partB a_parent a_mark a_path a_left a_right a_outerRow a_outerStart a_callPos a_callEnd a_runKind a_runValue a_framePos a_frameEnd a_savedKind a_savedValue
theorem pqX_run_74_e (post : Int32 → SX → Prop) (x2 : Int32) (u : SX) : pqX_run_74 post x2 u = (((x2 = 1 → (wpX_keepCopy (fun u1 => (post x2 u1)) u)) ∧ (¬ x2 = 1 → (post x2 u)))) := rfl
def lqX_run_19 (post : Int32 → SX → Prop) (n : Nat) (x2 : Int32) (x3 : Int32) (u : SX) : Prop := match u with
  | (f_emptyRow, f_consRow, f_maxWords, f_maxCells, f_maxLevels, f_maxFuel, f_openTop, f_count, f_cellCount, f_nodes, f_sound, f_startRow, f_row, f_valueNames, f_rowNames, f_nested, f_runDepth, f_level, f_spent, a_tokKind, a_tokArg, a_match, a_length, a_weight, a_text, a_openStack, a_cellKind, a_cellValue, a_nodeKind, a_partA, a_partB, a_parent, a_mark, a_path, a_left, a_right, a_outerRow, a_outerStart, a_callPos, a_callEnd, a_runKind, a_runValue, a_framePos, a_frameEnd, a_savedKind, a_savedValue) => wX_run_19 post n x2 x3 f_emptyRow f_consRow f_maxWords f_maxCells f_maxLevels f_maxFuel f_openTop f_count f_cellCount f_nodes f_sound f_startRow f_row f_valueNames f_rowNames f_nested f_runDepth f_level f_spent a_tokKind a_tokArg a_match a_length a_weight a_text a_openStack a_cellKind a_cellValue a_nodeKind a_partA a_partB a_parent a_mark a_path a_left a_right a_outerRow a_outerStart a_callPos a_callEnd a_runKind a_runValue a_framePos a_frameEnd a_savedKind a_savedValue
theorem lqX_run_19_s (post : Int32 → SX → Prop) (n : Nat) (x2 : Int32) (x3 : Int32) (u : SX) : lqX_run_19 post (n + 1) x2 x3 u = (((((2 * (xq_maxFuel u)) + 2) ≤ x3 → (pqX_run_74 post x2 u)) ∧ (¬ ((2 * (xq_maxFuel u)) + 2) ≤ x3 → (((x2 = 0 → (vp_in (xq_level u) 34 ∧ (vp_in (xq_level u) 34 ∧ (((((xq_frameEnd u) (xq_level u).toNatClampNeg) ≤ ((xq_framePos u) (xq_level u).toNatClampNeg) → (wpX_leave (fun r_149 u1 => (∀ x3_196 : Int32 , x3_196 = x3 + 1 → (lqX_run_19 post n r_149 x3_196 u1))) u)) ∧ (¬ ((xq_frameEnd u) (xq_level u).toNatClampNeg) ≤ ((xq_framePos u) (xq_level u).toNatClampNeg) → (wpX_runItem (fun r_197 u2 => (∀ x3_244 : Int32 , x3_244 = x3 + 1 → (lqX_run_19 post n r_197 x3_244 u2))) u))))))) ∧ (¬ x2 = 0 → (pqX_run_74 post x2 u))))))) := rfl
theorem we_X_run (post : Int32 → SX → Prop) (u : SX) (p0 : Int32) : wpX_run post u p0 = (wpX_isWord (fun r_1 => (((r_1 = 0 → (post (- 1) u)) ∧ (¬ r_1 = 0 → (wpX_startRun (fun u1 => (∃ n19 : Nat , lqX_run_19 post n19 0 0 u1)) u p0))))) u p0) := rfl
end
end
section
/-! printed by gen/parts.py: clean equations -/
section
theorem we_Y_node (post : Int32 → SY → Prop) (u : SY) (p0 : Int32) (p1 : Int32) (p2 : Int32) : wpY_node post u p0 p1 p2 = (vp_in (yq_nodes u) 320 ∧ ∀ a_nodeKind_2 : Nat → Int32 , a_nodeKind_2 = upd (yq_nodeKind u) (yq_nodes u).toNatClampNeg p0 → (vp_in (yq_nodes u) 320 ∧ ∀ a_left_4 : Nat → Int32 , a_left_4 = upd (yq_left u) (yq_nodes u).toNatClampNeg p1 → (vp_in (yq_nodes u) 320 ∧ ∀ a_right_6 : Nat → Int32 , a_right_6 = upd (yq_right u) (yq_nodes u).toNatClampNeg p2 → (vp_in (yq_nodes u) 320 ∧ ∀ a_symbol_8 : Nat → Int32 , a_symbol_8 = upd (yq_symbol u) (yq_nodes u).toNatClampNeg 0 → (vp_in (yq_nodes u) 320 ∧ ∀ a_cls_10 : Nat → Int32 , a_cls_10 = upd (yq_cls u) (yq_nodes u).toNatClampNeg (yq_nodes u) → (vp_in (yq_nodes u) 320 ∧ ∀ a_def_12 : Nat → Int32 , a_def_12 = upd (yq_def u) (yq_nodes u).toNatClampNeg (yq_nodes u) → (vp_in (yq_nodes u) 320 ∧ ∀ a_finite_14 : Nat → Int32 , a_finite_14 = upd (yq_finite u) (yq_nodes u).toNatClampNeg (vp_nar .boolean 0) → (∀ f_nodes_15 : Int32 , f_nodes_15 = (yq_nodes u) + 1 → (post (yq_nodes u) (ys_nodes_nodeKind_left_right_cls_def_symbol_finite u f_nodes_15 a_nodeKind_2 a_left_4 a_right_6 a_cls_10 a_def_12 a_symbol_8 a_finite_14)))))))))) := rfl
def pqY_equate_59 (post : Int32 → SY → Prop) (x3 : Int32) (x4 : Int32) (u : SY) : Prop := match u with
  | (f_maxWords, f_maxCells, f_maxLevels, f_maxFuel, f_count, f_depth, f_copyDepth, f_agenda, f_listSize, f_nodes, f_first, f_last, a_kinds, a_args, a_size, a_cellKind, a_cellVal, a_copyKind, a_copyVal, a_agKind, a_agVal, a_agLevel, a_list, a_pend, a_outer, a_begin, a_todo, a_nodeKind, a_left, a_right, a_cls, a_def, a_symbol, a_finite) => wY_equate_59 post x3 x4 f_maxWords f_maxCells f_maxLevels f_maxFuel f_count f_depth f_copyDepth f_agenda f_listSize f_nodes f_first f_last a_kinds a_args a_size a_cellKind a_cellVal a_copyKind a_copyVal a_agKind a_agVal a_agLevel a_list a_pend a_outer a_begin a_todo a_nodeKind a_left a_right a_cls a_def a_symbol a_finite
theorem pqY_equate_59_e (post : Int32 → SY → Prop) (x3 : Int32) (x4 : Int32) (u : SY) : pqY_equate_59 post x3 x4 u = (((x3 = x4 → (post 0 u)) ∧ (¬ x3 = x4 → (post 1 u)))) := rfl
def lqY_equate_18 (post : Int32 → SY → Prop) (x3 : Int32) (x4 : Int32) (n : Nat) (x5 : Int32) (u : SY) : Prop := match u with
  | (f_maxWords, f_maxCells, f_maxLevels, f_maxFuel, f_count, f_depth, f_copyDepth, f_agenda, f_listSize, f_nodes, f_first, f_last, a_kinds, a_args, a_size, a_cellKind, a_cellVal, a_copyKind, a_copyVal, a_agKind, a_agVal, a_agLevel, a_list, a_pend, a_outer, a_begin, a_todo, a_nodeKind, a_left, a_right, a_cls, a_def, a_symbol, a_finite) => wY_equate_18 post x3 x4 f_maxWords f_maxCells f_maxLevels f_maxFuel f_count f_depth f_copyDepth f_agenda f_listSize f_nodes f_first f_last n x5 a_kinds a_args a_size a_cellKind a_cellVal a_copyKind a_copyVal a_agKind a_agVal a_agLevel a_list a_pend a_outer a_begin a_todo a_nodeKind a_left a_right a_cls a_def a_symbol a_finite
theorem lqY_equate_18_s (post : Int32 → SY → Prop) (x3 : Int32) (x4 : Int32) (n : Nat) (x5 : Int32) (u : SY) : lqY_equate_18 post x3 x4 (n + 1) x5 u = ((((yq_nodes u) ≤ x5 → (pqY_equate_59 post x3 x4 u)) ∧ (¬ (yq_nodes u) ≤ x5 → (((x3 = x4 → (pqY_equate_59 post x3 x4 u)) ∧ (¬ x3 = x4 → (vp_in x5 320 ∧ (((((yq_cls u) x5.toNatClampNeg) = x3 → (vp_in x5 320 ∧ ∀ a_cls_12 : Nat → Int32 , a_cls_12 = upd (yq_cls u) x5.toNatClampNeg x4 → (∀ x5_13 : Int32 , x5_13 = x5 + 1 → (lqY_equate_18 post x3 x4 n x5_13 (ys_cls u a_cls_12))))) ∧ (¬ ((yq_cls u) x5.toNatClampNeg) = x3 → (∀ x5_10 : Int32 , x5_10 = x5 + 1 → (lqY_equate_18 post x3 x4 n x5_10 u)))))))))))) := rfl
theorem we_Y_equate (post : Int32 → SY → Prop) (u : SY) (p0 : Int32) (p1 : Int32) : wpY_equate post u p0 p1 = (vp_in p1 320 ∧ (∀ x3_2 : Int32 , x3_2 = (yq_cls u) p1.toNatClampNeg → (vp_in p0 320 ∧ (∀ x4_4 : Int32 , x4_4 = (yq_cls u) p0.toNatClampNeg → (∃ n18 : Nat , lqY_equate_18 post x3_2 x4_4 n18 0 u))))) := rfl
theorem we_Y_built (post : Int32 → Prop) (u : SY) (p0 : Int32) : wpY_built post u p0 = (vp_in p0 320 ∧ (((((yq_nodeKind u) p0.toNatClampNeg) = 3 → (post 0)) ∧ (¬ ((yq_nodeKind u) p0.toNatClampNeg) = 3 → (vp_in p0 320 ∧ (((((yq_nodeKind u) p0.toNatClampNeg) = 6 → (post 0)) ∧ (¬ ((yq_nodeKind u) p0.toNatClampNeg) = 6 → (post 1))))))))) := rfl
def pqY_solve_794 (post : Int32 → SY → Prop) (J663 : Int32 → Int32 → SY → Prop) (J680 : Int32 → Int32 → SY → Prop) (x3 : Int32) (x6 : Int32) (x7 : Int32) (z0 : Int32) (z1 : Int32) (u : SY) : Prop := match u with
  | (f_maxWords, f_maxCells, f_maxLevels, f_maxFuel, f_count, f_depth, f_copyDepth, f_agenda, f_listSize, f_nodes, f_first, f_last, a_kinds, a_args, a_size, a_cellKind, a_cellVal, a_copyKind, a_copyVal, a_agKind, a_agVal, a_agLevel, a_list, a_pend, a_outer, a_begin, a_todo, a_nodeKind, a_left, a_right, a_cls, a_def, a_symbol, a_finite) => wY_solve_794 post (fun qx3 qx6 qa_kinds qa_args qa_size qa_cellKind qa_cellVal qa_copyKind qa_copyVal qa_agKind qa_agVal qa_agLevel qa_list qa_pend qa_outer qa_begin qa_todo qa_nodeKind qa_left qa_right qa_cls qa_def qa_symbol qa_finite => J663 qx3 qx6 (f_maxWords, f_maxCells, f_maxLevels, f_maxFuel, f_count, f_depth, f_copyDepth, f_agenda, f_listSize, f_nodes, f_first, f_last, qa_kinds, qa_args, qa_size, qa_cellKind, qa_cellVal, qa_copyKind, qa_copyVal, qa_agKind, qa_agVal, qa_agLevel, qa_list, qa_pend, qa_outer, qa_begin, qa_todo, qa_nodeKind, qa_left, qa_right, qa_cls, qa_def, qa_symbol, qa_finite)) (fun qx3 qx7 qa_kinds qa_args qa_size qa_cellKind qa_cellVal qa_copyKind qa_copyVal qa_agKind qa_agVal qa_agLevel qa_list qa_pend qa_outer qa_begin qa_todo qa_nodeKind qa_left qa_right qa_cls qa_def qa_symbol qa_finite => J680 qx3 qx7 (f_maxWords, f_maxCells, f_maxLevels, f_maxFuel, f_count, f_depth, f_copyDepth, f_agenda, f_listSize, f_nodes, f_first, f_last, qa_kinds, qa_args, qa_size, qa_cellKind, qa_cellVal, qa_copyKind, qa_copyVal, qa_agKind, qa_agVal, qa_agLevel, qa_list, qa_pend, qa_outer, qa_begin, qa_todo, qa_nodeKind, qa_left, qa_right, qa_cls, qa_def, qa_symbol, qa_finite)) x3 x6 x7 z0 z1 f_maxWords f_maxCells f_maxLevels f_maxFuel f_count f_depth f_copyDepth f_agenda f_listSize f_nodes f_first f_last a_kinds a_args a_size a_cellKind a_cellVal a_copyKind a_copyVal a_agKind a_agVal a_agLevel a_list a_pend a_outer a_begin a_todo a_nodeKind a_left a_right a_cls a_def a_symbol a_finite
theorem pqY_solve_794_e (post : Int32 → SY → Prop) (J663 : Int32 → Int32 → SY → Prop) (J680 : Int32 → Int32 → SY → Prop) (x3 : Int32) (x6 : Int32) (x7 : Int32) (z0 : Int32) (z1 : Int32) (u : SY) : pqY_solve_794 post J663 J680 x3 x6 x7 z0 z1 u = (vp_in z1 320 ∧ ∀ a_finite_125 : Nat → Int32 , a_finite_125 = upd (yq_finite u) z1.toNatClampNeg (vp_nar .boolean z0) → (((x3 = 0 → (∀ x7_127 : Int32 , x7_127 = x7 + 1 → (J680 0 x7_127 (ys_finite u a_finite_125)))) ∧ (¬ x3 = 0 → (vp_in x7 320 ∧ ((((a_finite_125 x7.toNatClampNeg) = 0 → (∀ x7_130 : Int32 , x7_130 = x7 + 1 → (J680 0 x7_130 (ys_finite u a_finite_125)))) ∧ (¬ (a_finite_125 x7.toNatClampNeg) = 0 → (∀ x7_131 : Int32 , x7_131 = x7 + 1 → (J680 1 x7_131 (ys_finite u a_finite_125))))))))))) := rfl
def pqY_solve_793 (post : Int32 → SY → Prop) (J663 : Int32 → Int32 → SY → Prop) (J680 : Int32 → Int32 → SY → Prop) (x3 : Int32) (x6 : Int32) (x7 : Int32) (z0 : Int32) (u : SY) : Prop := match u with
  | (f_maxWords, f_maxCells, f_maxLevels, f_maxFuel, f_count, f_depth, f_copyDepth, f_agenda, f_listSize, f_nodes, f_first, f_last, a_kinds, a_args, a_size, a_cellKind, a_cellVal, a_copyKind, a_copyVal, a_agKind, a_agVal, a_agLevel, a_list, a_pend, a_outer, a_begin, a_todo, a_nodeKind, a_left, a_right, a_cls, a_def, a_symbol, a_finite) => wY_solve_793 post (fun qx3 qx6 qa_kinds qa_args qa_size qa_cellKind qa_cellVal qa_copyKind qa_copyVal qa_agKind qa_agVal qa_agLevel qa_list qa_pend qa_outer qa_begin qa_todo qa_nodeKind qa_left qa_right qa_cls qa_def qa_symbol qa_finite => J663 qx3 qx6 (f_maxWords, f_maxCells, f_maxLevels, f_maxFuel, f_count, f_depth, f_copyDepth, f_agenda, f_listSize, f_nodes, f_first, f_last, qa_kinds, qa_args, qa_size, qa_cellKind, qa_cellVal, qa_copyKind, qa_copyVal, qa_agKind, qa_agVal, qa_agLevel, qa_list, qa_pend, qa_outer, qa_begin, qa_todo, qa_nodeKind, qa_left, qa_right, qa_cls, qa_def, qa_symbol, qa_finite)) (fun qx3 qx7 qa_kinds qa_args qa_size qa_cellKind qa_cellVal qa_copyKind qa_copyVal qa_agKind qa_agVal qa_agLevel qa_list qa_pend qa_outer qa_begin qa_todo qa_nodeKind qa_left qa_right qa_cls qa_def qa_symbol qa_finite => J680 qx3 qx7 (f_maxWords, f_maxCells, f_maxLevels, f_maxFuel, f_count, f_depth, f_copyDepth, f_agenda, f_listSize, f_nodes, f_first, f_last, qa_kinds, qa_args, qa_size, qa_cellKind, qa_cellVal, qa_copyKind, qa_copyVal, qa_agKind, qa_agVal, qa_agLevel, qa_list, qa_pend, qa_outer, qa_begin, qa_todo, qa_nodeKind, qa_left, qa_right, qa_cls, qa_def, qa_symbol, qa_finite)) x3 x6 x7 z0 f_maxWords f_maxCells f_maxLevels f_maxFuel f_count f_depth f_copyDepth f_agenda f_listSize f_nodes f_first f_last a_kinds a_args a_size a_cellKind a_cellVal a_copyKind a_copyVal a_agKind a_agVal a_agLevel a_list a_pend a_outer a_begin a_todo a_nodeKind a_left a_right a_cls a_def a_symbol a_finite
theorem pqY_solve_793_e (post : Int32 → SY → Prop) (J663 : Int32 → Int32 → SY → Prop) (J680 : Int32 → Int32 → SY → Prop) (x3 : Int32) (x6 : Int32) (x7 : Int32) (z0 : Int32) (u : SY) : pqY_solve_793 post J663 J680 x3 x6 x7 z0 u = (pqY_solve_794 post J663 J680 x3 x6 x7 0 z0 u) := rfl
def pqY_solve_789 (post : Int32 → SY → Prop) (J663 : Int32 → Int32 → SY → Prop) (J680 : Int32 → Int32 → SY → Prop) (x3 : Int32) (x6 : Int32) (x7 : Int32) (z0 : Int32) (u : SY) : Prop := match u with
  | (f_maxWords, f_maxCells, f_maxLevels, f_maxFuel, f_count, f_depth, f_copyDepth, f_agenda, f_listSize, f_nodes, f_first, f_last, a_kinds, a_args, a_size, a_cellKind, a_cellVal, a_copyKind, a_copyVal, a_agKind, a_agVal, a_agLevel, a_list, a_pend, a_outer, a_begin, a_todo, a_nodeKind, a_left, a_right, a_cls, a_def, a_symbol, a_finite) => wY_solve_789 post (fun qx3 qx6 qa_kinds qa_args qa_size qa_cellKind qa_cellVal qa_copyKind qa_copyVal qa_agKind qa_agVal qa_agLevel qa_list qa_pend qa_outer qa_begin qa_todo qa_nodeKind qa_left qa_right qa_cls qa_def qa_symbol qa_finite => J663 qx3 qx6 (f_maxWords, f_maxCells, f_maxLevels, f_maxFuel, f_count, f_depth, f_copyDepth, f_agenda, f_listSize, f_nodes, f_first, f_last, qa_kinds, qa_args, qa_size, qa_cellKind, qa_cellVal, qa_copyKind, qa_copyVal, qa_agKind, qa_agVal, qa_agLevel, qa_list, qa_pend, qa_outer, qa_begin, qa_todo, qa_nodeKind, qa_left, qa_right, qa_cls, qa_def, qa_symbol, qa_finite)) (fun qx3 qx7 qa_kinds qa_args qa_size qa_cellKind qa_cellVal qa_copyKind qa_copyVal qa_agKind qa_agVal qa_agLevel qa_list qa_pend qa_outer qa_begin qa_todo qa_nodeKind qa_left qa_right qa_cls qa_def qa_symbol qa_finite => J680 qx3 qx7 (f_maxWords, f_maxCells, f_maxLevels, f_maxFuel, f_count, f_depth, f_copyDepth, f_agenda, f_listSize, f_nodes, f_first, f_last, qa_kinds, qa_args, qa_size, qa_cellKind, qa_cellVal, qa_copyKind, qa_copyVal, qa_agKind, qa_agVal, qa_agLevel, qa_list, qa_pend, qa_outer, qa_begin, qa_todo, qa_nodeKind, qa_left, qa_right, qa_cls, qa_def, qa_symbol, qa_finite)) x3 x6 x7 z0 f_maxWords f_maxCells f_maxLevels f_maxFuel f_count f_depth f_copyDepth f_agenda f_listSize f_nodes f_first f_last a_kinds a_args a_size a_cellKind a_cellVal a_copyKind a_copyVal a_agKind a_agVal a_agLevel a_list a_pend a_outer a_begin a_todo a_nodeKind a_left a_right a_cls a_def a_symbol a_finite
theorem pqY_solve_789_e (post : Int32 → SY → Prop) (J663 : Int32 → Int32 → SY → Prop) (J680 : Int32 → Int32 → SY → Prop) (x3 : Int32) (x6 : Int32) (x7 : Int32) (z0 : Int32) (u : SY) : pqY_solve_789 post J663 J680 x3 x6 x7 z0 u = (pqY_solve_794 post J663 J680 x3 x6 x7 1 z0 u) := rfl
def pqY_solve_759 (post : Int32 → SY → Prop) (J663 : Int32 → Int32 → SY → Prop) (J680 : Int32 → Int32 → SY → Prop) (x3 : Int32) (x6 : Int32) (x7 : Int32) (x8 : Int32) (z0 : Int32) (u : SY) : Prop := match u with
  | (f_maxWords, f_maxCells, f_maxLevels, f_maxFuel, f_count, f_depth, f_copyDepth, f_agenda, f_listSize, f_nodes, f_first, f_last, a_kinds, a_args, a_size, a_cellKind, a_cellVal, a_copyKind, a_copyVal, a_agKind, a_agVal, a_agLevel, a_list, a_pend, a_outer, a_begin, a_todo, a_nodeKind, a_left, a_right, a_cls, a_def, a_symbol, a_finite) => wY_solve_759 post (fun qx3 qx6 qa_kinds qa_args qa_size qa_cellKind qa_cellVal qa_copyKind qa_copyVal qa_agKind qa_agVal qa_agLevel qa_list qa_pend qa_outer qa_begin qa_todo qa_nodeKind qa_left qa_right qa_cls qa_def qa_symbol qa_finite => J663 qx3 qx6 (f_maxWords, f_maxCells, f_maxLevels, f_maxFuel, f_count, f_depth, f_copyDepth, f_agenda, f_listSize, f_nodes, f_first, f_last, qa_kinds, qa_args, qa_size, qa_cellKind, qa_cellVal, qa_copyKind, qa_copyVal, qa_agKind, qa_agVal, qa_agLevel, qa_list, qa_pend, qa_outer, qa_begin, qa_todo, qa_nodeKind, qa_left, qa_right, qa_cls, qa_def, qa_symbol, qa_finite)) (fun qx3 qx7 qa_kinds qa_args qa_size qa_cellKind qa_cellVal qa_copyKind qa_copyVal qa_agKind qa_agVal qa_agLevel qa_list qa_pend qa_outer qa_begin qa_todo qa_nodeKind qa_left qa_right qa_cls qa_def qa_symbol qa_finite => J680 qx3 qx7 (f_maxWords, f_maxCells, f_maxLevels, f_maxFuel, f_count, f_depth, f_copyDepth, f_agenda, f_listSize, f_nodes, f_first, f_last, qa_kinds, qa_args, qa_size, qa_cellKind, qa_cellVal, qa_copyKind, qa_copyVal, qa_agKind, qa_agVal, qa_agLevel, qa_list, qa_pend, qa_outer, qa_begin, qa_todo, qa_nodeKind, qa_left, qa_right, qa_cls, qa_def, qa_symbol, qa_finite)) x3 x6 x7 x8 z0 f_maxWords f_maxCells f_maxLevels f_maxFuel f_count f_depth f_copyDepth f_agenda f_listSize f_nodes f_first f_last a_kinds a_args a_size a_cellKind a_cellVal a_copyKind a_copyVal a_agKind a_agVal a_agLevel a_list a_pend a_outer a_begin a_todo a_nodeKind a_left a_right a_cls a_def a_symbol a_finite
theorem pqY_solve_759_e (post : Int32 → SY → Prop) (J663 : Int32 → Int32 → SY → Prop) (J680 : Int32 → Int32 → SY → Prop) (x3 : Int32) (x6 : Int32) (x7 : Int32) (x8 : Int32) (z0 : Int32) (u : SY) : pqY_solve_759 post J663 J680 x3 x6 x7 x8 z0 u = (vp_in x8 320 ∧ (vp_in ((yq_left u) x8.toNatClampNeg) 320 ∧ (((((yq_finite u) ((yq_left u) x8.toNatClampNeg).toNatClampNeg) = 0 → (pqY_solve_793 post J663 J680 x3 x6 x7 z0 u)) ∧ (¬ ((yq_finite u) ((yq_left u) x8.toNatClampNeg).toNatClampNeg) = 0 → (vp_in x8 320 ∧ (vp_in ((yq_right u) x8.toNatClampNeg) 320 ∧ (((((yq_finite u) ((yq_right u) x8.toNatClampNeg).toNatClampNeg) = 0 → (pqY_solve_793 post J663 J680 x3 x6 x7 z0 u)) ∧ (¬ ((yq_finite u) ((yq_right u) x8.toNatClampNeg).toNatClampNeg) = 0 → (pqY_solve_789 post J663 J680 x3 x6 x7 z0 u))))))))))) := rfl
def pqY_solve_731 (post : Int32 → SY → Prop) (J663 : Int32 → Int32 → SY → Prop) (J680 : Int32 → Int32 → SY → Prop) (x3 : Int32) (x6 : Int32) (x7 : Int32) (x8 : Int32) (u : SY) : Prop := match u with
  | (f_maxWords, f_maxCells, f_maxLevels, f_maxFuel, f_count, f_depth, f_copyDepth, f_agenda, f_listSize, f_nodes, f_first, f_last, a_kinds, a_args, a_size, a_cellKind, a_cellVal, a_copyKind, a_copyVal, a_agKind, a_agVal, a_agLevel, a_list, a_pend, a_outer, a_begin, a_todo, a_nodeKind, a_left, a_right, a_cls, a_def, a_symbol, a_finite) => wY_solve_731 post (fun qx3 qx6 qa_kinds qa_args qa_size qa_cellKind qa_cellVal qa_copyKind qa_copyVal qa_agKind qa_agVal qa_agLevel qa_list qa_pend qa_outer qa_begin qa_todo qa_nodeKind qa_left qa_right qa_cls qa_def qa_symbol qa_finite => J663 qx3 qx6 (f_maxWords, f_maxCells, f_maxLevels, f_maxFuel, f_count, f_depth, f_copyDepth, f_agenda, f_listSize, f_nodes, f_first, f_last, qa_kinds, qa_args, qa_size, qa_cellKind, qa_cellVal, qa_copyKind, qa_copyVal, qa_agKind, qa_agVal, qa_agLevel, qa_list, qa_pend, qa_outer, qa_begin, qa_todo, qa_nodeKind, qa_left, qa_right, qa_cls, qa_def, qa_symbol, qa_finite)) (fun qx3 qx7 qa_kinds qa_args qa_size qa_cellKind qa_cellVal qa_copyKind qa_copyVal qa_agKind qa_agVal qa_agLevel qa_list qa_pend qa_outer qa_begin qa_todo qa_nodeKind qa_left qa_right qa_cls qa_def qa_symbol qa_finite => J680 qx3 qx7 (f_maxWords, f_maxCells, f_maxLevels, f_maxFuel, f_count, f_depth, f_copyDepth, f_agenda, f_listSize, f_nodes, f_first, f_last, qa_kinds, qa_args, qa_size, qa_cellKind, qa_cellVal, qa_copyKind, qa_copyVal, qa_agKind, qa_agVal, qa_agLevel, qa_list, qa_pend, qa_outer, qa_begin, qa_todo, qa_nodeKind, qa_left, qa_right, qa_cls, qa_def, qa_symbol, qa_finite)) x3 x6 x7 x8 f_maxWords f_maxCells f_maxLevels f_maxFuel f_count f_depth f_copyDepth f_agenda f_listSize f_nodes f_first f_last a_kinds a_args a_size a_cellKind a_cellVal a_copyKind a_copyVal a_agKind a_agVal a_agLevel a_list a_pend a_outer a_begin a_todo a_nodeKind a_left a_right a_cls a_def a_symbol a_finite
theorem pqY_solve_731_e (post : Int32 → SY → Prop) (J663 : Int32 → Int32 → SY → Prop) (J680 : Int32 → Int32 → SY → Prop) (x3 : Int32) (x6 : Int32) (x7 : Int32) (x8 : Int32) (u : SY) : pqY_solve_731 post J663 J680 x3 x6 x7 x8 u = (vp_in x8 320 ∧ (((((yq_nodeKind u) x8.toNatClampNeg) = 4 → (pqY_solve_759 post J663 J680 x3 x6 x7 x8 x7 u)) ∧ (¬ ((yq_nodeKind u) x8.toNatClampNeg) = 4 → (vp_in x8 320 ∧ (((((yq_nodeKind u) x8.toNatClampNeg) = 2 → (pqY_solve_759 post J663 J680 x3 x6 x7 x8 x7 u)) ∧ (¬ ((yq_nodeKind u) x8.toNatClampNeg) = 2 → (pqY_solve_789 post J663 J680 x3 x6 x7 x7 u))))))))) := rfl
def lqY_solve_680 (post : Int32 → SY → Prop) (J663 : Int32 → Int32 → SY → Prop) (x6 : Int32) (n : Nat) (x3 : Int32) (x7 : Int32) (u : SY) : Prop := match u with
  | (f_maxWords, f_maxCells, f_maxLevels, f_maxFuel, f_count, f_depth, f_copyDepth, f_agenda, f_listSize, f_nodes, f_first, f_last, a_kinds, a_args, a_size, a_cellKind, a_cellVal, a_copyKind, a_copyVal, a_agKind, a_agVal, a_agLevel, a_list, a_pend, a_outer, a_begin, a_todo, a_nodeKind, a_left, a_right, a_cls, a_def, a_symbol, a_finite) => wY_solve_680 post (fun qx3 qx6 qa_kinds qa_args qa_size qa_cellKind qa_cellVal qa_copyKind qa_copyVal qa_agKind qa_agVal qa_agLevel qa_list qa_pend qa_outer qa_begin qa_todo qa_nodeKind qa_left qa_right qa_cls qa_def qa_symbol qa_finite => J663 qx3 qx6 (f_maxWords, f_maxCells, f_maxLevels, f_maxFuel, f_count, f_depth, f_copyDepth, f_agenda, f_listSize, f_nodes, f_first, f_last, qa_kinds, qa_args, qa_size, qa_cellKind, qa_cellVal, qa_copyKind, qa_copyVal, qa_agKind, qa_agVal, qa_agLevel, qa_list, qa_pend, qa_outer, qa_begin, qa_todo, qa_nodeKind, qa_left, qa_right, qa_cls, qa_def, qa_symbol, qa_finite)) x6 f_maxWords f_maxCells f_maxLevels f_maxFuel f_count f_depth f_copyDepth f_agenda f_listSize f_nodes f_first f_last n x3 x7 a_kinds a_args a_size a_cellKind a_cellVal a_copyKind a_copyVal a_agKind a_agVal a_agLevel a_list a_pend a_outer a_begin a_todo a_nodeKind a_left a_right a_cls a_def a_symbol a_finite
theorem lqY_solve_680_s (post : Int32 → SY → Prop) (J663 : Int32 → Int32 → SY → Prop) (x6 : Int32) (n : Nat) (x3 : Int32) (x7 : Int32) (u : SY) : lqY_solve_680 post J663 x6 (n + 1) x3 x7 u = ((((yq_nodes u) ≤ x7 → (∀ x6_79 : Int32 , x6_79 = x6 + 1 → (J663 x3 x6_79 u))) ∧ (¬ (yq_nodes u) ≤ x7 → (vp_in x7 320 ∧ (vp_in ((yq_cls u) x7.toNatClampNeg) 320 ∧ (∀ x8_82 : Int32 , x8_82 = (yq_def u) ((yq_cls u) x7.toNatClampNeg).toNatClampNeg → (wpY_built (fun r_83 => (((r_83 = 0 → (pqY_solve_731 post J663 (lqY_solve_680 post J663 x6 n) x3 x6 x7 x8_82 u)) ∧ (¬ r_83 = 0 → (vp_in x7 320 ∧ (vp_in x8_82 320 ∧ (((((yq_nodeKind u) x7.toNatClampNeg) = ((yq_nodeKind u) x8_82.toNatClampNeg) → (pqY_solve_731 post J663 (lqY_solve_680 post J663 x6 n) x3 x6 x7 x8_82 u)) ∧ (¬ ((yq_nodeKind u) x7.toNatClampNeg) = ((yq_nodeKind u) x8_82.toNatClampNeg) → (post 0 u)))))))))) u x7))))))) := rfl
def lqY_solve_663 (post : Int32 → SY → Prop) (n : Nat) (x3 : Int32) (x6 : Int32) (u : SY) : Prop := match u with
  | (f_maxWords, f_maxCells, f_maxLevels, f_maxFuel, f_count, f_depth, f_copyDepth, f_agenda, f_listSize, f_nodes, f_first, f_last, a_kinds, a_args, a_size, a_cellKind, a_cellVal, a_copyKind, a_copyVal, a_agKind, a_agVal, a_agLevel, a_list, a_pend, a_outer, a_begin, a_todo, a_nodeKind, a_left, a_right, a_cls, a_def, a_symbol, a_finite) => wY_solve_663 post f_maxWords f_maxCells f_maxLevels f_maxFuel f_count f_depth f_copyDepth f_agenda f_listSize f_nodes f_first f_last n x3 x6 a_kinds a_args a_size a_cellKind a_cellVal a_copyKind a_copyVal a_agKind a_agVal a_agLevel a_list a_pend a_outer a_begin a_todo a_nodeKind a_left a_right a_cls a_def a_symbol a_finite
theorem lqY_solve_663_s (post : Int32 → SY → Prop) (n : Nat) (x3 : Int32) (x6 : Int32) (u : SY) : lqY_solve_663 post (n + 1) x3 x6 u = (((320 ≤ x6 → (narrow .boolean (.int x3) = .int x3 ∧ (post x3 u))) ∧ (¬ 320 ≤ x6 → (((x3 = 0 → (∃ n680 : Nat , lqY_solve_680 post (lqY_solve_663 post n) x6 n680 1 0 u)) ∧ (¬ x3 = 0 → (narrow .boolean (.int x3) = .int x3 ∧ (post x3 u)))))))) := rfl
def lqY_solve_622 (post : Int32 → SY → Prop) (x3 : Int32) (n : Nat) (x6 : Int32) (u : SY) : Prop := match u with
  | (f_maxWords, f_maxCells, f_maxLevels, f_maxFuel, f_count, f_depth, f_copyDepth, f_agenda, f_listSize, f_nodes, f_first, f_last, a_kinds, a_args, a_size, a_cellKind, a_cellVal, a_copyKind, a_copyVal, a_agKind, a_agVal, a_agLevel, a_list, a_pend, a_outer, a_begin, a_todo, a_nodeKind, a_left, a_right, a_cls, a_def, a_symbol, a_finite) => wY_solve_622 post x3 f_maxWords f_maxCells f_maxLevels f_maxFuel f_count f_depth f_copyDepth f_agenda f_listSize f_nodes f_first f_last n x6 a_kinds a_args a_size a_cellKind a_cellVal a_copyKind a_copyVal a_agKind a_agVal a_agLevel a_list a_pend a_outer a_begin a_todo a_nodeKind a_left a_right a_cls a_def a_symbol a_finite
theorem lqY_solve_622_s (post : Int32 → SY → Prop) (x3 : Int32) (n : Nat) (x6 : Int32) (u : SY) : lqY_solve_622 post x3 (n + 1) x6 u = ((((yq_nodes u) ≤ x6 → (∃ n663 : Nat , lqY_solve_663 post n663 x3 0 u)) ∧ (¬ (yq_nodes u) ≤ x6 → (wpY_built (fun r_140 => (((r_140 = 0 → (∀ x6_176 : Int32 , x6_176 = x6 + 1 → (lqY_solve_622 post x3 n x6_176 u))) ∧ (¬ r_140 = 0 → (vp_in x6 320 ∧ (vp_in ((yq_cls u) x6.toNatClampNeg) 320 ∧ ∀ a_def_179 : Nat → Int32 , a_def_179 = upd (yq_def u) ((yq_cls u) x6.toNatClampNeg).toNatClampNeg x6 → (∀ x6_180 : Int32 , x6_180 = x6 + 1 → (lqY_solve_622 post x3 n x6_180 (ys_def u a_def_179))))))))) u x6)))) := rfl
def lqY_solve_519 (post : Int32 → SY → Prop) (J490 : Int32 → Int32 → SY → Prop) (J507 : Int32 → Int32 → SY → Prop) (x3 : Int32) (x6 : Int32) (x7 : Int32) (n : Nat) (x2 : Int32) (x8 : Int32) (u : SY) : Prop := match u with
  | (f_maxWords, f_maxCells, f_maxLevels, f_maxFuel, f_count, f_depth, f_copyDepth, f_agenda, f_listSize, f_nodes, f_first, f_last, a_kinds, a_args, a_size, a_cellKind, a_cellVal, a_copyKind, a_copyVal, a_agKind, a_agVal, a_agLevel, a_list, a_pend, a_outer, a_begin, a_todo, a_nodeKind, a_left, a_right, a_cls, a_def, a_symbol, a_finite) => wY_solve_519 post (fun qx2 qx6 qf_maxWords qf_maxCells qf_maxLevels qf_maxFuel qf_count qf_depth qf_copyDepth qf_agenda qf_listSize qf_nodes qf_first qf_last qa_kinds qa_args qa_size qa_cellKind qa_cellVal qa_copyKind qa_copyVal qa_agKind qa_agVal qa_agLevel qa_list qa_pend qa_outer qa_begin qa_todo qa_nodeKind qa_left qa_right qa_cls qa_def qa_symbol qa_finite => J490 qx2 qx6 (qf_maxWords, qf_maxCells, qf_maxLevels, qf_maxFuel, qf_count, qf_depth, qf_copyDepth, qf_agenda, qf_listSize, qf_nodes, qf_first, qf_last, qa_kinds, qa_args, qa_size, qa_cellKind, qa_cellVal, qa_copyKind, qa_copyVal, qa_agKind, qa_agVal, qa_agLevel, qa_list, qa_pend, qa_outer, qa_begin, qa_todo, qa_nodeKind, qa_left, qa_right, qa_cls, qa_def, qa_symbol, qa_finite)) (fun qx2 qx7 qf_maxWords qf_maxCells qf_maxLevels qf_maxFuel qf_count qf_depth qf_copyDepth qf_agenda qf_listSize qf_nodes qf_first qf_last qa_kinds qa_args qa_size qa_cellKind qa_cellVal qa_copyKind qa_copyVal qa_agKind qa_agVal qa_agLevel qa_list qa_pend qa_outer qa_begin qa_todo qa_nodeKind qa_left qa_right qa_cls qa_def qa_symbol qa_finite => J507 qx2 qx7 (qf_maxWords, qf_maxCells, qf_maxLevels, qf_maxFuel, qf_count, qf_depth, qf_copyDepth, qf_agenda, qf_listSize, qf_nodes, qf_first, qf_last, qa_kinds, qa_args, qa_size, qa_cellKind, qa_cellVal, qa_copyKind, qa_copyVal, qa_agKind, qa_agVal, qa_agLevel, qa_list, qa_pend, qa_outer, qa_begin, qa_todo, qa_nodeKind, qa_left, qa_right, qa_cls, qa_def, qa_symbol, qa_finite)) x3 x6 x7 n x2 x8 f_maxWords f_maxCells f_maxLevels f_maxFuel f_count f_depth f_copyDepth f_agenda f_listSize f_nodes f_first f_last a_kinds a_args a_size a_cellKind a_cellVal a_copyKind a_copyVal a_agKind a_agVal a_agLevel a_list a_pend a_outer a_begin a_todo a_nodeKind a_left a_right a_cls a_def a_symbol a_finite
theorem lqY_solve_519_s (post : Int32 → SY → Prop) (J490 : Int32 → Int32 → SY → Prop) (J507 : Int32 → Int32 → SY → Prop) (x3 : Int32) (x6 : Int32) (x7 : Int32) (n : Nat) (x2 : Int32) (x8 : Int32) (u : SY) : lqY_solve_519 post J490 J507 x3 x6 x7 (n + 1) x2 x8 u = (((x7 ≤ x8 → (∀ x7_185 : Int32 , x7_185 = x7 + 1 → (J507 x2 x7_185 u))) ∧ (¬ x7 ≤ x8 → (vp_in x7 320 ∧ (vp_in x8 320 ∧ (((((yq_cls u) x7.toNatClampNeg) = ((yq_cls u) x8.toNatClampNeg) → (wpY_built (fun r_190 => (((r_190 = 0 → (∀ x8_226 : Int32 , x8_226 = x8 + 1 → (lqY_solve_519 post J490 J507 x3 x6 x7 n x2 x8_226 u))) ∧ (¬ r_190 = 0 → (wpY_built (fun r_227 => (((r_227 = 0 → (∀ x8_263 : Int32 , x8_263 = x8 + 1 → (lqY_solve_519 post J490 J507 x3 x6 x7 n x2 x8_263 u))) ∧ (¬ r_227 = 0 → (vp_in x7 320 ∧ (vp_in x8 320 ∧ (wpY_equate (fun r_266 u1 => (vp_in x7 320 ∧ (vp_in x8 320 ∧ (wpY_equate (fun r_303 u2 => (∀ x2_338 : Int32 , x2_338 = (r_266 ||| r_303) ||| x2 → (∀ x8_339 : Int32 , x8_339 = x8 + 1 → (lqY_solve_519 post J490 J507 x3 x6 x7 n x2_338 x8_339 u2)))) u1 ((yq_right u1) x7.toNatClampNeg) ((yq_right u1) x8.toNatClampNeg))))) u ((yq_left u) x7.toNatClampNeg) ((yq_left u) x8.toNatClampNeg)))))))) u x8))))) u x7)) ∧ (¬ ((yq_cls u) x7.toNatClampNeg) = ((yq_cls u) x8.toNatClampNeg) → (∀ x8_189 : Int32 , x8_189 = x8 + 1 → (lqY_solve_519 post J490 J507 x3 x6 x7 n x2 x8_189 u)))))))))) := rfl
def lqY_solve_507 (post : Int32 → SY → Prop) (J490 : Int32 → Int32 → SY → Prop) (x3 : Int32) (x6 : Int32) (n : Nat) (x2 : Int32) (x7 : Int32) (u : SY) : Prop := match u with
  | (f_maxWords, f_maxCells, f_maxLevels, f_maxFuel, f_count, f_depth, f_copyDepth, f_agenda, f_listSize, f_nodes, f_first, f_last, a_kinds, a_args, a_size, a_cellKind, a_cellVal, a_copyKind, a_copyVal, a_agKind, a_agVal, a_agLevel, a_list, a_pend, a_outer, a_begin, a_todo, a_nodeKind, a_left, a_right, a_cls, a_def, a_symbol, a_finite) => wY_solve_507 post (fun qx2 qx6 qf_maxWords qf_maxCells qf_maxLevels qf_maxFuel qf_count qf_depth qf_copyDepth qf_agenda qf_listSize qf_nodes qf_first qf_last qa_kinds qa_args qa_size qa_cellKind qa_cellVal qa_copyKind qa_copyVal qa_agKind qa_agVal qa_agLevel qa_list qa_pend qa_outer qa_begin qa_todo qa_nodeKind qa_left qa_right qa_cls qa_def qa_symbol qa_finite => J490 qx2 qx6 (qf_maxWords, qf_maxCells, qf_maxLevels, qf_maxFuel, qf_count, qf_depth, qf_copyDepth, qf_agenda, qf_listSize, qf_nodes, qf_first, qf_last, qa_kinds, qa_args, qa_size, qa_cellKind, qa_cellVal, qa_copyKind, qa_copyVal, qa_agKind, qa_agVal, qa_agLevel, qa_list, qa_pend, qa_outer, qa_begin, qa_todo, qa_nodeKind, qa_left, qa_right, qa_cls, qa_def, qa_symbol, qa_finite)) x3 x6 n x2 x7 f_maxWords f_maxCells f_maxLevels f_maxFuel f_count f_depth f_copyDepth f_agenda f_listSize f_nodes f_first f_last a_kinds a_args a_size a_cellKind a_cellVal a_copyKind a_copyVal a_agKind a_agVal a_agLevel a_list a_pend a_outer a_begin a_todo a_nodeKind a_left a_right a_cls a_def a_symbol a_finite
theorem lqY_solve_507_s (post : Int32 → SY → Prop) (J490 : Int32 → Int32 → SY → Prop) (x3 : Int32) (x6 : Int32) (n : Nat) (x2 : Int32) (x7 : Int32) (u : SY) : lqY_solve_507 post J490 x3 x6 (n + 1) x2 x7 u = ((((yq_nodes u) ≤ x7 → (∀ x6_183 : Int32 , x6_183 = x6 + 1 → (J490 x2 x6_183 u))) ∧ (¬ (yq_nodes u) ≤ x7 → (∃ n519 : Nat , lqY_solve_519 post J490 (lqY_solve_507 post J490 x3 x6 n) x3 x6 x7 n519 x2 0 u)))) := rfl
def lqY_solve_490 (post : Int32 → SY → Prop) (x3 : Int32) (n : Nat) (x2 : Int32) (x6 : Int32) (u : SY) : Prop := match u with
  | (f_maxWords, f_maxCells, f_maxLevels, f_maxFuel, f_count, f_depth, f_copyDepth, f_agenda, f_listSize, f_nodes, f_first, f_last, a_kinds, a_args, a_size, a_cellKind, a_cellVal, a_copyKind, a_copyVal, a_agKind, a_agVal, a_agLevel, a_list, a_pend, a_outer, a_begin, a_todo, a_nodeKind, a_left, a_right, a_cls, a_def, a_symbol, a_finite) => wY_solve_490 post x3 n x2 x6 f_maxWords f_maxCells f_maxLevels f_maxFuel f_count f_depth f_copyDepth f_agenda f_listSize f_nodes f_first f_last a_kinds a_args a_size a_cellKind a_cellVal a_copyKind a_copyVal a_agKind a_agVal a_agLevel a_list a_pend a_outer a_begin a_todo a_nodeKind a_left a_right a_cls a_def a_symbol a_finite
theorem lqY_solve_490_s (post : Int32 → SY → Prop) (x3 : Int32) (n : Nat) (x2 : Int32) (x6 : Int32) (u : SY) : lqY_solve_490 post x3 (n + 1) x2 x6 u = (((320 ≤ x6 → (∃ n622 : Nat , lqY_solve_622 post x3 n622 0 u)) ∧ (¬ 320 ≤ x6 → (((x2 = 0 → (∃ n622 : Nat , lqY_solve_622 post x3 n622 0 u)) ∧ (¬ x2 = 0 → (∃ n507 : Nat , lqY_solve_507 post (lqY_solve_490 post x3 n) x3 x6 n507 0 0 u))))))) := rfl
def pqY_solve_464 (post : Int32 → SY → Prop) (J43 : Int32 → Int32 → SY → Prop) (x2 : Int32) (x3 : Int32) (x4 : Int32) (x5 : Int32) (x6 : Int32) (x13 : Int32) (x14 : Int32) (u : SY) : Prop := match u with
  | (f_maxWords, f_maxCells, f_maxLevels, f_maxFuel, f_count, f_depth, f_copyDepth, f_agenda, f_listSize, f_nodes, f_first, f_last, a_kinds, a_args, a_size, a_cellKind, a_cellVal, a_copyKind, a_copyVal, a_agKind, a_agVal, a_agLevel, a_list, a_pend, a_outer, a_begin, a_todo, a_nodeKind, a_left, a_right, a_cls, a_def, a_symbol, a_finite) => wY_solve_464 post (fun qx5 qx6 qf_maxWords qf_maxCells qf_maxLevels qf_maxFuel qf_count qf_depth qf_copyDepth qf_agenda qf_listSize qf_nodes qf_first qf_last qa_kinds qa_args qa_size qa_cellKind qa_cellVal qa_copyKind qa_copyVal qa_agKind qa_agVal qa_agLevel qa_list qa_pend qa_outer qa_begin qa_todo qa_nodeKind qa_left qa_right qa_cls qa_def qa_symbol qa_finite => J43 qx5 qx6 (qf_maxWords, qf_maxCells, qf_maxLevels, qf_maxFuel, qf_count, qf_depth, qf_copyDepth, qf_agenda, qf_listSize, qf_nodes, qf_first, qf_last, qa_kinds, qa_args, qa_size, qa_cellKind, qa_cellVal, qa_copyKind, qa_copyVal, qa_agKind, qa_agVal, qa_agLevel, qa_list, qa_pend, qa_outer, qa_begin, qa_todo, qa_nodeKind, qa_left, qa_right, qa_cls, qa_def, qa_symbol, qa_finite)) x2 x3 x4 x5 x6 x13 x14 f_maxWords f_maxCells f_maxLevels f_maxFuel f_count f_depth f_copyDepth f_agenda f_listSize f_nodes f_first f_last a_kinds a_args a_size a_cellKind a_cellVal a_copyKind a_copyVal a_agKind a_agVal a_agLevel a_list a_pend a_outer a_begin a_todo a_nodeKind a_left a_right a_cls a_def a_symbol a_finite
theorem pqY_solve_464_e (post : Int32 → SY → Prop) (J43 : Int32 → Int32 → SY → Prop) (x2 : Int32) (x3 : Int32) (x4 : Int32) (x5 : Int32) (x6 : Int32) (x13 : Int32) (x14 : Int32) (u : SY) : pqY_solve_464 post J43 x2 x3 x4 x5 x6 x13 x14 u = (wpY_equate (fun r_633 u1 => (∀ x6_668 : Int32 , x6_668 = x6 + 1 → (J43 x5 x6_668 (ys_last u1 x14)))) u (yq_last u) x13) := rfl
def pqY_solve_424 (post : Int32 → SY → Prop) (J43 : Int32 → Int32 → SY → Prop) (x2 : Int32) (x3 : Int32) (x4 : Int32) (x5 : Int32) (x6 : Int32) (x7 : Int32) (x8 : Int32) (x12 : Int32) (x13 : Int32) (x14 : Int32) (u : SY) : Prop := match u with
  | (f_maxWords, f_maxCells, f_maxLevels, f_maxFuel, f_count, f_depth, f_copyDepth, f_agenda, f_listSize, f_nodes, f_first, f_last, a_kinds, a_args, a_size, a_cellKind, a_cellVal, a_copyKind, a_copyVal, a_agKind, a_agVal, a_agLevel, a_list, a_pend, a_outer, a_begin, a_todo, a_nodeKind, a_left, a_right, a_cls, a_def, a_symbol, a_finite) => wY_solve_424 post (fun qx5 qx6 qf_maxWords qf_maxCells qf_maxLevels qf_maxFuel qf_count qf_depth qf_copyDepth qf_agenda qf_listSize qf_nodes qf_first qf_last qa_kinds qa_args qa_size qa_cellKind qa_cellVal qa_copyKind qa_copyVal qa_agKind qa_agVal qa_agLevel qa_list qa_pend qa_outer qa_begin qa_todo qa_nodeKind qa_left qa_right qa_cls qa_def qa_symbol qa_finite => J43 qx5 qx6 (qf_maxWords, qf_maxCells, qf_maxLevels, qf_maxFuel, qf_count, qf_depth, qf_copyDepth, qf_agenda, qf_listSize, qf_nodes, qf_first, qf_last, qa_kinds, qa_args, qa_size, qa_cellKind, qa_cellVal, qa_copyKind, qa_copyVal, qa_agKind, qa_agVal, qa_agLevel, qa_list, qa_pend, qa_outer, qa_begin, qa_todo, qa_nodeKind, qa_left, qa_right, qa_cls, qa_def, qa_symbol, qa_finite)) x2 x3 x4 x5 x6 x7 x8 x12 x13 x14 f_maxWords f_maxCells f_maxLevels f_maxFuel f_count f_depth f_copyDepth f_agenda f_listSize f_nodes f_first f_last a_kinds a_args a_size a_cellKind a_cellVal a_copyKind a_copyVal a_agKind a_agVal a_agLevel a_list a_pend a_outer a_begin a_todo a_nodeKind a_left a_right a_cls a_def a_symbol a_finite
theorem pqY_solve_424_e (post : Int32 → SY → Prop) (J43 : Int32 → Int32 → SY → Prop) (x2 : Int32) (x3 : Int32) (x4 : Int32) (x5 : Int32) (x6 : Int32) (x7 : Int32) (x8 : Int32) (x12 : Int32) (x13 : Int32) (x14 : Int32) (u : SY) : pqY_solve_424 post J43 x2 x3 x4 x5 x6 x7 x8 x12 x13 x14 u = (((x7 = 13 → (wpY_node (fun r_669 u1 => (wpY_node (fun r_704 u2 => (wpY_node (fun r_739 u3 => (pqY_solve_464 post J43 x2 x3 x4 x5 x6 r_739 x14 u3)) u2 4 x12 r_704)) u1 4 x12 r_669)) u 4 x4 x8)) ∧ (¬ x7 = 13 → (pqY_solve_464 post J43 x2 x3 x4 x5 x6 x13 x14 u)))) := rfl
def pqY_solve_395 (post : Int32 → SY → Prop) (J43 : Int32 → Int32 → SY → Prop) (x2 : Int32) (x3 : Int32) (x4 : Int32) (x5 : Int32) (x6 : Int32) (x7 : Int32) (x8 : Int32) (x9 : Int32) (x10 : Int32) (x12 : Int32) (x13 : Int32) (x14 : Int32) (u : SY) : Prop := match u with
  | (f_maxWords, f_maxCells, f_maxLevels, f_maxFuel, f_count, f_depth, f_copyDepth, f_agenda, f_listSize, f_nodes, f_first, f_last, a_kinds, a_args, a_size, a_cellKind, a_cellVal, a_copyKind, a_copyVal, a_agKind, a_agVal, a_agLevel, a_list, a_pend, a_outer, a_begin, a_todo, a_nodeKind, a_left, a_right, a_cls, a_def, a_symbol, a_finite) => wY_solve_395 post (fun qx5 qx6 qf_maxWords qf_maxCells qf_maxLevels qf_maxFuel qf_count qf_depth qf_copyDepth qf_agenda qf_listSize qf_nodes qf_first qf_last qa_kinds qa_args qa_size qa_cellKind qa_cellVal qa_copyKind qa_copyVal qa_agKind qa_agVal qa_agLevel qa_list qa_pend qa_outer qa_begin qa_todo qa_nodeKind qa_left qa_right qa_cls qa_def qa_symbol qa_finite => J43 qx5 qx6 (qf_maxWords, qf_maxCells, qf_maxLevels, qf_maxFuel, qf_count, qf_depth, qf_copyDepth, qf_agenda, qf_listSize, qf_nodes, qf_first, qf_last, qa_kinds, qa_args, qa_size, qa_cellKind, qa_cellVal, qa_copyKind, qa_copyVal, qa_agKind, qa_agVal, qa_agLevel, qa_list, qa_pend, qa_outer, qa_begin, qa_todo, qa_nodeKind, qa_left, qa_right, qa_cls, qa_def, qa_symbol, qa_finite)) x2 x3 x4 x5 x6 x7 x8 x9 x10 x12 x13 x14 f_maxWords f_maxCells f_maxLevels f_maxFuel f_count f_depth f_copyDepth f_agenda f_listSize f_nodes f_first f_last a_kinds a_args a_size a_cellKind a_cellVal a_copyKind a_copyVal a_agKind a_agVal a_agLevel a_list a_pend a_outer a_begin a_todo a_nodeKind a_left a_right a_cls a_def a_symbol a_finite
theorem pqY_solve_395_e (post : Int32 → SY → Prop) (J43 : Int32 → Int32 → SY → Prop) (x2 : Int32) (x3 : Int32) (x4 : Int32) (x5 : Int32) (x6 : Int32) (x7 : Int32) (x8 : Int32) (x9 : Int32) (x10 : Int32) (x12 : Int32) (x13 : Int32) (x14 : Int32) (u : SY) : pqY_solve_395 post J43 x2 x3 x4 x5 x6 x7 x8 x9 x10 x12 x13 x14 u = (((x7 = 12 → (wpY_node (fun r_774 u1 => (wpY_node (fun r_809 u2 => (pqY_solve_424 post J43 x2 x3 x4 x5 x6 x7 x8 x12 r_774 r_809 u2)) u1 4 x10 x9)) u 4 x12 x13)) ∧ (¬ x7 = 12 → (pqY_solve_424 post J43 x2 x3 x4 x5 x6 x7 x8 x12 x13 x14 u)))) := rfl
def pqY_solve_377 (post : Int32 → SY → Prop) (J43 : Int32 → Int32 → SY → Prop) (x2 : Int32) (x3 : Int32) (x4 : Int32) (x5 : Int32) (x6 : Int32) (x7 : Int32) (x8 : Int32) (x9 : Int32) (x10 : Int32) (x12 : Int32) (x13 : Int32) (x14 : Int32) (u : SY) : Prop := match u with
  | (f_maxWords, f_maxCells, f_maxLevels, f_maxFuel, f_count, f_depth, f_copyDepth, f_agenda, f_listSize, f_nodes, f_first, f_last, a_kinds, a_args, a_size, a_cellKind, a_cellVal, a_copyKind, a_copyVal, a_agKind, a_agVal, a_agLevel, a_list, a_pend, a_outer, a_begin, a_todo, a_nodeKind, a_left, a_right, a_cls, a_def, a_symbol, a_finite) => wY_solve_377 post (fun qx5 qx6 qf_maxWords qf_maxCells qf_maxLevels qf_maxFuel qf_count qf_depth qf_copyDepth qf_agenda qf_listSize qf_nodes qf_first qf_last qa_kinds qa_args qa_size qa_cellKind qa_cellVal qa_copyKind qa_copyVal qa_agKind qa_agVal qa_agLevel qa_list qa_pend qa_outer qa_begin qa_todo qa_nodeKind qa_left qa_right qa_cls qa_def qa_symbol qa_finite => J43 qx5 qx6 (qf_maxWords, qf_maxCells, qf_maxLevels, qf_maxFuel, qf_count, qf_depth, qf_copyDepth, qf_agenda, qf_listSize, qf_nodes, qf_first, qf_last, qa_kinds, qa_args, qa_size, qa_cellKind, qa_cellVal, qa_copyKind, qa_copyVal, qa_agKind, qa_agVal, qa_agLevel, qa_list, qa_pend, qa_outer, qa_begin, qa_todo, qa_nodeKind, qa_left, qa_right, qa_cls, qa_def, qa_symbol, qa_finite)) x2 x3 x4 x5 x6 x7 x8 x9 x10 x12 x13 x14 f_maxWords f_maxCells f_maxLevels f_maxFuel f_count f_depth f_copyDepth f_agenda f_listSize f_nodes f_first f_last a_kinds a_args a_size a_cellKind a_cellVal a_copyKind a_copyVal a_agKind a_agVal a_agLevel a_list a_pend a_outer a_begin a_todo a_nodeKind a_left a_right a_cls a_def a_symbol a_finite
theorem pqY_solve_377_e (post : Int32 → SY → Prop) (J43 : Int32 → Int32 → SY → Prop) (x2 : Int32) (x3 : Int32) (x4 : Int32) (x5 : Int32) (x6 : Int32) (x7 : Int32) (x8 : Int32) (x9 : Int32) (x10 : Int32) (x12 : Int32) (x13 : Int32) (x14 : Int32) (u : SY) : pqY_solve_377 post J43 x2 x3 x4 x5 x6 x7 x8 x9 x10 x12 x13 x14 u = (((x7 = 11 → (wpY_node (fun r_844 u1 => (pqY_solve_395 post J43 x2 x3 x4 x5 x6 x7 x8 x9 x10 x12 r_844 x14 u1)) u 4 x12 x8)) ∧ (¬ x7 = 11 → (pqY_solve_395 post J43 x2 x3 x4 x5 x6 x7 x8 x9 x10 x12 x13 x14 u)))) := rfl
def pqY_solve_337 (post : Int32 → SY → Prop) (J43 : Int32 → Int32 → SY → Prop) (x2 : Int32) (x3 : Int32) (x4 : Int32) (x5 : Int32) (x6 : Int32) (x7 : Int32) (x8 : Int32) (x9 : Int32) (x10 : Int32) (x11 : Int32) (x12 : Int32) (x13 : Int32) (x14 : Int32) (u : SY) : Prop := match u with
  | (f_maxWords, f_maxCells, f_maxLevels, f_maxFuel, f_count, f_depth, f_copyDepth, f_agenda, f_listSize, f_nodes, f_first, f_last, a_kinds, a_args, a_size, a_cellKind, a_cellVal, a_copyKind, a_copyVal, a_agKind, a_agVal, a_agLevel, a_list, a_pend, a_outer, a_begin, a_todo, a_nodeKind, a_left, a_right, a_cls, a_def, a_symbol, a_finite) => wY_solve_337 post (fun qx5 qx6 qf_maxWords qf_maxCells qf_maxLevels qf_maxFuel qf_count qf_depth qf_copyDepth qf_agenda qf_listSize qf_nodes qf_first qf_last qa_kinds qa_args qa_size qa_cellKind qa_cellVal qa_copyKind qa_copyVal qa_agKind qa_agVal qa_agLevel qa_list qa_pend qa_outer qa_begin qa_todo qa_nodeKind qa_left qa_right qa_cls qa_def qa_symbol qa_finite => J43 qx5 qx6 (qf_maxWords, qf_maxCells, qf_maxLevels, qf_maxFuel, qf_count, qf_depth, qf_copyDepth, qf_agenda, qf_listSize, qf_nodes, qf_first, qf_last, qa_kinds, qa_args, qa_size, qa_cellKind, qa_cellVal, qa_copyKind, qa_copyVal, qa_agKind, qa_agVal, qa_agLevel, qa_list, qa_pend, qa_outer, qa_begin, qa_todo, qa_nodeKind, qa_left, qa_right, qa_cls, qa_def, qa_symbol, qa_finite)) x2 x3 x4 x5 x6 x7 x8 x9 x10 x11 x12 x13 x14 f_maxWords f_maxCells f_maxLevels f_maxFuel f_count f_depth f_copyDepth f_agenda f_listSize f_nodes f_first f_last a_kinds a_args a_size a_cellKind a_cellVal a_copyKind a_copyVal a_agKind a_agVal a_agLevel a_list a_pend a_outer a_begin a_todo a_nodeKind a_left a_right a_cls a_def a_symbol a_finite
theorem pqY_solve_337_e (post : Int32 → SY → Prop) (J43 : Int32 → Int32 → SY → Prop) (x2 : Int32) (x3 : Int32) (x4 : Int32) (x5 : Int32) (x6 : Int32) (x7 : Int32) (x8 : Int32) (x9 : Int32) (x10 : Int32) (x11 : Int32) (x12 : Int32) (x13 : Int32) (x14 : Int32) (u : SY) : pqY_solve_337 post J43 x2 x3 x4 x5 x6 x7 x8 x9 x10 x11 x12 x13 x14 u = (((x7 = 7 → (wpY_node (fun r_879 u1 => (wpY_node (fun r_914 u2 => (wpY_node (fun r_949 u3 => (pqY_solve_377 post J43 x2 x3 x4 x5 x6 x7 x8 x9 x10 x12 r_879 r_949 u3)) u2 4 x10 r_914)) u1 4 x11 x8)) u 4 x11 x13)) ∧ (¬ x7 = 7 → (pqY_solve_377 post J43 x2 x3 x4 x5 x6 x7 x8 x9 x10 x12 x13 x14 u)))) := rfl
def pqY_solve_326 (post : Int32 → SY → Prop) (J43 : Int32 → Int32 → SY → Prop) (x2 : Int32) (x3 : Int32) (x4 : Int32) (x5 : Int32) (x6 : Int32) (x7 : Int32) (x8 : Int32) (x9 : Int32) (x10 : Int32) (x11 : Int32) (x12 : Int32) (x13 : Int32) (x14 : Int32) (u : SY) : Prop := match u with
  | (f_maxWords, f_maxCells, f_maxLevels, f_maxFuel, f_count, f_depth, f_copyDepth, f_agenda, f_listSize, f_nodes, f_first, f_last, a_kinds, a_args, a_size, a_cellKind, a_cellVal, a_copyKind, a_copyVal, a_agKind, a_agVal, a_agLevel, a_list, a_pend, a_outer, a_begin, a_todo, a_nodeKind, a_left, a_right, a_cls, a_def, a_symbol, a_finite) => wY_solve_326 post (fun qx5 qx6 qf_maxWords qf_maxCells qf_maxLevels qf_maxFuel qf_count qf_depth qf_copyDepth qf_agenda qf_listSize qf_nodes qf_first qf_last qa_kinds qa_args qa_size qa_cellKind qa_cellVal qa_copyKind qa_copyVal qa_agKind qa_agVal qa_agLevel qa_list qa_pend qa_outer qa_begin qa_todo qa_nodeKind qa_left qa_right qa_cls qa_def qa_symbol qa_finite => J43 qx5 qx6 (qf_maxWords, qf_maxCells, qf_maxLevels, qf_maxFuel, qf_count, qf_depth, qf_copyDepth, qf_agenda, qf_listSize, qf_nodes, qf_first, qf_last, qa_kinds, qa_args, qa_size, qa_cellKind, qa_cellVal, qa_copyKind, qa_copyVal, qa_agKind, qa_agVal, qa_agLevel, qa_list, qa_pend, qa_outer, qa_begin, qa_todo, qa_nodeKind, qa_left, qa_right, qa_cls, qa_def, qa_symbol, qa_finite)) x2 x3 x4 x5 x6 x7 x8 x9 x10 x11 x12 x13 x14 f_maxWords f_maxCells f_maxLevels f_maxFuel f_count f_depth f_copyDepth f_agenda f_listSize f_nodes f_first f_last a_kinds a_args a_size a_cellKind a_cellVal a_copyKind a_copyVal a_agKind a_agVal a_agLevel a_list a_pend a_outer a_begin a_todo a_nodeKind a_left a_right a_cls a_def a_symbol a_finite
theorem pqY_solve_326_e (post : Int32 → SY → Prop) (J43 : Int32 → Int32 → SY → Prop) (x2 : Int32) (x3 : Int32) (x4 : Int32) (x5 : Int32) (x6 : Int32) (x7 : Int32) (x8 : Int32) (x9 : Int32) (x10 : Int32) (x11 : Int32) (x12 : Int32) (x13 : Int32) (x14 : Int32) (u : SY) : pqY_solve_326 post J43 x2 x3 x4 x5 x6 x7 x8 x9 x10 x11 x12 x13 x14 u = (((x7 = 6 → (pqY_solve_337 post J43 x2 x3 x4 x5 x6 x7 x8 x9 x10 x11 x12 x13 x8 u)) ∧ (¬ x7 = 6 → (pqY_solve_337 post J43 x2 x3 x4 x5 x6 x7 x8 x9 x10 x11 x12 x13 x14 u)))) := rfl
def pqY_solve_309 (post : Int32 → SY → Prop) (J43 : Int32 → Int32 → SY → Prop) (x2 : Int32) (x3 : Int32) (x4 : Int32) (x5 : Int32) (x6 : Int32) (x7 : Int32) (x8 : Int32) (x9 : Int32) (x10 : Int32) (x11 : Int32) (x12 : Int32) (x13 : Int32) (x14 : Int32) (u : SY) : Prop := match u with
  | (f_maxWords, f_maxCells, f_maxLevels, f_maxFuel, f_count, f_depth, f_copyDepth, f_agenda, f_listSize, f_nodes, f_first, f_last, a_kinds, a_args, a_size, a_cellKind, a_cellVal, a_copyKind, a_copyVal, a_agKind, a_agVal, a_agLevel, a_list, a_pend, a_outer, a_begin, a_todo, a_nodeKind, a_left, a_right, a_cls, a_def, a_symbol, a_finite) => wY_solve_309 post (fun qx5 qx6 qf_maxWords qf_maxCells qf_maxLevels qf_maxFuel qf_count qf_depth qf_copyDepth qf_agenda qf_listSize qf_nodes qf_first qf_last qa_kinds qa_args qa_size qa_cellKind qa_cellVal qa_copyKind qa_copyVal qa_agKind qa_agVal qa_agLevel qa_list qa_pend qa_outer qa_begin qa_todo qa_nodeKind qa_left qa_right qa_cls qa_def qa_symbol qa_finite => J43 qx5 qx6 (qf_maxWords, qf_maxCells, qf_maxLevels, qf_maxFuel, qf_count, qf_depth, qf_copyDepth, qf_agenda, qf_listSize, qf_nodes, qf_first, qf_last, qa_kinds, qa_args, qa_size, qa_cellKind, qa_cellVal, qa_copyKind, qa_copyVal, qa_agKind, qa_agVal, qa_agLevel, qa_list, qa_pend, qa_outer, qa_begin, qa_todo, qa_nodeKind, qa_left, qa_right, qa_cls, qa_def, qa_symbol, qa_finite)) x2 x3 x4 x5 x6 x7 x8 x9 x10 x11 x12 x13 x14 f_maxWords f_maxCells f_maxLevels f_maxFuel f_count f_depth f_copyDepth f_agenda f_listSize f_nodes f_first f_last a_kinds a_args a_size a_cellKind a_cellVal a_copyKind a_copyVal a_agKind a_agVal a_agLevel a_list a_pend a_outer a_begin a_todo a_nodeKind a_left a_right a_cls a_def a_symbol a_finite
theorem pqY_solve_309_e (post : Int32 → SY → Prop) (J43 : Int32 → Int32 → SY → Prop) (x2 : Int32) (x3 : Int32) (x4 : Int32) (x5 : Int32) (x6 : Int32) (x7 : Int32) (x8 : Int32) (x9 : Int32) (x10 : Int32) (x11 : Int32) (x12 : Int32) (x13 : Int32) (x14 : Int32) (u : SY) : pqY_solve_309 post J43 x2 x3 x4 x5 x6 x7 x8 x9 x10 x11 x12 x13 x14 u = (((x7 = 5 → (wpY_node (fun r_984 u1 => (pqY_solve_326 post J43 x2 x3 x4 x5 x6 x7 x8 x9 x10 x11 x12 x13 r_984 u1)) u 4 x10 x13)) ∧ (¬ x7 = 5 → (pqY_solve_326 post J43 x2 x3 x4 x5 x6 x7 x8 x9 x10 x11 x12 x13 x14 u)))) := rfl
def pqY_solve_298 (post : Int32 → SY → Prop) (J43 : Int32 → Int32 → SY → Prop) (x2 : Int32) (x3 : Int32) (x4 : Int32) (x5 : Int32) (x6 : Int32) (x7 : Int32) (x8 : Int32) (x9 : Int32) (x10 : Int32) (x11 : Int32) (x12 : Int32) (x14 : Int32) (u : SY) : Prop := match u with
  | (f_maxWords, f_maxCells, f_maxLevels, f_maxFuel, f_count, f_depth, f_copyDepth, f_agenda, f_listSize, f_nodes, f_first, f_last, a_kinds, a_args, a_size, a_cellKind, a_cellVal, a_copyKind, a_copyVal, a_agKind, a_agVal, a_agLevel, a_list, a_pend, a_outer, a_begin, a_todo, a_nodeKind, a_left, a_right, a_cls, a_def, a_symbol, a_finite) => wY_solve_298 post (fun qx5 qx6 qf_maxWords qf_maxCells qf_maxLevels qf_maxFuel qf_count qf_depth qf_copyDepth qf_agenda qf_listSize qf_nodes qf_first qf_last qa_kinds qa_args qa_size qa_cellKind qa_cellVal qa_copyKind qa_copyVal qa_agKind qa_agVal qa_agLevel qa_list qa_pend qa_outer qa_begin qa_todo qa_nodeKind qa_left qa_right qa_cls qa_def qa_symbol qa_finite => J43 qx5 qx6 (qf_maxWords, qf_maxCells, qf_maxLevels, qf_maxFuel, qf_count, qf_depth, qf_copyDepth, qf_agenda, qf_listSize, qf_nodes, qf_first, qf_last, qa_kinds, qa_args, qa_size, qa_cellKind, qa_cellVal, qa_copyKind, qa_copyVal, qa_agKind, qa_agVal, qa_agLevel, qa_list, qa_pend, qa_outer, qa_begin, qa_todo, qa_nodeKind, qa_left, qa_right, qa_cls, qa_def, qa_symbol, qa_finite)) x2 x3 x4 x5 x6 x7 x8 x9 x10 x11 x12 x14 f_maxWords f_maxCells f_maxLevels f_maxFuel f_count f_depth f_copyDepth f_agenda f_listSize f_nodes f_first f_last a_kinds a_args a_size a_cellKind a_cellVal a_copyKind a_copyVal a_agKind a_agVal a_agLevel a_list a_pend a_outer a_begin a_todo a_nodeKind a_left a_right a_cls a_def a_symbol a_finite
theorem pqY_solve_298_e (post : Int32 → SY → Prop) (J43 : Int32 → Int32 → SY → Prop) (x2 : Int32) (x3 : Int32) (x4 : Int32) (x5 : Int32) (x6 : Int32) (x7 : Int32) (x8 : Int32) (x9 : Int32) (x10 : Int32) (x11 : Int32) (x12 : Int32) (x14 : Int32) (u : SY) : pqY_solve_298 post J43 x2 x3 x4 x5 x6 x7 x8 x9 x10 x11 x12 x14 u = (wpY_node (fun r_592 u1 => (pqY_solve_309 post J43 x2 x3 x4 x5 x6 x7 x8 x9 x10 x11 x12 r_592 x14 u1)) u 4 x10 x8) := rfl
def pqY_solve_271 (post : Int32 → SY → Prop) (J43 : Int32 → Int32 → SY → Prop) (x2 : Int32) (x3 : Int32) (x4 : Int32) (x5 : Int32) (x6 : Int32) (x7 : Int32) (x8 : Int32) (x9 : Int32) (x10 : Int32) (x11 : Int32) (x12 : Int32) (x13 : Int32) (x14 : Int32) (u : SY) : Prop := match u with
  | (f_maxWords, f_maxCells, f_maxLevels, f_maxFuel, f_count, f_depth, f_copyDepth, f_agenda, f_listSize, f_nodes, f_first, f_last, a_kinds, a_args, a_size, a_cellKind, a_cellVal, a_copyKind, a_copyVal, a_agKind, a_agVal, a_agLevel, a_list, a_pend, a_outer, a_begin, a_todo, a_nodeKind, a_left, a_right, a_cls, a_def, a_symbol, a_finite) => wY_solve_271 post (fun qx5 qx6 qf_maxWords qf_maxCells qf_maxLevels qf_maxFuel qf_count qf_depth qf_copyDepth qf_agenda qf_listSize qf_nodes qf_first qf_last qa_kinds qa_args qa_size qa_cellKind qa_cellVal qa_copyKind qa_copyVal qa_agKind qa_agVal qa_agLevel qa_list qa_pend qa_outer qa_begin qa_todo qa_nodeKind qa_left qa_right qa_cls qa_def qa_symbol qa_finite => J43 qx5 qx6 (qf_maxWords, qf_maxCells, qf_maxLevels, qf_maxFuel, qf_count, qf_depth, qf_copyDepth, qf_agenda, qf_listSize, qf_nodes, qf_first, qf_last, qa_kinds, qa_args, qa_size, qa_cellKind, qa_cellVal, qa_copyKind, qa_copyVal, qa_agKind, qa_agVal, qa_agLevel, qa_list, qa_pend, qa_outer, qa_begin, qa_todo, qa_nodeKind, qa_left, qa_right, qa_cls, qa_def, qa_symbol, qa_finite)) x2 x3 x4 x5 x6 x7 x8 x9 x10 x11 x12 x13 x14 f_maxWords f_maxCells f_maxLevels f_maxFuel f_count f_depth f_copyDepth f_agenda f_listSize f_nodes f_first f_last a_kinds a_args a_size a_cellKind a_cellVal a_copyKind a_copyVal a_agKind a_agVal a_agLevel a_list a_pend a_outer a_begin a_todo a_nodeKind a_left a_right a_cls a_def a_symbol a_finite
theorem pqY_solve_271_e (post : Int32 → SY → Prop) (J43 : Int32 → Int32 → SY → Prop) (x2 : Int32) (x3 : Int32) (x4 : Int32) (x5 : Int32) (x6 : Int32) (x7 : Int32) (x8 : Int32) (x9 : Int32) (x10 : Int32) (x11 : Int32) (x12 : Int32) (x13 : Int32) (x14 : Int32) (u : SY) : pqY_solve_271 post J43 x2 x3 x4 x5 x6 x7 x8 x9 x10 x11 x12 x13 x14 u = (((x7 = 5 → (pqY_solve_298 post J43 x2 x3 x4 x5 x6 x7 x8 x9 x10 x11 x12 x14 u)) ∧ (¬ x7 = 5 → (((x7 = 6 → (pqY_solve_298 post J43 x2 x3 x4 x5 x6 x7 x8 x9 x10 x11 x12 x14 u)) ∧ (¬ x7 = 6 → (((x7 = 7 → (pqY_solve_298 post J43 x2 x3 x4 x5 x6 x7 x8 x9 x10 x11 x12 x14 u)) ∧ (¬ x7 = 7 → (((x7 = 12 → (pqY_solve_298 post J43 x2 x3 x4 x5 x6 x7 x8 x9 x10 x11 x12 x14 u)) ∧ (¬ x7 = 12 → (pqY_solve_309 post J43 x2 x3 x4 x5 x6 x7 x8 x9 x10 x11 x12 x13 x14 u))))))))))))) := rfl
def pqY_solve_249 (post : Int32 → SY → Prop) (J43 : Int32 → Int32 → SY → Prop) (x2 : Int32) (x3 : Int32) (x4 : Int32) (x5 : Int32) (x6 : Int32) (x7 : Int32) (x8 : Int32) (x9 : Int32) (x10 : Int32) (x11 : Int32) (x12 : Int32) (u : SY) : Prop := match u with
  | (f_maxWords, f_maxCells, f_maxLevels, f_maxFuel, f_count, f_depth, f_copyDepth, f_agenda, f_listSize, f_nodes, f_first, f_last, a_kinds, a_args, a_size, a_cellKind, a_cellVal, a_copyKind, a_copyVal, a_agKind, a_agVal, a_agLevel, a_list, a_pend, a_outer, a_begin, a_todo, a_nodeKind, a_left, a_right, a_cls, a_def, a_symbol, a_finite) => wY_solve_249 post (fun qx5 qx6 qf_maxWords qf_maxCells qf_maxLevels qf_maxFuel qf_count qf_depth qf_copyDepth qf_agenda qf_listSize qf_nodes qf_first qf_last qa_kinds qa_args qa_size qa_cellKind qa_cellVal qa_copyKind qa_copyVal qa_agKind qa_agVal qa_agLevel qa_list qa_pend qa_outer qa_begin qa_todo qa_nodeKind qa_left qa_right qa_cls qa_def qa_symbol qa_finite => J43 qx5 qx6 (qf_maxWords, qf_maxCells, qf_maxLevels, qf_maxFuel, qf_count, qf_depth, qf_copyDepth, qf_agenda, qf_listSize, qf_nodes, qf_first, qf_last, qa_kinds, qa_args, qa_size, qa_cellKind, qa_cellVal, qa_copyKind, qa_copyVal, qa_agKind, qa_agVal, qa_agLevel, qa_list, qa_pend, qa_outer, qa_begin, qa_todo, qa_nodeKind, qa_left, qa_right, qa_cls, qa_def, qa_symbol, qa_finite)) x2 x3 x4 x5 x6 x7 x8 x9 x10 x11 x12 f_maxWords f_maxCells f_maxLevels f_maxFuel f_count f_depth f_copyDepth f_agenda f_listSize f_nodes f_first f_last a_kinds a_args a_size a_cellKind a_cellVal a_copyKind a_copyVal a_agKind a_agVal a_agLevel a_list a_pend a_outer a_begin a_todo a_nodeKind a_left a_right a_cls a_def a_symbol a_finite
theorem pqY_solve_249_e (post : Int32 → SY → Prop) (J43 : Int32 → Int32 → SY → Prop) (x2 : Int32) (x3 : Int32) (x4 : Int32) (x5 : Int32) (x6 : Int32) (x7 : Int32) (x8 : Int32) (x9 : Int32) (x10 : Int32) (x11 : Int32) (x12 : Int32) (u : SY) : pqY_solve_249 post J43 x2 x3 x4 x5 x6 x7 x8 x9 x10 x11 x12 u = (wpY_node (fun r_521 u1 => (wpY_node (fun r_556 u2 => (pqY_solve_271 post J43 x2 x3 x4 x5 x6 x7 x8 x9 x10 x11 x12 r_556 r_521 u2)) u1 4 x4 r_521)) u 4 x4 x8) := rfl
def pqY_solve_228 (post : Int32 → SY → Prop) (J43 : Int32 → Int32 → SY → Prop) (x2 : Int32) (x3 : Int32) (x4 : Int32) (x5 : Int32) (x6 : Int32) (x7 : Int32) (x8 : Int32) (x9 : Int32) (x10 : Int32) (x11 : Int32) (x12 : Int32) (x13 : Int32) (x14 : Int32) (u : SY) : Prop := match u with
  | (f_maxWords, f_maxCells, f_maxLevels, f_maxFuel, f_count, f_depth, f_copyDepth, f_agenda, f_listSize, f_nodes, f_first, f_last, a_kinds, a_args, a_size, a_cellKind, a_cellVal, a_copyKind, a_copyVal, a_agKind, a_agVal, a_agLevel, a_list, a_pend, a_outer, a_begin, a_todo, a_nodeKind, a_left, a_right, a_cls, a_def, a_symbol, a_finite) => wY_solve_228 post (fun qx5 qx6 qf_maxWords qf_maxCells qf_maxLevels qf_maxFuel qf_count qf_depth qf_copyDepth qf_agenda qf_listSize qf_nodes qf_first qf_last qa_kinds qa_args qa_size qa_cellKind qa_cellVal qa_copyKind qa_copyVal qa_agKind qa_agVal qa_agLevel qa_list qa_pend qa_outer qa_begin qa_todo qa_nodeKind qa_left qa_right qa_cls qa_def qa_symbol qa_finite => J43 qx5 qx6 (qf_maxWords, qf_maxCells, qf_maxLevels, qf_maxFuel, qf_count, qf_depth, qf_copyDepth, qf_agenda, qf_listSize, qf_nodes, qf_first, qf_last, qa_kinds, qa_args, qa_size, qa_cellKind, qa_cellVal, qa_copyKind, qa_copyVal, qa_agKind, qa_agVal, qa_agLevel, qa_list, qa_pend, qa_outer, qa_begin, qa_todo, qa_nodeKind, qa_left, qa_right, qa_cls, qa_def, qa_symbol, qa_finite)) x2 x3 x4 x5 x6 x7 x8 x9 x10 x11 x12 x13 x14 f_maxWords f_maxCells f_maxLevels f_maxFuel f_count f_depth f_copyDepth f_agenda f_listSize f_nodes f_first f_last a_kinds a_args a_size a_cellKind a_cellVal a_copyKind a_copyVal a_agKind a_agVal a_agLevel a_list a_pend a_outer a_begin a_todo a_nodeKind a_left a_right a_cls a_def a_symbol a_finite
theorem pqY_solve_228_e (post : Int32 → SY → Prop) (J43 : Int32 → Int32 → SY → Prop) (x2 : Int32) (x3 : Int32) (x4 : Int32) (x5 : Int32) (x6 : Int32) (x7 : Int32) (x8 : Int32) (x9 : Int32) (x10 : Int32) (x11 : Int32) (x12 : Int32) (x13 : Int32) (x14 : Int32) (u : SY) : pqY_solve_228 post J43 x2 x3 x4 x5 x6 x7 x8 x9 x10 x11 x12 x13 x14 u = (((x7 = 8 → (pqY_solve_249 post J43 x2 x3 x4 x5 x6 x7 x8 x9 x10 x11 x12 u)) ∧ (¬ x7 = 8 → (((x7 = 9 → (pqY_solve_249 post J43 x2 x3 x4 x5 x6 x7 x8 x9 x10 x11 x12 u)) ∧ (¬ x7 = 9 → (((x7 = 10 → (pqY_solve_249 post J43 x2 x3 x4 x5 x6 x7 x8 x9 x10 x11 x12 u)) ∧ (¬ x7 = 10 → (pqY_solve_271 post J43 x2 x3 x4 x5 x6 x7 x8 x9 x10 x11 x12 x13 x14 u)))))))))) := rfl
def pqY_solve_211 (post : Int32 → SY → Prop) (J43 : Int32 → Int32 → SY → Prop) (x2 : Int32) (x3 : Int32) (x4 : Int32) (x5 : Int32) (x6 : Int32) (x7 : Int32) (x8 : Int32) (x9 : Int32) (x10 : Int32) (x11 : Int32) (x12 : Int32) (x13 : Int32) (x14 : Int32) (u : SY) : Prop := match u with
  | (f_maxWords, f_maxCells, f_maxLevels, f_maxFuel, f_count, f_depth, f_copyDepth, f_agenda, f_listSize, f_nodes, f_first, f_last, a_kinds, a_args, a_size, a_cellKind, a_cellVal, a_copyKind, a_copyVal, a_agKind, a_agVal, a_agLevel, a_list, a_pend, a_outer, a_begin, a_todo, a_nodeKind, a_left, a_right, a_cls, a_def, a_symbol, a_finite) => wY_solve_211 post (fun qx5 qx6 qf_maxWords qf_maxCells qf_maxLevels qf_maxFuel qf_count qf_depth qf_copyDepth qf_agenda qf_listSize qf_nodes qf_first qf_last qa_kinds qa_args qa_size qa_cellKind qa_cellVal qa_copyKind qa_copyVal qa_agKind qa_agVal qa_agLevel qa_list qa_pend qa_outer qa_begin qa_todo qa_nodeKind qa_left qa_right qa_cls qa_def qa_symbol qa_finite => J43 qx5 qx6 (qf_maxWords, qf_maxCells, qf_maxLevels, qf_maxFuel, qf_count, qf_depth, qf_copyDepth, qf_agenda, qf_listSize, qf_nodes, qf_first, qf_last, qa_kinds, qa_args, qa_size, qa_cellKind, qa_cellVal, qa_copyKind, qa_copyVal, qa_agKind, qa_agVal, qa_agLevel, qa_list, qa_pend, qa_outer, qa_begin, qa_todo, qa_nodeKind, qa_left, qa_right, qa_cls, qa_def, qa_symbol, qa_finite)) x2 x3 x4 x5 x6 x7 x8 x9 x10 x11 x12 x13 x14 f_maxWords f_maxCells f_maxLevels f_maxFuel f_count f_depth f_copyDepth f_agenda f_listSize f_nodes f_first f_last a_kinds a_args a_size a_cellKind a_cellVal a_copyKind a_copyVal a_agKind a_agVal a_agLevel a_list a_pend a_outer a_begin a_todo a_nodeKind a_left a_right a_cls a_def a_symbol a_finite
theorem pqY_solve_211_e (post : Int32 → SY → Prop) (J43 : Int32 → Int32 → SY → Prop) (x2 : Int32) (x3 : Int32) (x4 : Int32) (x5 : Int32) (x6 : Int32) (x7 : Int32) (x8 : Int32) (x9 : Int32) (x10 : Int32) (x11 : Int32) (x12 : Int32) (x13 : Int32) (x14 : Int32) (u : SY) : pqY_solve_211 post J43 x2 x3 x4 x5 x6 x7 x8 x9 x10 x11 x12 x13 x14 u = (((x7 = 1 → (wpY_node (fun r_1024 u1 => (pqY_solve_228 post J43 x2 x3 x4 x5 x6 x7 x8 x9 x10 x11 x12 x13 r_1024 u1)) u 4 x4 x8)) ∧ (¬ x7 = 1 → (pqY_solve_228 post J43 x2 x3 x4 x5 x6 x7 x8 x9 x10 x11 x12 x13 x14 u)))) := rfl
def pqY_solve_157 (post : Int32 → SY → Prop) (J43 : Int32 → Int32 → SY → Prop) (x2 : Int32) (x3 : Int32) (x4 : Int32) (x5 : Int32) (x6 : Int32) (x7 : Int32) (x8 : Int32) (x9 : Int32) (x10 : Int32) (x11 : Int32) (x12 : Int32) (x13 : Int32) (x14 : Int32) (u : SY) : Prop := match u with
  | (f_maxWords, f_maxCells, f_maxLevels, f_maxFuel, f_count, f_depth, f_copyDepth, f_agenda, f_listSize, f_nodes, f_first, f_last, a_kinds, a_args, a_size, a_cellKind, a_cellVal, a_copyKind, a_copyVal, a_agKind, a_agVal, a_agLevel, a_list, a_pend, a_outer, a_begin, a_todo, a_nodeKind, a_left, a_right, a_cls, a_def, a_symbol, a_finite) => wY_solve_157 post (fun qx5 qx6 qf_maxWords qf_maxCells qf_maxLevels qf_maxFuel qf_count qf_depth qf_copyDepth qf_agenda qf_listSize qf_nodes qf_first qf_last qa_kinds qa_args qa_size qa_cellKind qa_cellVal qa_copyKind qa_copyVal qa_agKind qa_agVal qa_agLevel qa_list qa_pend qa_outer qa_begin qa_todo qa_nodeKind qa_left qa_right qa_cls qa_def qa_symbol qa_finite => J43 qx5 qx6 (qf_maxWords, qf_maxCells, qf_maxLevels, qf_maxFuel, qf_count, qf_depth, qf_copyDepth, qf_agenda, qf_listSize, qf_nodes, qf_first, qf_last, qa_kinds, qa_args, qa_size, qa_cellKind, qa_cellVal, qa_copyKind, qa_copyVal, qa_agKind, qa_agVal, qa_agLevel, qa_list, qa_pend, qa_outer, qa_begin, qa_todo, qa_nodeKind, qa_left, qa_right, qa_cls, qa_def, qa_symbol, qa_finite)) x2 x3 x4 x5 x6 x7 x8 x9 x10 x11 x12 x13 x14 f_maxWords f_maxCells f_maxLevels f_maxFuel f_count f_depth f_copyDepth f_agenda f_listSize f_nodes f_first f_last a_kinds a_args a_size a_cellKind a_cellVal a_copyKind a_copyVal a_agKind a_agVal a_agLevel a_list a_pend a_outer a_begin a_todo a_nodeKind a_left a_right a_cls a_def a_symbol a_finite
theorem pqY_solve_157_e (post : Int32 → SY → Prop) (J43 : Int32 → Int32 → SY → Prop) (x2 : Int32) (x3 : Int32) (x4 : Int32) (x5 : Int32) (x6 : Int32) (x7 : Int32) (x8 : Int32) (x9 : Int32) (x10 : Int32) (x11 : Int32) (x12 : Int32) (x13 : Int32) (x14 : Int32) (u : SY) : pqY_solve_157 post J43 x2 x3 x4 x5 x6 x7 x8 x9 x10 x11 x12 x13 x14 u = (((x7 = 4 → (((x5 ≤ 0 → (pqY_solve_211 post J43 x2 x3 x4 x5 x6 x7 x8 x9 x10 x11 x12 x13 x14 u)) ∧ (¬ x5 ≤ 0 → (∀ x5_1060 : Int32 , x5_1060 = x5 + (- 1) → (vp_in x5_1060 32 ∧ (wpY_node (fun r_1062 u1 => (vp_in x5_1060 32 ∧ (wpY_node (fun r_1098 u2 => (pqY_solve_211 post J43 x2 x3 x4 x5_1060 x6 x7 x8 x9 x10 x11 r_1062 (yq_last u) r_1098 u2)) u1 4 r_1062 ((yq_outer u1) x5_1060.toNatClampNeg)))) u 2 ((yq_begin u) x5_1060.toNatClampNeg) (yq_last u)))))))) ∧ (¬ x7 = 4 → (pqY_solve_211 post J43 x2 x3 x4 x5 x6 x7 x8 x9 x10 x11 x12 x13 x14 u)))) := rfl
def lqY_solve_43 (post : Int32 → SY → Prop) (x2 : Int32) (x3 : Int32) (x4 : Int32) (n : Nat) (x5 : Int32) (x6 : Int32) (u : SY) : Prop := match u with
  | (f_maxWords, f_maxCells, f_maxLevels, f_maxFuel, f_count, f_depth, f_copyDepth, f_agenda, f_listSize, f_nodes, f_first, f_last, a_kinds, a_args, a_size, a_cellKind, a_cellVal, a_copyKind, a_copyVal, a_agKind, a_agVal, a_agLevel, a_list, a_pend, a_outer, a_begin, a_todo, a_nodeKind, a_left, a_right, a_cls, a_def, a_symbol, a_finite) => wY_solve_43 post x2 x3 x4 n x5 x6 f_maxWords f_maxCells f_maxLevels f_maxFuel f_count f_depth f_copyDepth f_agenda f_listSize f_nodes f_first f_last a_kinds a_args a_size a_cellKind a_cellVal a_copyKind a_copyVal a_agKind a_agVal a_agLevel a_list a_pend a_outer a_begin a_todo a_nodeKind a_left a_right a_cls a_def a_symbol a_finite
theorem lqY_solve_43_s (post : Int32 → SY → Prop) (x2 : Int32) (x3 : Int32) (x4 : Int32) (n : Nat) (x5 : Int32) (x6 : Int32) (u : SY) : lqY_solve_43 post x2 x3 x4 (n + 1) x5 x6 u = ((((yq_listSize u) ≤ x6 → (∃ n490 : Nat , lqY_solve_490 post x3 n490 x2 0 u)) ∧ (¬ (yq_listSize u) ≤ x6 → (vp_in x6 600 ∧ (∀ x7_341 : Int32 , x7_341 = (yq_list u) x6.toNatClampNeg → (wpY_node (fun r_342 u1 => (wpY_node (fun r_377 u2 => (wpY_node (fun r_412 u3 => (wpY_node (fun r_447 u4 => (wpY_node (fun r_482 u5 => (((x7_341 = 3 → (vp_in x5 32 ∧ ∀ a_outer_1134 : Nat → Int32 , a_outer_1134 = upd (yq_outer u5) x5.toNatClampNeg (yq_last u5) → (∀ x5_1135 : Int32 , x5_1135 = x5 + 1 → (vp_in x5 32 ∧ ∀ a_begin_1137 : Nat → Int32 , a_begin_1137 = upd (yq_begin u5) x5.toNatClampNeg r_342 → (pqY_solve_157 post (lqY_solve_43 post x2 x3 x4 n) x2 x3 x4 x5_1135 x6 x7_341 r_342 r_377 r_412 r_447 r_482 (yq_last u5) r_342 (ys_outer_begin u5 a_outer_1134 a_begin_1137)))))) ∧ (¬ x7_341 = 3 → (pqY_solve_157 post (lqY_solve_43 post x2 x3 x4 n) x2 x3 x4 x5 x6 x7_341 r_342 r_377 r_412 r_447 r_482 r_342 r_377 u5))))) u4 2 r_342 r_377)) u3 3 0 0)) u2 3 0 0)) u1 6 0 0)) u 6 0 0)))))) := rfl
theorem we_Y_solve (post : Int32 → SY → Prop) (u : SY) (p0 : Int32) : wpY_solve post u p0 = (wpY_node (fun r_1 u1 => (wpY_node (fun r_36 u2 => (∃ n43 : Nat , lqY_solve_43 post 1 0 r_36 n43 0 0 u2)) (ys_first_last u1 r_1 r_1) 1 0 0)) (ys_nodes u 0) p0 0 0) := rfl
end
end
section
/-! printed by gen/parts.py: clean equations -/
section
def lqY_balance_5 (post : Int32 → Prop) (x2 : Int32) (n : Nat) (x3 : Int32) (x4 : Int32) (u : SY) : Prop := match u with
  | (f_maxWords, f_maxCells, f_maxLevels, f_maxFuel, f_count, f_depth, f_copyDepth, f_agenda, f_listSize, f_nodes, f_first, f_last, a_kinds, a_args, a_size, a_cellKind, a_cellVal, a_copyKind, a_copyVal, a_agKind, a_agVal, a_agLevel, a_list, a_pend, a_outer, a_begin, a_todo, a_nodeKind, a_left, a_right, a_cls, a_def, a_symbol, a_finite) => wY_balance_5 post x2 f_maxWords f_maxCells f_maxLevels f_maxFuel f_count f_depth f_copyDepth f_agenda f_listSize f_nodes f_first f_last a_kinds a_args a_size a_cellKind a_cellVal a_copyKind a_copyVal a_agKind a_agVal a_agLevel a_list a_pend a_outer a_begin a_todo a_nodeKind a_left a_right a_cls a_def a_symbol a_finite n x3 x4
theorem lqY_balance_5_s (post : Int32 → Prop) (x2 : Int32) (n : Nat) (x3 : Int32) (x4 : Int32) (u : SY) : lqY_balance_5 post x2 (n + 1) x3 x4 u = (((x2 ≤ x4 → (post x3)) ∧ (¬ x2 ≤ x4 → (vp_in x4 256 ∧ (((((yq_kinds u) x4.toNatClampNeg) = 3 → (∀ x3_10 : Int32 , x3_10 = x3 + 1 → (∀ x4_11 : Int32 , x4_11 = x4 + 1 → (lqY_balance_5 post x2 n x3_10 x4_11 u)))) ∧ (¬ ((yq_kinds u) x4.toNatClampNeg) = 3 → (vp_in x4 256 ∧ (((((yq_kinds u) x4.toNatClampNeg) = 4 → (∀ x3_8 : Int32 , x3_8 = x3 + (- 1) → (∀ x4_9 : Int32 , x4_9 = x4 + 1 → (lqY_balance_5 post x2 n x3_8 x4_9 u)))) ∧ (¬ ((yq_kinds u) x4.toNatClampNeg) = 4 → (∀ x3_6 : Int32 , x3_6 = x3 + 0 → (∀ x4_7 : Int32 , x4_7 = x4 + 1 → (lqY_balance_5 post x2 n x3_6 x4_7 u)))))))))))))) := rfl
theorem we_Y_balance (post : Int32 → Prop) (u : SY) (p0 : Int32) (p1 : Int32) : wpY_balance post u p0 p1 = (∃ n5 : Nat , lqY_balance_5 post p1 n5 0 p0 u) := rfl
def lqY_after_4 (post : Int32 → Prop) (x1 : Int32) (n : Nat) (x2 : Int32) (u : SY) : Prop := match u with
  | (f_maxWords, f_maxCells, f_maxLevels, f_maxFuel, f_count, f_depth, f_copyDepth, f_agenda, f_listSize, f_nodes, f_first, f_last, a_kinds, a_args, a_size, a_cellKind, a_cellVal, a_copyKind, a_copyVal, a_agKind, a_agVal, a_agLevel, a_list, a_pend, a_outer, a_begin, a_todo, a_nodeKind, a_left, a_right, a_cls, a_def, a_symbol, a_finite) => wY_after_4 post x1 f_maxWords f_maxCells f_maxLevels f_maxFuel f_count f_depth f_copyDepth f_agenda f_listSize f_nodes f_first f_last a_kinds a_args a_size a_cellKind a_cellVal a_copyKind a_copyVal a_agKind a_agVal a_agLevel a_list a_pend a_outer a_begin a_todo a_nodeKind a_left a_right a_cls a_def a_symbol a_finite n x2
theorem lqY_after_4_s (post : Int32 → Prop) (x1 : Int32) (n : Nat) (x2 : Int32) (u : SY) : lqY_after_4 post x1 (n + 1) x2 u = (((256 ≤ x2 → (post 256)) ∧ (¬ 256 ≤ x2 → (wpY_balance (fun r_3 => (((r_3 = 0 → (post x2)) ∧ (¬ r_3 = 0 → (∀ x2_39 : Int32 , x2_39 = x2 + 1 → (lqY_after_4 post x1 n x2_39 u)))))) u x1 x2)))) := rfl
theorem we_Y_after (post : Int32 → Prop) (u : SY) (p0 : Int32) : wpY_after post u p0 = (∀ x2_1 : Int32 , x2_1 = p0 + 1 → (∃ n4 : Nat , lqY_after_4 post p0 n4 x2_1 u)) := rfl
def lqY_unfold_118 (post : Int32 → SY → Prop) (J36 : Int32 → Int32 → Int32 → SY → Prop) (x4 : Int32) (x5 : Int32) (x7 : Int32) (n : Nat) (x3 : Int32) (x8 : Int32) (u : SY) : Prop := match u with
  | (f_maxWords, f_maxCells, f_maxLevels, f_maxFuel, f_count, f_depth, f_copyDepth, f_agenda, f_listSize, f_nodes, f_first, f_last, a_kinds, a_args, a_size, a_cellKind, a_cellVal, a_copyKind, a_copyVal, a_agKind, a_agVal, a_agLevel, a_list, a_pend, a_outer, a_begin, a_todo, a_nodeKind, a_left, a_right, a_cls, a_def, a_symbol, a_finite) => wY_unfold_118 post (fun qx3 qx4 qx5 qf_listSize qa_kinds qa_args qa_size qa_cellKind qa_cellVal qa_copyKind qa_copyVal qa_agKind qa_agVal qa_agLevel qa_list qa_pend qa_outer qa_begin qa_todo qa_nodeKind qa_left qa_right qa_cls qa_def qa_symbol qa_finite => J36 qx3 qx4 qx5 (f_maxWords, f_maxCells, f_maxLevels, f_maxFuel, f_count, f_depth, f_copyDepth, f_agenda, qf_listSize, f_nodes, f_first, f_last, qa_kinds, qa_args, qa_size, qa_cellKind, qa_cellVal, qa_copyKind, qa_copyVal, qa_agKind, qa_agVal, qa_agLevel, qa_list, qa_pend, qa_outer, qa_begin, qa_todo, qa_nodeKind, qa_left, qa_right, qa_cls, qa_def, qa_symbol, qa_finite)) x4 x5 x7 f_maxWords f_maxCells f_maxLevels f_maxFuel f_count f_depth f_copyDepth f_agenda f_listSize f_nodes f_first f_last n x3 x8 a_kinds a_args a_size a_cellKind a_cellVal a_copyKind a_copyVal a_agKind a_agVal a_agLevel a_list a_pend a_outer a_begin a_todo a_nodeKind a_left a_right a_cls a_def a_symbol a_finite
theorem lqY_unfold_118_s (post : Int32 → SY → Prop) (J36 : Int32 → Int32 → Int32 → SY → Prop) (x4 : Int32) (x5 : Int32) (x7 : Int32) (n : Nat) (x3 : Int32) (x8 : Int32) (u : SY) : lqY_unfold_118 post J36 x4 x5 x7 (n + 1) x3 x8 u = (((x8 < 0 → (∀ x5_16 : Int32 , x5_16 = x5 + 1 → (J36 x3 x4 x5_16 u))) ∧ (¬ x8 < 0 → (∀ x3_17 : Int32 , x3_17 = x3 + 1 → (vp_in x3 64 ∧ ∀ a_pend_19 : Nat → Int32 , a_pend_19 = upd (yq_pend u) x3.toNatClampNeg ((32 * x7) + x8) → (∀ x8_20 : Int32 , x8_20 = x8 + (- 1) → (lqY_unfold_118 post J36 x4 x5 x7 n x3_17 x8_20 (ys_pend u a_pend_19)))))))) := rfl
def lqY_unfold_36 (post : Int32 → SY → Prop) (n : Nat) (x3 : Int32) (x4 : Int32) (x5 : Int32) (u : SY) : Prop := match u with
  | (f_maxWords, f_maxCells, f_maxLevels, f_maxFuel, f_count, f_depth, f_copyDepth, f_agenda, f_listSize, f_nodes, f_first, f_last, a_kinds, a_args, a_size, a_cellKind, a_cellVal, a_copyKind, a_copyVal, a_agKind, a_agVal, a_agLevel, a_list, a_pend, a_outer, a_begin, a_todo, a_nodeKind, a_left, a_right, a_cls, a_def, a_symbol, a_finite) => wY_unfold_36 post f_maxWords f_maxCells f_maxLevels f_maxFuel f_count f_depth f_copyDepth f_agenda f_nodes f_first f_last n x3 x4 x5 f_listSize a_kinds a_args a_size a_cellKind a_cellVal a_copyKind a_copyVal a_agKind a_agVal a_agLevel a_list a_pend a_outer a_begin a_todo a_nodeKind a_left a_right a_cls a_def a_symbol a_finite
theorem lqY_unfold_36_s (post : Int32 → SY → Prop) (n : Nat) (x3 : Int32) (x4 : Int32) (x5 : Int32) (u : SY) : lqY_unfold_36 post (n + 1) x3 x4 x5 u = (((64 ≤ x5 → (post x4 u)) ∧ (¬ 64 ≤ x5 → (((x3 ≤ 0 → (post x4 u)) ∧ (¬ x3 ≤ 0 → (∀ x3_5 : Int32 , x3_5 = x3 + (- 1) → (vp_in x3_5 64 ∧ (∀ x6_7 : Int32 , x6_7 = (yq_pend u) x3_5.toNatClampNeg → (vp_in x6_7 256 ∧ (∀ x7_9 : Int32 , x7_9 = (yq_args u) x6_7.toNatClampNeg → (∀ x4_10 : Int32 , x4_10 = x4 + 1 → (vp_in x6_7 256 ∧ (((((yq_kinds u) x6_7.toNatClampNeg) = 2 → (vp_in x7_9 8 ∧ (∀ x8_14 : Int32 , x8_14 = ((yq_size u) x7_9.toNatClampNeg) - 1 → (∃ n118 : Nat , lqY_unfold_118 post (lqY_unfold_36 post n) x4_10 x5 x7_9 n118 x3_5 x8_14 u)))) ∧ (¬ ((yq_kinds u) x6_7.toNatClampNeg) = 2 → (∀ f_listSize_21 : Int32 , f_listSize_21 = (yq_listSize u) + 1 → (vp_in x6_7 256 ∧ (vp_in (yq_listSize u) 600 ∧ ∀ a_list_24 : Nat → Int32 , a_list_24 = upd (yq_list u) (yq_listSize u).toNatClampNeg ((yq_kinds u) x6_7.toNatClampNeg) → (∀ x5_25 : Int32 , x5_25 = x5 + 1 → (lqY_unfold_36 post n x3_5 x4_10 x5_25 (ys_listSize_list u f_listSize_21 a_list_24)))))))))))))))))))))) := rfl
def lqY_unfold_10 (post : Int32 → SY → Prop) (x1 : Int32) (x4 : Int32) (n : Nat) (x3 : Int32) (x5 : Int32) (u : SY) : Prop := match u with
  | (f_maxWords, f_maxCells, f_maxLevels, f_maxFuel, f_count, f_depth, f_copyDepth, f_agenda, f_listSize, f_nodes, f_first, f_last, a_kinds, a_args, a_size, a_cellKind, a_cellVal, a_copyKind, a_copyVal, a_agKind, a_agVal, a_agLevel, a_list, a_pend, a_outer, a_begin, a_todo, a_nodeKind, a_left, a_right, a_cls, a_def, a_symbol, a_finite) => wY_unfold_10 post x1 x4 f_maxWords f_maxCells f_maxLevels f_maxFuel f_count f_depth f_copyDepth f_agenda f_listSize f_nodes f_first f_last n x3 x5 a_kinds a_args a_size a_cellKind a_cellVal a_copyKind a_copyVal a_agKind a_agVal a_agLevel a_list a_pend a_outer a_begin a_todo a_nodeKind a_left a_right a_cls a_def a_symbol a_finite
theorem lqY_unfold_10_s (post : Int32 → SY → Prop) (x1 : Int32) (x4 : Int32) (n : Nat) (x3 : Int32) (x5 : Int32) (u : SY) : lqY_unfold_10 post x1 x4 (n + 1) x3 x5 u = (((x5 < x1 → (∃ n36 : Nat , lqY_unfold_36 post n36 x3 x4 0 u)) ∧ (¬ x5 < x1 → (∀ x3_26 : Int32 , x3_26 = x3 + 1 → (vp_in x3 64 ∧ ∀ a_pend_28 : Nat → Int32 , a_pend_28 = upd (yq_pend u) x3.toNatClampNeg x5 → (∀ x5_29 : Int32 , x5_29 = x5 + (- 1) → (lqY_unfold_10 post x1 x4 n x3_26 x5_29 (ys_pend u a_pend_28)))))))) := rfl
theorem we_Y_unfold (post : Int32 → SY → Prop) (u : SY) (p0 : Int32) (p1 : Int32) : wpY_unfold post u p0 p1 = (∀ x5_1 : Int32 , x5_1 = p1 - 1 → (∃ n10 : Nat , lqY_unfold_10 post p0 0 n10 0 x5_1 u)) := rfl
def pqY_token_161 (post : Int32 → SY → Prop) (z0 : Int32) (z1 : Int32) (u : SY) : Prop := match u with
  | (f_maxWords, f_maxCells, f_maxLevels, f_maxFuel, f_count, f_depth, f_copyDepth, f_agenda, f_listSize, f_nodes, f_first, f_last, a_kinds, a_args, a_size, a_cellKind, a_cellVal, a_copyKind, a_copyVal, a_agKind, a_agVal, a_agLevel, a_list, a_pend, a_outer, a_begin, a_todo, a_nodeKind, a_left, a_right, a_cls, a_def, a_symbol, a_finite) => wY_token_161 post z0 z1 f_maxWords f_maxCells f_maxLevels f_maxFuel f_count f_depth f_copyDepth f_agenda f_listSize f_nodes f_first f_last a_kinds a_args a_size a_cellKind a_cellVal a_copyKind a_copyVal a_agKind a_agVal a_agLevel a_list a_pend a_outer a_begin a_todo a_nodeKind a_left a_right a_cls a_def a_symbol a_finite
theorem pqY_token_161_e (post : Int32 → SY → Prop) (z0 : Int32) (z1 : Int32) (u : SY) : pqY_token_161 post z0 z1 u = (vp_in z1 256 ∧ ∀ a_args_49 : Nat → Int32 , a_args_49 = upd (yq_args u) z1.toNatClampNeg z0 → (vp_in (yq_count u) 8 ∧ (vp_in (yq_count u) 8 ∧ ∀ a_size_52 : Nat → Int32 , a_size_52 = upd (yq_size u) (yq_count u).toNatClampNeg (((yq_size u) (yq_count u).toNatClampNeg) + 1) → (post (((yq_size u) (yq_count u).toNatClampNeg) + 1) (ys_args_size u a_args_49 a_size_52))))) := rfl
def pqY_token_156 (post : Int32 → SY → Prop) (x2 : Int32) (z0 : Int32) (u : SY) : Prop := match u with
  | (f_maxWords, f_maxCells, f_maxLevels, f_maxFuel, f_count, f_depth, f_copyDepth, f_agenda, f_listSize, f_nodes, f_first, f_last, a_kinds, a_args, a_size, a_cellKind, a_cellVal, a_copyKind, a_copyVal, a_agKind, a_agVal, a_agLevel, a_list, a_pend, a_outer, a_begin, a_todo, a_nodeKind, a_left, a_right, a_cls, a_def, a_symbol, a_finite) => wY_token_156 post x2 z0 f_maxWords f_maxCells f_maxLevels f_maxFuel f_count f_depth f_copyDepth f_agenda f_listSize f_nodes f_first f_last a_kinds a_args a_size a_cellKind a_cellVal a_copyKind a_copyVal a_agKind a_agVal a_agLevel a_list a_pend a_outer a_begin a_todo a_nodeKind a_left a_right a_cls a_def a_symbol a_finite
theorem pqY_token_156_e (post : Int32 → SY → Prop) (x2 : Int32) (z0 : Int32) (u : SY) : pqY_token_156 post x2 z0 u = (pqY_token_161 post x2 z0 u) := rfl
def pqY_token_107 (post : Int32 → SY → Prop) (x1 : Int32) (x2 : Int32) (x3 : Int32) (x4 : Int32) (u : SY) : Prop := match u with
  | (f_maxWords, f_maxCells, f_maxLevels, f_maxFuel, f_count, f_depth, f_copyDepth, f_agenda, f_listSize, f_nodes, f_first, f_last, a_kinds, a_args, a_size, a_cellKind, a_cellVal, a_copyKind, a_copyVal, a_agKind, a_agVal, a_agLevel, a_list, a_pend, a_outer, a_begin, a_todo, a_nodeKind, a_left, a_right, a_cls, a_def, a_symbol, a_finite) => wY_token_107 post x1 x2 x3 x4 f_maxWords f_maxCells f_maxLevels f_maxFuel f_count f_depth f_copyDepth f_agenda f_listSize f_nodes f_first f_last a_kinds a_args a_size a_cellKind a_cellVal a_copyKind a_copyVal a_agKind a_agVal a_agLevel a_list a_pend a_outer a_begin a_todo a_nodeKind a_left a_right a_cls a_def a_symbol a_finite
theorem pqY_token_107_e (post : Int32 → SY → Prop) (x1 : Int32) (x2 : Int32) (x3 : Int32) (x4 : Int32) (u : SY) : pqY_token_107 post x1 x2 x3 x4 u = (wpY_unfold (fun r_8 u1 => (∀ x4_43 : Int32 , x4_43 = x4 + r_8 → (((x4_43 ≤ 32 → (vp_in x3 256 ∧ ∀ a_kinds_46 : Nat → Int32 , a_kinds_46 = upd (yq_kinds u1) x3.toNatClampNeg x1 → (((x1 = 1 → (pqY_token_156 post x2 x3 (ys_kinds u1 a_kinds_46))) ∧ (¬ x1 = 1 → (((x1 = 2 → (pqY_token_156 post x2 x3 (ys_kinds u1 a_kinds_46))) ∧ (¬ x1 = 2 → (pqY_token_161 post 0 x3 (ys_kinds u1 a_kinds_46)))))))))) ∧ (¬ x4_43 ≤ 32 → (post (- 2) u1)))))) u (32 * (yq_count u)) x3) := rfl
def pqY_token_73 (post : Int32 → SY → Prop) (x1 : Int32) (x2 : Int32) (x3 : Int32) (x4 : Int32) (u : SY) : Prop := match u with
  | (f_maxWords, f_maxCells, f_maxLevels, f_maxFuel, f_count, f_depth, f_copyDepth, f_agenda, f_listSize, f_nodes, f_first, f_last, a_kinds, a_args, a_size, a_cellKind, a_cellVal, a_copyKind, a_copyVal, a_agKind, a_agVal, a_agLevel, a_list, a_pend, a_outer, a_begin, a_todo, a_nodeKind, a_left, a_right, a_cls, a_def, a_symbol, a_finite) => wY_token_73 post x1 x2 x3 x4 f_maxWords f_maxCells f_maxLevels f_maxFuel f_count f_depth f_copyDepth f_agenda f_listSize f_nodes f_first f_last a_kinds a_args a_size a_cellKind a_cellVal a_copyKind a_copyVal a_agKind a_agVal a_agLevel a_list a_pend a_outer a_begin a_todo a_nodeKind a_left a_right a_cls a_def a_symbol a_finite
theorem pqY_token_73_e (post : Int32 → SY → Prop) (x1 : Int32) (x2 : Int32) (x3 : Int32) (x4 : Int32) (u : SY) : pqY_token_73 post x1 x2 x3 x4 u = (((x1 = 2 → (vp_in x2 8 ∧ (wpY_unfold (fun r_55 u1 => (∀ x4_90 : Int32 , x4_90 = x4 + r_55 → (pqY_token_107 post x1 x2 x3 x4_90 u1))) (ys_listSize u 0) (32 * x2) ((32 * x2) + ((yq_size u) x2.toNatClampNeg))))) ∧ (¬ x1 = 2 → (pqY_token_107 post x1 x2 x3 x4 (ys_listSize u 0))))) := rfl
def pqY_token_51 (post : Int32 → SY → Prop) (x1 : Int32) (x2 : Int32) (x3 : Int32) (x4 : Int32) (u : SY) : Prop := match u with
  | (f_maxWords, f_maxCells, f_maxLevels, f_maxFuel, f_count, f_depth, f_copyDepth, f_agenda, f_listSize, f_nodes, f_first, f_last, a_kinds, a_args, a_size, a_cellKind, a_cellVal, a_copyKind, a_copyVal, a_agKind, a_agVal, a_agLevel, a_list, a_pend, a_outer, a_begin, a_todo, a_nodeKind, a_left, a_right, a_cls, a_def, a_symbol, a_finite) => wY_token_51 post x1 x2 x3 x4 f_maxWords f_maxCells f_maxLevels f_maxFuel f_count f_depth f_copyDepth f_agenda f_listSize f_nodes f_first f_last a_kinds a_args a_size a_cellKind a_cellVal a_copyKind a_copyVal a_agKind a_agVal a_agLevel a_list a_pend a_outer a_begin a_todo a_nodeKind a_left a_right a_cls a_def a_symbol a_finite
theorem pqY_token_51_e (post : Int32 → SY → Prop) (x1 : Int32) (x2 : Int32) (x3 : Int32) (x4 : Int32) (u : SY) : pqY_token_51 post x1 x2 x3 x4 u = (((x1 = 4 → (wpY_balance (fun r_91 => (((r_91 = 0 → (post (- 1) u)) ∧ (¬ r_91 = 0 → (pqY_token_73 post x1 x2 x3 x4 u))))) u (32 * (yq_count u)) x3)) ∧ (¬ x1 = 4 → (pqY_token_73 post x1 x2 x3 x4 u)))) := rfl
theorem we_Y_token (post : Int32 → SY → Prop) (u : SY) (p0 : Int32) (p1 : Int32) : wpY_token post u p0 p1 = (vp_in (yq_count u) 8 ∧ (∀ x3_2 : Int32 , x3_2 = (32 * (yq_count u)) + ((yq_size u) (yq_count u).toNatClampNeg) → (((p0 < 1 → (post (- 1) u)) ∧ (¬ p0 < 1 → (((13 < p0 → (post (- 1) u)) ∧ (¬ 13 < p0 → (((p0 = 2 → (((p1 < 0 → (post (- 1) u)) ∧ (¬ p1 < 0 → (((p1 < (yq_count u) → (pqY_token_51 post p0 p1 x3_2 1 u)) ∧ (¬ p1 < (yq_count u) → (post (- 1) u)))))))) ∧ (¬ p0 = 2 → (pqY_token_51 post p0 p1 x3_2 1 u)))))))))))) := rfl
theorem we_Y_end (post : Int32 → SY → Prop) (u : SY) : wpY_end post u = (vp_in (yq_count u) 8 ∧ (wpY_balance (fun r_2 => (((r_2 = 0 → ((((yq_count u) = (yq_maxWords u) → (post (- 1) u)) ∧ (¬ (yq_count u) = (yq_maxWords u) → (∀ f_count_39 : Int32 , f_count_39 = (yq_count u) + 1 → (vp_in ((yq_count u) + 1) 8 ∧ ∀ a_size_41 : Nat → Int32 , a_size_41 = upd (yq_size u) ((yq_count u) + 1).toNatClampNeg 0 → (post (f_count_39 - 1) (ys_count_size u f_count_39 a_size_41)))))))) ∧ (¬ r_2 = 0 → (post (- 1) u))))) u (32 * (yq_count u)) ((32 * (yq_count u)) + ((yq_size u) (yq_count u).toNatClampNeg)))) := rfl
theorem we_Y_scrap (post : SY → Prop) (u : SY) : wpY_scrap post u = (vp_in (yq_count u) 8 ∧ ∀ a_size_2 : Nat → Int32 , a_size_2 = upd (yq_size u) (yq_count u).toNatClampNeg 0 → (post (ys_size u a_size_2))) := rfl
theorem we_Y_words (post : Int32 → Prop) (u : SY) : wpY_words post u = (post (yq_count u)) := rfl
theorem we_Y_tokenKind (post : Int32 → Prop) (u : SY) (p0 : Int32) (p1 : Int32) : wpY_tokenKind post u p0 p1 = (((p0 < 0 → (post 0)) ∧ (¬ p0 < 0 → ((((yq_count u) < p0 → (post 0)) ∧ (¬ (yq_count u) < p0 → (((p1 < 0 → (post 0)) ∧ (¬ p1 < 0 → (vp_in p0 8 ∧ (((p1 < ((yq_size u) p0.toNatClampNeg) → (vp_in ((32 * p0) + p1) 256 ∧ (post ((yq_kinds u) ((32 * p0) + p1).toNatClampNeg)))) ∧ (¬ p1 < ((yq_size u) p0.toNatClampNeg) → (post 0)))))))))))))) := rfl
theorem we_Y_tokenArg (post : Int32 → Prop) (u : SY) (p0 : Int32) (p1 : Int32) : wpY_tokenArg post u p0 p1 = (wpY_tokenKind (fun r_1 => (((r_1 = 0 → (post 0)) ∧ (¬ r_1 = 0 → (vp_in ((32 * p0) + p1) 256 ∧ (post ((yq_args u) ((32 * p0) + p1).toNatClampNeg))))))) u p0 p1) := rfl
def pqY_effect_231 (post : Int32 → SY → Prop) (J97 : Int32 → Int32 → Int32 → Int32 → Int32 → SY → Prop) (x2 : Int32) (x3 : Int32) (x4 : Int32) (x5 : Int32) (x6 : Int32) (x7 : Int32) (x8 : Int32) (x9 : Int32) (u : SY) : Prop := match u with
  | (f_maxWords, f_maxCells, f_maxLevels, f_maxFuel, f_count, f_depth, f_copyDepth, f_agenda, f_listSize, f_nodes, f_first, f_last, a_kinds, a_args, a_size, a_cellKind, a_cellVal, a_copyKind, a_copyVal, a_agKind, a_agVal, a_agLevel, a_list, a_pend, a_outer, a_begin, a_todo, a_nodeKind, a_left, a_right, a_cls, a_def, a_symbol, a_finite) => wY_effect_231 post (fun qx3 qx4 qx5 qx6 qx7 qa_kinds qa_args qa_size qa_cellKind qa_cellVal qa_copyKind qa_copyVal qa_agKind qa_agVal qa_agLevel qa_list qa_pend qa_outer qa_begin qa_todo qa_nodeKind qa_left qa_right qa_cls qa_def qa_symbol qa_finite => J97 qx3 qx4 qx5 qx6 qx7 (f_maxWords, f_maxCells, f_maxLevels, f_maxFuel, f_count, f_depth, f_copyDepth, f_agenda, f_listSize, f_nodes, f_first, f_last, qa_kinds, qa_args, qa_size, qa_cellKind, qa_cellVal, qa_copyKind, qa_copyVal, qa_agKind, qa_agVal, qa_agLevel, qa_list, qa_pend, qa_outer, qa_begin, qa_todo, qa_nodeKind, qa_left, qa_right, qa_cls, qa_def, qa_symbol, qa_finite)) x2 x3 x4 x5 x6 x7 x8 x9 f_maxWords f_maxCells f_maxLevels f_maxFuel f_count f_depth f_copyDepth f_agenda f_listSize f_nodes f_first f_last a_kinds a_args a_size a_cellKind a_cellVal a_copyKind a_copyVal a_agKind a_agVal a_agLevel a_list a_pend a_outer a_begin a_todo a_nodeKind a_left a_right a_cls a_def a_symbol a_finite
theorem pqY_effect_231_e (post : Int32 → SY → Prop) (J97 : Int32 → Int32 → Int32 → Int32 → Int32 → SY → Prop) (x2 : Int32) (x3 : Int32) (x4 : Int32) (x5 : Int32) (x6 : Int32) (x7 : Int32) (x8 : Int32) (x9 : Int32) (u : SY) : pqY_effect_231 post J97 x2 x3 x4 x5 x6 x7 x8 x9 u = (((x9 = 4 → (∀ x7_102 : Int32 , x7_102 = x7 + 1 → (J97 x3 x4 x5 x6 x7_102 u))) ∧ (¬ x9 = 4 → (∀ x4_103 : Int32 , x4_103 = x4 + 1 → (((x4 = x2 → (vp_in x8 320 ∧ (post ((yq_symbol u) x8.toNatClampNeg) u))) ∧ (¬ x4 = x2 → (∀ x7_105 : Int32 , x7_105 = x7 + 1 → (J97 x3 x4_103 x5 x6 x7_105 u))))))))) := rfl
def pqY_effect_199 (post : Int32 → SY → Prop) (J97 : Int32 → Int32 → Int32 → Int32 → Int32 → SY → Prop) (x2 : Int32) (x3 : Int32) (x4 : Int32) (x5 : Int32) (x6 : Int32) (x7 : Int32) (x8 : Int32) (x9 : Int32) (u : SY) : Prop := match u with
  | (f_maxWords, f_maxCells, f_maxLevels, f_maxFuel, f_count, f_depth, f_copyDepth, f_agenda, f_listSize, f_nodes, f_first, f_last, a_kinds, a_args, a_size, a_cellKind, a_cellVal, a_copyKind, a_copyVal, a_agKind, a_agVal, a_agLevel, a_list, a_pend, a_outer, a_begin, a_todo, a_nodeKind, a_left, a_right, a_cls, a_def, a_symbol, a_finite) => wY_effect_199 post (fun qx3 qx4 qx5 qx6 qx7 qa_kinds qa_args qa_size qa_cellKind qa_cellVal qa_copyKind qa_copyVal qa_agKind qa_agVal qa_agLevel qa_list qa_pend qa_outer qa_begin qa_todo qa_nodeKind qa_left qa_right qa_cls qa_def qa_symbol qa_finite => J97 qx3 qx4 qx5 qx6 qx7 (f_maxWords, f_maxCells, f_maxLevels, f_maxFuel, f_count, f_depth, f_copyDepth, f_agenda, f_listSize, f_nodes, f_first, f_last, qa_kinds, qa_args, qa_size, qa_cellKind, qa_cellVal, qa_copyKind, qa_copyVal, qa_agKind, qa_agVal, qa_agLevel, qa_list, qa_pend, qa_outer, qa_begin, qa_todo, qa_nodeKind, qa_left, qa_right, qa_cls, qa_def, qa_symbol, qa_finite)) x2 x3 x4 x5 x6 x7 x8 x9 f_maxWords f_maxCells f_maxLevels f_maxFuel f_count f_depth f_copyDepth f_agenda f_listSize f_nodes f_first f_last a_kinds a_args a_size a_cellKind a_cellVal a_copyKind a_copyVal a_agKind a_agVal a_agLevel a_list a_pend a_outer a_begin a_todo a_nodeKind a_left a_right a_cls a_def a_symbol a_finite
theorem pqY_effect_199_e (post : Int32 → SY → Prop) (J97 : Int32 → Int32 → Int32 → Int32 → Int32 → SY → Prop) (x2 : Int32) (x3 : Int32) (x4 : Int32) (x5 : Int32) (x6 : Int32) (x7 : Int32) (x8 : Int32) (x9 : Int32) (u : SY) : pqY_effect_199 post J97 x2 x3 x4 x5 x6 x7 x8 x9 u = (∀ x3_93 : Int32 , x3_93 = x3 + 1 → (vp_in x8 320 ∧ (vp_in x3 256 ∧ ∀ a_todo_96 : Nat → Int32 , a_todo_96 = upd (yq_todo u) x3.toNatClampNeg ((yq_right u) x8.toNatClampNeg) → (∀ x3_97 : Int32 , x3_97 = x3_93 + 1 → (vp_in x8 320 ∧ (vp_in x3_93 256 ∧ ∀ a_todo_100 : Nat → Int32 , a_todo_100 = upd a_todo_96 x3_93.toNatClampNeg ((yq_left u) x8.toNatClampNeg) → (pqY_effect_231 post J97 x2 x3_97 x4 x5 x6 x7 x8 x9 (ys_todo u a_todo_100)))))))) := rfl
def pqY_effect_187 (post : Int32 → SY → Prop) (J97 : Int32 → Int32 → Int32 → Int32 → Int32 → SY → Prop) (x2 : Int32) (x3 : Int32) (x4 : Int32) (x5 : Int32) (x6 : Int32) (x7 : Int32) (x8 : Int32) (x9 : Int32) (u : SY) : Prop := match u with
  | (f_maxWords, f_maxCells, f_maxLevels, f_maxFuel, f_count, f_depth, f_copyDepth, f_agenda, f_listSize, f_nodes, f_first, f_last, a_kinds, a_args, a_size, a_cellKind, a_cellVal, a_copyKind, a_copyVal, a_agKind, a_agVal, a_agLevel, a_list, a_pend, a_outer, a_begin, a_todo, a_nodeKind, a_left, a_right, a_cls, a_def, a_symbol, a_finite) => wY_effect_187 post (fun qx3 qx4 qx5 qx6 qx7 qa_kinds qa_args qa_size qa_cellKind qa_cellVal qa_copyKind qa_copyVal qa_agKind qa_agVal qa_agLevel qa_list qa_pend qa_outer qa_begin qa_todo qa_nodeKind qa_left qa_right qa_cls qa_def qa_symbol qa_finite => J97 qx3 qx4 qx5 qx6 qx7 (f_maxWords, f_maxCells, f_maxLevels, f_maxFuel, f_count, f_depth, f_copyDepth, f_agenda, f_listSize, f_nodes, f_first, f_last, qa_kinds, qa_args, qa_size, qa_cellKind, qa_cellVal, qa_copyKind, qa_copyVal, qa_agKind, qa_agVal, qa_agLevel, qa_list, qa_pend, qa_outer, qa_begin, qa_todo, qa_nodeKind, qa_left, qa_right, qa_cls, qa_def, qa_symbol, qa_finite)) x2 x3 x4 x5 x6 x7 x8 x9 f_maxWords f_maxCells f_maxLevels f_maxFuel f_count f_depth f_copyDepth f_agenda f_listSize f_nodes f_first f_last a_kinds a_args a_size a_cellKind a_cellVal a_copyKind a_copyVal a_agKind a_agVal a_agLevel a_list a_pend a_outer a_begin a_todo a_nodeKind a_left a_right a_cls a_def a_symbol a_finite
theorem pqY_effect_187_e (post : Int32 → SY → Prop) (J97 : Int32 → Int32 → Int32 → Int32 → Int32 → SY → Prop) (x2 : Int32) (x3 : Int32) (x4 : Int32) (x5 : Int32) (x6 : Int32) (x7 : Int32) (x8 : Int32) (x9 : Int32) (u : SY) : pqY_effect_187 post J97 x2 x3 x4 x5 x6 x7 x8 x9 u = (((x9 = 4 → (pqY_effect_199 post J97 x2 x3 x4 x5 x6 x7 x8 x9 u)) ∧ (¬ x9 = 4 → (((x9 = 2 → (pqY_effect_199 post J97 x2 x3 x4 x5 x6 x7 x8 x9 u)) ∧ (¬ x9 = 2 → (pqY_effect_231 post J97 x2 x3 x4 x5 x6 x7 x8 x9 u))))))) := rfl
def pqY_effect_186 (post : Int32 → SY → Prop) (J97 : Int32 → Int32 → Int32 → Int32 → Int32 → SY → Prop) (x2 : Int32) (x3 : Int32) (x4 : Int32) (x5 : Int32) (x6 : Int32) (x7 : Int32) (x8 : Int32) (x9 : Int32) (z0 : Int32) (z1 : Int32) (u : SY) : Prop := match u with
  | (f_maxWords, f_maxCells, f_maxLevels, f_maxFuel, f_count, f_depth, f_copyDepth, f_agenda, f_listSize, f_nodes, f_first, f_last, a_kinds, a_args, a_size, a_cellKind, a_cellVal, a_copyKind, a_copyVal, a_agKind, a_agVal, a_agLevel, a_list, a_pend, a_outer, a_begin, a_todo, a_nodeKind, a_left, a_right, a_cls, a_def, a_symbol, a_finite) => wY_effect_186 post (fun qx3 qx4 qx5 qx6 qx7 qa_kinds qa_args qa_size qa_cellKind qa_cellVal qa_copyKind qa_copyVal qa_agKind qa_agVal qa_agLevel qa_list qa_pend qa_outer qa_begin qa_todo qa_nodeKind qa_left qa_right qa_cls qa_def qa_symbol qa_finite => J97 qx3 qx4 qx5 qx6 qx7 (f_maxWords, f_maxCells, f_maxLevels, f_maxFuel, f_count, f_depth, f_copyDepth, f_agenda, f_listSize, f_nodes, f_first, f_last, qa_kinds, qa_args, qa_size, qa_cellKind, qa_cellVal, qa_copyKind, qa_copyVal, qa_agKind, qa_agVal, qa_agLevel, qa_list, qa_pend, qa_outer, qa_begin, qa_todo, qa_nodeKind, qa_left, qa_right, qa_cls, qa_def, qa_symbol, qa_finite)) x2 x3 x4 x5 x6 x7 x8 x9 z0 z1 f_maxWords f_maxCells f_maxLevels f_maxFuel f_count f_depth f_copyDepth f_agenda f_listSize f_nodes f_first f_last a_kinds a_args a_size a_cellKind a_cellVal a_copyKind a_copyVal a_agKind a_agVal a_agLevel a_list a_pend a_outer a_begin a_todo a_nodeKind a_left a_right a_cls a_def a_symbol a_finite
theorem pqY_effect_186_e (post : Int32 → SY → Prop) (J97 : Int32 → Int32 → Int32 → Int32 → Int32 → SY → Prop) (x2 : Int32) (x3 : Int32) (x4 : Int32) (x5 : Int32) (x6 : Int32) (x7 : Int32) (x8 : Int32) (x9 : Int32) (z0 : Int32) (z1 : Int32) (u : SY) : pqY_effect_186 post J97 x2 x3 x4 x5 x6 x7 x8 x9 z0 z1 u = (vp_in z1 320 ∧ ∀ a_symbol_111 : Nat → Int32 , a_symbol_111 = upd (yq_symbol u) z1.toNatClampNeg z0 → (pqY_effect_187 post J97 x2 x3 x4 x5 x6 x7 x8 x9 (ys_symbol u a_symbol_111))) := rfl
def lqY_effect_97 (post : Int32 → SY → Prop) (x2 : Int32) (n : Nat) (x3 : Int32) (x4 : Int32) (x5 : Int32) (x6 : Int32) (x7 : Int32) (u : SY) : Prop := match u with
  | (f_maxWords, f_maxCells, f_maxLevels, f_maxFuel, f_count, f_depth, f_copyDepth, f_agenda, f_listSize, f_nodes, f_first, f_last, a_kinds, a_args, a_size, a_cellKind, a_cellVal, a_copyKind, a_copyVal, a_agKind, a_agVal, a_agLevel, a_list, a_pend, a_outer, a_begin, a_todo, a_nodeKind, a_left, a_right, a_cls, a_def, a_symbol, a_finite) => wY_effect_97 post x2 f_maxWords f_maxCells f_maxLevels f_maxFuel f_count f_depth f_copyDepth f_agenda f_listSize f_nodes f_first f_last n x3 x4 x5 x6 x7 a_kinds a_args a_size a_cellKind a_cellVal a_copyKind a_copyVal a_agKind a_agVal a_agLevel a_list a_pend a_outer a_begin a_todo a_nodeKind a_left a_right a_cls a_def a_symbol a_finite
theorem lqY_effect_97_s (post : Int32 → SY → Prop) (x2 : Int32) (n : Nat) (x3 : Int32) (x4 : Int32) (x5 : Int32) (x6 : Int32) (x7 : Int32) (u : SY) : lqY_effect_97 post x2 (n + 1) x3 x4 x5 x6 x7 u = (((200 ≤ x7 → (post 0 u)) ∧ (¬ 200 ≤ x7 → (((x3 ≤ 0 → (post 0 u)) ∧ (¬ x3 ≤ 0 → (∀ x3_83 : Int32 , x3_83 = x3 + (- 1) → (vp_in x3_83 256 ∧ (vp_in ((yq_todo u) x3_83.toNatClampNeg) 320 ∧ (vp_in ((yq_cls u) ((yq_todo u) x3_83.toNatClampNeg).toNatClampNeg) 320 ∧ (∀ x8_87 : Int32 , x8_87 = (yq_def u) ((yq_cls u) ((yq_todo u) x3_83.toNatClampNeg).toNatClampNeg).toNatClampNeg → (vp_in x8_87 320 ∧ (∀ x9_89 : Int32 , x9_89 = (yq_nodeKind u) x8_87.toNatClampNeg → (vp_in x8_87 320 ∧ (((((yq_symbol u) x8_87.toNatClampNeg) = 0 → (((x9_89 = 3 → (∀ x5_113 : Int32 , x5_113 = x5 + 1 → (pqY_effect_186 post (lqY_effect_97 post x2 n) x2 x3_83 x4 x5_113 x6 x7 x8_87 x9_89 x5 x8_87 u))) ∧ (¬ x9_89 = 3 → (((x9_89 = 6 → (∀ x6_112 : Int32 , x6_112 = x6 + 1 → (pqY_effect_186 post (lqY_effect_97 post x2 n) x2 x3_83 x4 x5 x6_112 x7 x8_87 x9_89 x6 x8_87 u))) ∧ (¬ x9_89 = 6 → (pqY_effect_186 post (lqY_effect_97 post x2 n) x2 x3_83 x4 x5 x6 x7 x8_87 x9_89 x9_89 x8_87 u)))))))) ∧ (¬ ((yq_symbol u) x8_87.toNatClampNeg) = 0 → (pqY_effect_187 post (lqY_effect_97 post x2 n) x2 x3_83 x4 x5 x6 x7 x8_87 x9_89 u)))))))))))))))))) := rfl
theorem we_Y_effect (post : Int32 → SY → Prop) (u : SY) (p0 : Int32) (p1 : Int32) : wpY_effect post u p0 p1 = (((p0 < 0 → (post (- 1) u)) ∧ (¬ p0 < 0 → (((p0 < (yq_count u) → (vp_in p0 8 ∧ (wpY_unfold (fun r_4 u1 => (wpY_solve (fun r_39 u2 => (((r_39 = 0 → (post 0 u2)) ∧ (¬ r_39 = 0 → (((p1 < 0 → (post 0 u2)) ∧ (¬ p1 < 0 → (((p1 ≤ 63 → (∀ a_todo_78 : Nat → Int32 , a_todo_78 = upd (yq_todo u2) 0 (yq_last u2) → (∀ a_todo_80 : Nat → Int32 , a_todo_80 = upd a_todo_78 1 (yq_first u2) → (∃ n97 : Nat , lqY_effect_97 post p1 n97 2 0 100 200 0 (ys_todo u2 a_todo_80))))) ∧ (¬ p1 ≤ 63 → (post 0 u2))))))))))) u1 6)) (ys_listSize u 0) (32 * p0) ((32 * p0) + ((yq_size u) p0.toNatClampNeg))))) ∧ (¬ p0 < (yq_count u) → (post (- 1) u))))))) := rfl
theorem we_Y_push (post : Int32 → SY → Prop) (u : SY) (p0 : Int32) : wpY_push post u p0 = ((((yq_depth u) = (yq_maxCells u) → (post 0 u)) ∧ (¬ (yq_depth u) = (yq_maxCells u) → (vp_in (yq_depth u) 16 ∧ ∀ a_cellKind_3 : Nat → Int32 , a_cellKind_3 = upd (yq_cellKind u) (yq_depth u).toNatClampNeg 1 → (∀ f_depth_4 : Int32 , f_depth_4 = (yq_depth u) + 1 → (vp_in (yq_depth u) 16 ∧ ∀ a_cellVal_6 : Nat → Int32 , a_cellVal_6 = upd (yq_cellVal u) (yq_depth u).toNatClampNeg p0 → (post 1 (ys_depth_cellKind_cellVal u f_depth_4 a_cellKind_3 a_cellVal_6)))))))) := rfl
theorem we_Y_pop (post : Int32 → SY → Prop) (u : SY) : wpY_pop post u = ((((yq_depth u) = 0 → (post 0 u)) ∧ (¬ (yq_depth u) = 0 → (∀ f_depth_2 : Int32 , f_depth_2 = (yq_depth u) - 1 → (post 1 (ys_depth u f_depth_2)))))) := rfl
theorem we_Y_depth (post : Int32 → Prop) (u : SY) : wpY_depth post u = (post (yq_depth u)) := rfl
theorem we_Y_kind (post : Int32 → Prop) (u : SY) (p0 : Int32) : wpY_kind post u p0 = (((p0 < 0 → (post 0)) ∧ (¬ p0 < 0 → (((p0 < (yq_depth u) → (vp_in (((yq_depth u) - 1) - p0) 16 ∧ (post ((yq_cellKind u) (((yq_depth u) - 1) - p0).toNatClampNeg)))) ∧ (¬ p0 < (yq_depth u) → (post 0))))))) := rfl
theorem we_Y_value (post : Int32 → Prop) (u : SY) (p0 : Int32) : wpY_value post u p0 = (((p0 < 0 → (post 0)) ∧ (¬ p0 < 0 → (((p0 < (yq_depth u) → (vp_in (((yq_depth u) - 1) - p0) 16 ∧ (post ((yq_cellVal u) (((yq_depth u) - 1) - p0).toNatClampNeg)))) ∧ (¬ p0 < (yq_depth u) → (post 0))))))) := rfl
def pqY_fit_59 (post : Int32 → SY → Prop) (J23 : Int32 → Int32 → SY → Prop) (x1 : Int32) (x2 : Int32) (x3 : Int32) (x4 : Int32) (z0 : Int32) (u : SY) : Prop := match u with
  | (f_maxWords, f_maxCells, f_maxLevels, f_maxFuel, f_count, f_depth, f_copyDepth, f_agenda, f_listSize, f_nodes, f_first, f_last, a_kinds, a_args, a_size, a_cellKind, a_cellVal, a_copyKind, a_copyVal, a_agKind, a_agVal, a_agLevel, a_list, a_pend, a_outer, a_begin, a_todo, a_nodeKind, a_left, a_right, a_cls, a_def, a_symbol, a_finite) => wY_fit_59 post (fun qx2 qx3 qf_maxWords qf_maxCells qf_maxLevels qf_maxFuel qf_count qf_depth qf_copyDepth qf_agenda qf_listSize qf_nodes qf_first qf_last qa_kinds qa_args qa_size qa_cellKind qa_cellVal qa_copyKind qa_copyVal qa_agKind qa_agVal qa_agLevel qa_list qa_pend qa_outer qa_begin qa_todo qa_nodeKind qa_left qa_right qa_cls qa_def qa_symbol qa_finite => J23 qx2 qx3 (qf_maxWords, qf_maxCells, qf_maxLevels, qf_maxFuel, qf_count, qf_depth, qf_copyDepth, qf_agenda, qf_listSize, qf_nodes, qf_first, qf_last, qa_kinds, qa_args, qa_size, qa_cellKind, qa_cellVal, qa_copyKind, qa_copyVal, qa_agKind, qa_agVal, qa_agLevel, qa_list, qa_pend, qa_outer, qa_begin, qa_todo, qa_nodeKind, qa_left, qa_right, qa_cls, qa_def, qa_symbol, qa_finite)) x1 x2 x3 x4 z0 f_maxWords f_maxCells f_maxLevels f_maxFuel f_count f_depth f_copyDepth f_agenda f_listSize f_nodes f_first f_last a_kinds a_args a_size a_cellKind a_cellVal a_copyKind a_copyVal a_agKind a_agVal a_agLevel a_list a_pend a_outer a_begin a_todo a_nodeKind a_left a_right a_cls a_def a_symbol a_finite
theorem pqY_fit_59_e (post : Int32 → SY → Prop) (J23 : Int32 → Int32 → SY → Prop) (x1 : Int32) (x2 : Int32) (x3 : Int32) (x4 : Int32) (z0 : Int32) (u : SY) : pqY_fit_59 post J23 x1 x2 x3 x4 z0 u = (vp_in x3 16 ∧ (((((yq_cellKind u) x3.toNatClampNeg) = 2 → (wpY_unfold (fun r_89 u1 => (∀ x2_124 : Int32 , x2_124 = x2 + r_89 → (∀ x3_125 : Int32 , x3_125 = x3 + 1 → (J23 x2_124 x3_125 u1)))) u x4 z0)) ∧ (¬ ((yq_cellKind u) x3.toNatClampNeg) = 2 → (∀ f_listSize_84 : Int32 , f_listSize_84 = (yq_listSize u) + 1 → (vp_in (yq_listSize u) 600 ∧ ∀ a_list_86 : Nat → Int32 , a_list_86 = upd (yq_list u) (yq_listSize u).toNatClampNeg 1 → (∀ x2_87 : Int32 , x2_87 = x2 + 1 → (∀ x3_88 : Int32 , x3_88 = x3 + 1 → (J23 x2_87 x3_88 (ys_listSize_list u f_listSize_84 a_list_86)))))))))) := rfl
def lqY_fit_23 (post : Int32 → SY → Prop) (x1 : Int32) (n : Nat) (x2 : Int32) (x3 : Int32) (u : SY) : Prop := match u with
  | (f_maxWords, f_maxCells, f_maxLevels, f_maxFuel, f_count, f_depth, f_copyDepth, f_agenda, f_listSize, f_nodes, f_first, f_last, a_kinds, a_args, a_size, a_cellKind, a_cellVal, a_copyKind, a_copyVal, a_agKind, a_agVal, a_agLevel, a_list, a_pend, a_outer, a_begin, a_todo, a_nodeKind, a_left, a_right, a_cls, a_def, a_symbol, a_finite) => wY_fit_23 post x1 n x2 x3 f_maxWords f_maxCells f_maxLevels f_maxFuel f_count f_depth f_copyDepth f_agenda f_listSize f_nodes f_first f_last a_kinds a_args a_size a_cellKind a_cellVal a_copyKind a_copyVal a_agKind a_agVal a_agLevel a_list a_pend a_outer a_begin a_todo a_nodeKind a_left a_right a_cls a_def a_symbol a_finite
theorem lqY_fit_23_s (post : Int32 → SY → Prop) (x1 : Int32) (n : Nat) (x2 : Int32) (x3 : Int32) (u : SY) : lqY_fit_23 post x1 (n + 1) x2 x3 u = ((((yq_depth u) ≤ x3 → (vp_in x1 8 ∧ (wpY_unfold (fun r_5 u1 => (∀ x2_40 : Int32 , x2_40 = x2 + r_5 → (((x2_40 ≤ 32 → (wpY_solve (fun r_42 u2 => (((r_42 = 0 → (post 0 u2)) ∧ (¬ r_42 = 0 → (post 1 u2))))) u1 5)) ∧ (¬ x2_40 ≤ 32 → (post 2 u1)))))) u (32 * x1) ((32 * x1) + ((yq_size u) x1.toNatClampNeg))))) ∧ (¬ (yq_depth u) ≤ x3 → (vp_in x3 16 ∧ (∀ x4_79 : Int32 , x4_79 = (yq_cellVal u) x3.toNatClampNeg → (vp_in x3 16 ∧ (((((yq_cellKind u) x3.toNatClampNeg) = 2 → (wpY_after (fun r_126 => (pqY_fit_59 post (lqY_fit_23 post x1 n) x1 x2 x3 x4_79 r_126 u)) u x4_79)) ∧ (¬ ((yq_cellKind u) x3.toNatClampNeg) = 2 → (pqY_fit_59 post (lqY_fit_23 post x1 n) x1 x2 x3 x4_79 0 u)))))))))) := rfl
theorem we_Y_fit (post : Int32 → SY → Prop) (u : SY) (p0 : Int32) : wpY_fit post u p0 = (((p0 < 0 → (post (- 1) u)) ∧ (¬ p0 < 0 → (((p0 < (yq_count u) → (∃ n23 : Nat , lqY_fit_23 post p0 n23 0 0 (ys_listSize u 0))) ∧ (¬ p0 < (yq_count u) → (post (- 1) u))))))) := rfl
def pqY_result_80 (post : Int32 → SY → Prop) (x3 : Int32) (u : SY) : Prop := match u with
  | (f_maxWords, f_maxCells, f_maxLevels, f_maxFuel, f_count, f_depth, f_copyDepth, f_agenda, f_listSize, f_nodes, f_first, f_last, a_kinds, a_args, a_size, a_cellKind, a_cellVal, a_copyKind, a_copyVal, a_agKind, a_agVal, a_agLevel, a_list, a_pend, a_outer, a_begin, a_todo, a_nodeKind, a_left, a_right, a_cls, a_def, a_symbol, a_finite) => wY_result_80 post x3 f_maxWords f_maxCells f_maxLevels f_maxFuel f_count f_depth f_copyDepth f_agenda f_listSize f_nodes f_first f_last a_kinds a_args a_size a_cellKind a_cellVal a_copyKind a_copyVal a_agKind a_agVal a_agLevel a_list a_pend a_outer a_begin a_todo a_nodeKind a_left a_right a_cls a_def a_symbol a_finite
theorem pqY_result_80_e (post : Int32 → SY → Prop) (x3 : Int32) (u : SY) : pqY_result_80 post x3 u = (vp_in x3 320 ∧ (((((yq_nodeKind u) x3.toNatClampNeg) = 4 → (vp_in x3 320 ∧ (vp_in ((yq_left u) x3.toNatClampNeg) 320 ∧ (vp_in ((yq_cls u) ((yq_left u) x3.toNatClampNeg).toNatClampNeg) 320 ∧ (vp_in ((yq_def u) ((yq_cls u) ((yq_left u) x3.toNatClampNeg).toNatClampNeg).toNatClampNeg) 320 ∧ (post ((yq_nodeKind u) ((yq_def u) ((yq_cls u) ((yq_left u) x3.toNatClampNeg).toNatClampNeg).toNatClampNeg).toNatClampNeg) u)))))) ∧ (¬ ((yq_nodeKind u) x3.toNatClampNeg) = 4 → (post 0 u))))) := rfl
def lqY_result_33 (post : Int32 → SY → Prop) (x2 : Int32) (n : Nat) (x3 : Int32) (x4 : Int32) (u : SY) : Prop := match u with
  | (f_maxWords, f_maxCells, f_maxLevels, f_maxFuel, f_count, f_depth, f_copyDepth, f_agenda, f_listSize, f_nodes, f_first, f_last, a_kinds, a_args, a_size, a_cellKind, a_cellVal, a_copyKind, a_copyVal, a_agKind, a_agVal, a_agLevel, a_list, a_pend, a_outer, a_begin, a_todo, a_nodeKind, a_left, a_right, a_cls, a_def, a_symbol, a_finite) => wY_result_33 post x2 f_maxWords f_maxCells f_maxLevels f_maxFuel f_count f_depth f_copyDepth f_agenda f_listSize f_nodes f_first f_last a_kinds a_args a_size a_cellKind a_cellVal a_copyKind a_copyVal a_agKind a_agVal a_agLevel a_list a_pend a_outer a_begin a_todo a_nodeKind a_left a_right a_cls a_def a_symbol a_finite n x3 x4
theorem lqY_result_33_s (post : Int32 → SY → Prop) (x2 : Int32) (n : Nat) (x3 : Int32) (x4 : Int32) (u : SY) : lqY_result_33 post x2 (n + 1) x3 x4 u = (((x2 ≤ x4 → (pqY_result_80 post x3 u)) ∧ (¬ x2 ≤ x4 → (((320 ≤ x4 → (pqY_result_80 post x3 u)) ∧ (¬ 320 ≤ x4 → (vp_in x3 320 ∧ (((((yq_nodeKind u) x3.toNatClampNeg) = 4 → (vp_in x3 320 ∧ (vp_in ((yq_right u) x3.toNatClampNeg) 320 ∧ (vp_in ((yq_cls u) ((yq_right u) x3.toNatClampNeg).toNatClampNeg) 320 ∧ (∀ x3_54 : Int32 , x3_54 = (yq_def u) ((yq_cls u) ((yq_right u) x3.toNatClampNeg).toNatClampNeg).toNatClampNeg → (∀ x4_55 : Int32 , x4_55 = x4 + 1 → (lqY_result_33 post x2 n x3_54 x4_55 u))))))) ∧ (¬ ((yq_nodeKind u) x3.toNatClampNeg) = 4 → (pqY_result_80 post x3 u))))))))))) := rfl
theorem we_Y_result (post : Int32 → SY → Prop) (u : SY) (p0 : Int32) (p1 : Int32) : wpY_result post u p0 p1 = (wpY_fit (fun r_1 u1 => (((r_1 = 1 → (((0 ≤ p1 → (vp_in (yq_last u1) 320 ∧ (vp_in ((yq_cls u1) (yq_last u1).toNatClampNeg) 320 ∧ (∀ x3_40 : Int32 , x3_40 = (yq_def u1) ((yq_cls u1) (yq_last u1).toNatClampNeg).toNatClampNeg → (∃ n33 : Nat , lqY_result_33 post p1 n33 x3_40 0 u1))))) ∧ (¬ 0 ≤ p1 → (post 0 u1))))) ∧ (¬ r_1 = 1 → (post 0 u1))))) u p0) := rfl
end
end
section
/-! printed by gen/parts.py: clean equations -/
section
theorem we_Y_put (post : Int32 → SY → Prop) (u : SY) (p0 : Int32) (p1 : Int32) : wpY_put post u p0 p1 = ((((yq_copyDepth u) = (yq_maxCells u) → (post 4 u)) ∧ (¬ (yq_copyDepth u) = (yq_maxCells u) → (vp_in (yq_copyDepth u) 16 ∧ ∀ a_copyKind_3 : Nat → Int32 , a_copyKind_3 = upd (yq_copyKind u) (yq_copyDepth u).toNatClampNeg p0 → (∀ f_copyDepth_4 : Int32 , f_copyDepth_4 = (yq_copyDepth u) + 1 → (vp_in (yq_copyDepth u) 16 ∧ ∀ a_copyVal_6 : Nat → Int32 , a_copyVal_6 = upd (yq_copyVal u) (yq_copyDepth u).toNatClampNeg p1 → (post 1 (ys_copyDepth_copyKind_copyVal u f_copyDepth_4 a_copyKind_3 a_copyVal_6)))))))) := rfl
theorem we_Y_later (post : SY → Prop) (u : SY) (p0 : Int32) (p1 : Int32) (p2 : Int32) : wpY_later post u p0 p1 p2 = (vp_in (yq_agenda u) 1100 ∧ ∀ a_agKind_2 : Nat → Int32 , a_agKind_2 = upd (yq_agKind u) (yq_agenda u).toNatClampNeg p0 → (vp_in (yq_agenda u) 1100 ∧ ∀ a_agVal_4 : Nat → Int32 , a_agVal_4 = upd (yq_agVal u) (yq_agenda u).toNatClampNeg p1 → (∀ f_agenda_5 : Int32 , f_agenda_5 = (yq_agenda u) + 1 → (vp_in (yq_agenda u) 1100 ∧ ∀ a_agLevel_7 : Nat → Int32 , a_agLevel_7 = upd (yq_agLevel u) (yq_agenda u).toNatClampNeg p2 → (post (ys_agenda_agKind_agVal_agLevel u f_agenda_5 a_agKind_2 a_agVal_4 a_agLevel_7)))))) := rfl
def lqY_body_5 (post : Int32 → SY → Prop) (x1 : Int32) (x3 : Int32) (n : Nat) (x4 : Int32) (u : SY) : Prop := match u with
  | (f_maxWords, f_maxCells, f_maxLevels, f_maxFuel, f_count, f_depth, f_copyDepth, f_agenda, f_listSize, f_nodes, f_first, f_last, a_kinds, a_args, a_size, a_cellKind, a_cellVal, a_copyKind, a_copyVal, a_agKind, a_agVal, a_agLevel, a_list, a_pend, a_outer, a_begin, a_todo, a_nodeKind, a_left, a_right, a_cls, a_def, a_symbol, a_finite) => wY_body_5 post x1 x3 n x4 f_maxWords f_maxCells f_maxLevels f_maxFuel f_count f_depth f_copyDepth f_agenda f_listSize f_nodes f_first f_last a_kinds a_args a_size a_cellKind a_cellVal a_copyKind a_copyVal a_agKind a_agVal a_agLevel a_list a_pend a_outer a_begin a_todo a_nodeKind a_left a_right a_cls a_def a_symbol a_finite
theorem lqY_body_5_s (post : Int32 → SY → Prop) (x1 : Int32) (x3 : Int32) (n : Nat) (x4 : Int32) (u : SY) : lqY_body_5 post x1 x3 (n + 1) x4 u = (((x4 < x1 → (post 1 u)) ∧ (¬ x4 < x1 → (wpY_balance (fun r_3 => (((r_3 = 0 → (wpY_later (fun u1 => (∀ x4_75 : Int32 , x4_75 = x4 + (- 1) → (lqY_body_5 post x1 x3 n x4_75 u1))) u 0 x4 x3)) ∧ (¬ r_3 = 0 → (∀ x4_39 : Int32 , x4_39 = x4 + (- 1) → (lqY_body_5 post x1 x3 n x4_39 u)))))) u x1 x4)))) := rfl
theorem we_Y_body (post : Int32 → SY → Prop) (u : SY) (p0 : Int32) (p1 : Int32) (p2 : Int32) : wpY_body post u p0 p1 p2 = (∀ x4_1 : Int32 , x4_1 = p1 - 1 → (∃ n5 : Nat , lqY_body_5 post p0 p2 n5 x4_1 u)) := rfl
def pqY_item_330 (post : Int32 → SY → Prop) (z0 : Int32) (z1 : Int32) (u : SY) : Prop := match u with
  | (f_maxWords, f_maxCells, f_maxLevels, f_maxFuel, f_count, f_depth, f_copyDepth, f_agenda, f_listSize, f_nodes, f_first, f_last, a_kinds, a_args, a_size, a_cellKind, a_cellVal, a_copyKind, a_copyVal, a_agKind, a_agVal, a_agLevel, a_list, a_pend, a_outer, a_begin, a_todo, a_nodeKind, a_left, a_right, a_cls, a_def, a_symbol, a_finite) => wY_item_330 post z0 z1 f_maxWords f_maxCells f_maxLevels f_maxFuel f_count f_depth f_copyDepth f_agenda f_listSize f_nodes f_first f_last a_kinds a_args a_size a_cellKind a_cellVal a_copyKind a_copyVal a_agKind a_agVal a_agLevel a_list a_pend a_outer a_begin a_todo a_nodeKind a_left a_right a_cls a_def a_symbol a_finite
theorem pqY_item_330_e (post : Int32 → SY → Prop) (z0 : Int32) (z1 : Int32) (u : SY) : pqY_item_330 post z0 z1 u = (wpY_put (fun r_27 u1 => (post r_27 u1)) u z1 z0) := rfl
def pqY_item_271 (post : Int32 → SY → Prop) (x3 : Int32) (x7 : Int32) (x8 : Int32) (x9 : Int32) (x10 : Int32) (u : SY) : Prop := match u with
  | (f_maxWords, f_maxCells, f_maxLevels, f_maxFuel, f_count, f_depth, f_copyDepth, f_agenda, f_listSize, f_nodes, f_first, f_last, a_kinds, a_args, a_size, a_cellKind, a_cellVal, a_copyKind, a_copyVal, a_agKind, a_agVal, a_agLevel, a_list, a_pend, a_outer, a_begin, a_todo, a_nodeKind, a_left, a_right, a_cls, a_def, a_symbol, a_finite) => wY_item_271 post x3 x7 x8 x9 x10 f_maxWords f_maxCells f_maxLevels f_maxFuel f_count f_depth f_copyDepth f_agenda f_listSize f_nodes f_first f_last a_kinds a_args a_size a_cellKind a_cellVal a_copyKind a_copyVal a_agKind a_agVal a_agLevel a_list a_pend a_outer a_begin a_todo a_nodeKind a_left a_right a_cls a_def a_symbol a_finite
theorem pqY_item_271_e (post : Int32 → SY → Prop) (x3 : Int32) (x7 : Int32) (x8 : Int32) (x9 : Int32) (x10 : Int32) (u : SY) : pqY_item_271 post x3 x7 x8 x9 x10 u = (((x8 = 1 → (((x10 = 1 → (((x3 = 8 → (pqY_item_330 post (x9 + x7) 1 u)) ∧ (¬ x3 = 8 → (((x3 = 9 → (pqY_item_330 post (x9 - x7) 1 u)) ∧ (¬ x3 = 9 → (((x7 ≤ x9 → (pqY_item_330 post 0 1 u)) ∧ (¬ x7 ≤ x9 → (pqY_item_330 post 1 1 u))))))))))) ∧ (¬ x10 = 1 → (post 6 u))))) ∧ (¬ x8 = 1 → (post 6 u)))) := rfl
def pqY_item_427 (post : Int32 → SY → Prop) (x2 : Int32) (z0 : Int32) (u : SY) : Prop := match u with
  | (f_maxWords, f_maxCells, f_maxLevels, f_maxFuel, f_count, f_depth, f_copyDepth, f_agenda, f_listSize, f_nodes, f_first, f_last, a_kinds, a_args, a_size, a_cellKind, a_cellVal, a_copyKind, a_copyVal, a_agKind, a_agVal, a_agLevel, a_list, a_pend, a_outer, a_begin, a_todo, a_nodeKind, a_left, a_right, a_cls, a_def, a_symbol, a_finite) => wY_item_427 post x2 z0 f_maxWords f_maxCells f_maxLevels f_maxFuel f_count f_depth f_copyDepth f_agenda f_listSize f_nodes f_first f_last a_kinds a_args a_size a_cellKind a_cellVal a_copyKind a_copyVal a_agKind a_agVal a_agLevel a_list a_pend a_outer a_begin a_todo a_nodeKind a_left a_right a_cls a_def a_symbol a_finite
theorem pqY_item_427_e (post : Int32 → SY → Prop) (x2 : Int32) (z0 : Int32) (u : SY) : pqY_item_427 post x2 z0 u = (wpY_after (fun r_70 => (wpY_body (fun r_105 u1 => (post r_105 u1)) u (z0 + 1) (r_70 - 1) (x2 + 1))) u z0) := rfl
def pqY_item_425 (post : Int32 → SY → Prop) (x2 : Int32) (x7 : Int32) (u : SY) : Prop := match u with
  | (f_maxWords, f_maxCells, f_maxLevels, f_maxFuel, f_count, f_depth, f_copyDepth, f_agenda, f_listSize, f_nodes, f_first, f_last, a_kinds, a_args, a_size, a_cellKind, a_cellVal, a_copyKind, a_copyVal, a_agKind, a_agVal, a_agLevel, a_list, a_pend, a_outer, a_begin, a_todo, a_nodeKind, a_left, a_right, a_cls, a_def, a_symbol, a_finite) => wY_item_425 post x2 x7 f_maxWords f_maxCells f_maxLevels f_maxFuel f_count f_depth f_copyDepth f_agenda f_listSize f_nodes f_first f_last a_kinds a_args a_size a_cellKind a_cellVal a_copyKind a_copyVal a_agKind a_agVal a_agLevel a_list a_pend a_outer a_begin a_todo a_nodeKind a_left a_right a_cls a_def a_symbol a_finite
theorem pqY_item_425_e (post : Int32 → SY → Prop) (x2 : Int32) (x7 : Int32) (u : SY) : pqY_item_425 post x2 x7 u = (pqY_item_427 post x2 x7 u) := rfl
def pqY_item_402 (post : Int32 → SY → Prop) (x2 : Int32) (x3 : Int32) (x5 : Int32) (x7 : Int32) (x9 : Int32) (u : SY) : Prop := match u with
  | (f_maxWords, f_maxCells, f_maxLevels, f_maxFuel, f_count, f_depth, f_copyDepth, f_agenda, f_listSize, f_nodes, f_first, f_last, a_kinds, a_args, a_size, a_cellKind, a_cellVal, a_copyKind, a_copyVal, a_agKind, a_agVal, a_agLevel, a_list, a_pend, a_outer, a_begin, a_todo, a_nodeKind, a_left, a_right, a_cls, a_def, a_symbol, a_finite) => wY_item_402 post x2 x3 x5 x7 x9 f_maxWords f_maxCells f_maxLevels f_maxFuel f_count f_depth f_copyDepth f_agenda f_listSize f_nodes f_first f_last a_kinds a_args a_size a_cellKind a_cellVal a_copyKind a_copyVal a_agKind a_agVal a_agLevel a_list a_pend a_outer a_begin a_todo a_nodeKind a_left a_right a_cls a_def a_symbol a_finite
theorem pqY_item_402_e (post : Int32 → SY → Prop) (x2 : Int32) (x3 : Int32) (x5 : Int32) (x7 : Int32) (x9 : Int32) (u : SY) : pqY_item_402 post x2 x3 x5 x7 x9 u = (((x3 = 13 → (vp_in (x5 - 3) 16 ∧ (((((yq_copyVal u) (x5 - 3).toNatClampNeg) = 0 → (pqY_item_425 post x2 x7 u)) ∧ (¬ ((yq_copyVal u) (x5 - 3).toNatClampNeg) = 0 → (pqY_item_427 post x2 x9 u)))))) ∧ (¬ x3 = 13 → (pqY_item_425 post x2 x7 u)))) := rfl
def pqY_item_377 (post : Int32 → SY → Prop) (x2 : Int32) (x3 : Int32) (x5 : Int32) (x7 : Int32) (x9 : Int32) (x10 : Int32) (u : SY) : Prop := match u with
  | (f_maxWords, f_maxCells, f_maxLevels, f_maxFuel, f_count, f_depth, f_copyDepth, f_agenda, f_listSize, f_nodes, f_first, f_last, a_kinds, a_args, a_size, a_cellKind, a_cellVal, a_copyKind, a_copyVal, a_agKind, a_agVal, a_agLevel, a_list, a_pend, a_outer, a_begin, a_todo, a_nodeKind, a_left, a_right, a_cls, a_def, a_symbol, a_finite) => wY_item_377 post x2 x3 x5 x7 x9 x10 f_maxWords f_maxCells f_maxLevels f_maxFuel f_count f_depth f_copyDepth f_agenda f_listSize f_nodes f_first f_last a_kinds a_args a_size a_cellKind a_cellVal a_copyKind a_copyVal a_agKind a_agVal a_agLevel a_list a_pend a_outer a_begin a_todo a_nodeKind a_left a_right a_cls a_def a_symbol a_finite
theorem pqY_item_377_e (post : Int32 → SY → Prop) (x2 : Int32) (x3 : Int32) (x5 : Int32) (x7 : Int32) (x9 : Int32) (x10 : Int32) (u : SY) : pqY_item_377 post x2 x3 x5 x7 x9 x10 u = (((x2 = (yq_maxLevels u) → (post 3 u)) ∧ (¬ x2 = (yq_maxLevels u) → (((x3 = 12 → (wpY_later (fun u1 => (pqY_item_402 post x2 x3 x5 x7 x9 u1)) u x10 x9 x2)) ∧ (¬ x3 = 12 → (pqY_item_402 post x2 x3 x5 x7 x9 u))))))) := rfl
def pqY_item_355 (post : Int32 → SY → Prop) (x2 : Int32) (x3 : Int32) (x5 : Int32) (x7 : Int32) (x9 : Int32) (x10 : Int32) (u : SY) : Prop := match u with
  | (f_maxWords, f_maxCells, f_maxLevels, f_maxFuel, f_count, f_depth, f_copyDepth, f_agenda, f_listSize, f_nodes, f_first, f_last, a_kinds, a_args, a_size, a_cellKind, a_cellVal, a_copyKind, a_copyVal, a_agKind, a_agVal, a_agLevel, a_list, a_pend, a_outer, a_begin, a_todo, a_nodeKind, a_left, a_right, a_cls, a_def, a_symbol, a_finite) => wY_item_355 post x2 x3 x5 x7 x9 x10 f_maxWords f_maxCells f_maxLevels f_maxFuel f_count f_depth f_copyDepth f_agenda f_listSize f_nodes f_first f_last a_kinds a_args a_size a_cellKind a_cellVal a_copyKind a_copyVal a_agKind a_agVal a_agLevel a_list a_pend a_outer a_begin a_todo a_nodeKind a_left a_right a_cls a_def a_symbol a_finite
theorem pqY_item_355_e (post : Int32 → SY → Prop) (x2 : Int32) (x3 : Int32) (x5 : Int32) (x7 : Int32) (x9 : Int32) (x10 : Int32) (u : SY) : pqY_item_355 post x2 x3 x5 x7 x9 x10 u = (((x3 = 13 → (vp_in (x5 - 3) 16 ∧ (((((yq_copyKind u) (x5 - 3).toNatClampNeg) = 1 → (pqY_item_377 post x2 x3 x5 x7 x9 x10 u)) ∧ (¬ ((yq_copyKind u) (x5 - 3).toNatClampNeg) = 1 → (post 6 u)))))) ∧ (¬ x3 = 13 → (pqY_item_377 post x2 x3 x5 x7 x9 x10 u)))) := rfl
def pqY_item_194 (post : Int32 → SY → Prop) (x2 : Int32) (x3 : Int32) (x5 : Int32) (x6 : Int32) (x7 : Int32) (x8 : Int32) (x9 : Int32) (z0 : Int32) (u : SY) : Prop := match u with
  | (f_maxWords, f_maxCells, f_maxLevels, f_maxFuel, f_count, f_depth, f_copyDepth, f_agenda, f_listSize, f_nodes, f_first, f_last, a_kinds, a_args, a_size, a_cellKind, a_cellVal, a_copyKind, a_copyVal, a_agKind, a_agVal, a_agLevel, a_list, a_pend, a_outer, a_begin, a_todo, a_nodeKind, a_left, a_right, a_cls, a_def, a_symbol, a_finite) => wY_item_194 post x2 x3 x5 x6 x7 x8 x9 z0 f_maxWords f_maxCells f_maxLevels f_maxFuel f_count f_depth f_copyDepth f_agenda f_listSize f_nodes f_first f_last a_kinds a_args a_size a_cellKind a_cellVal a_copyKind a_copyVal a_agKind a_agVal a_agLevel a_list a_pend a_outer a_begin a_todo a_nodeKind a_left a_right a_cls a_def a_symbol a_finite
theorem pqY_item_194_e (post : Int32 → SY → Prop) (x2 : Int32) (x3 : Int32) (x5 : Int32) (x6 : Int32) (x7 : Int32) (x8 : Int32) (x9 : Int32) (z0 : Int32) (u : SY) : pqY_item_194 post x2 x3 x5 x6 x7 x8 x9 z0 u = (((x3 = 5 → (wpY_put (fun r_250 u1 => (post r_250 u1)) u x8 x7)) ∧ (¬ x3 = 5 → (∀ f_copyDepth_18 : Int32 , f_copyDepth_18 = (yq_copyDepth u) - x6 → (((x3 = 6 → (post 1 (ys_copyDepth u f_copyDepth_18))) ∧ (¬ x3 = 6 → (((x3 = 7 → (wpY_put (fun r_180 u2 => (wpY_put (fun r_215 u3 => (post r_215 u3)) u2 z0 x9)) (ys_copyDepth u f_copyDepth_18) x8 x7)) ∧ (¬ x3 = 7 → (((x3 = 8 → (pqY_item_271 post x3 x7 x8 x9 z0 (ys_copyDepth u f_copyDepth_18))) ∧ (¬ x3 = 8 → (((x3 = 9 → (pqY_item_271 post x3 x7 x8 x9 z0 (ys_copyDepth u f_copyDepth_18))) ∧ (¬ x3 = 9 → (((x3 = 10 → (pqY_item_271 post x3 x7 x8 x9 z0 (ys_copyDepth u f_copyDepth_18))) ∧ (¬ x3 = 10 → (((x8 = 2 → (((x3 = 13 → (((z0 = 2 → (pqY_item_355 post x2 x3 x5 x7 x9 z0 (ys_copyDepth u f_copyDepth_18))) ∧ (¬ z0 = 2 → (post 7 (ys_copyDepth u f_copyDepth_18)))))) ∧ (¬ x3 = 13 → (pqY_item_355 post x2 x3 x5 x7 x9 z0 (ys_copyDepth u f_copyDepth_18)))))) ∧ (¬ x8 = 2 → (post 7 (ys_copyDepth u f_copyDepth_18)))))))))))))))))))))))) := rfl
def pqY_item_173 (post : Int32 → SY → Prop) (x2 : Int32) (x3 : Int32) (x5 : Int32) (x6 : Int32) (x7 : Int32) (x8 : Int32) (z0 : Int32) (u : SY) : Prop := match u with
  | (f_maxWords, f_maxCells, f_maxLevels, f_maxFuel, f_count, f_depth, f_copyDepth, f_agenda, f_listSize, f_nodes, f_first, f_last, a_kinds, a_args, a_size, a_cellKind, a_cellVal, a_copyKind, a_copyVal, a_agKind, a_agVal, a_agLevel, a_list, a_pend, a_outer, a_begin, a_todo, a_nodeKind, a_left, a_right, a_cls, a_def, a_symbol, a_finite) => wY_item_173 post x2 x3 x5 x6 x7 x8 z0 f_maxWords f_maxCells f_maxLevels f_maxFuel f_count f_depth f_copyDepth f_agenda f_listSize f_nodes f_first f_last a_kinds a_args a_size a_cellKind a_cellVal a_copyKind a_copyVal a_agKind a_agVal a_agLevel a_list a_pend a_outer a_begin a_todo a_nodeKind a_left a_right a_cls a_def a_symbol a_finite
theorem pqY_item_173_e (post : Int32 → SY → Prop) (x2 : Int32) (x3 : Int32) (x5 : Int32) (x6 : Int32) (x7 : Int32) (x8 : Int32) (z0 : Int32) (u : SY) : pqY_item_173 post x2 x3 x5 x6 x7 x8 z0 u = (((x6 ≤ 1 → (pqY_item_194 post x2 x3 x5 x6 x7 x8 z0 0 u)) ∧ (¬ x6 ≤ 1 → (vp_in (x5 - 2) 16 ∧ (pqY_item_194 post x2 x3 x5 x6 x7 x8 z0 ((yq_copyKind u) (x5 - 2).toNatClampNeg) u))))) := rfl
def pqY_item_53 (post : Int32 → SY → Prop) (x1 : Int32) (x2 : Int32) (x3 : Int32) (x4 : Int32) (x5 : Int32) (z0 : Int32) (u : SY) : Prop := match u with
  | (f_maxWords, f_maxCells, f_maxLevels, f_maxFuel, f_count, f_depth, f_copyDepth, f_agenda, f_listSize, f_nodes, f_first, f_last, a_kinds, a_args, a_size, a_cellKind, a_cellVal, a_copyKind, a_copyVal, a_agKind, a_agVal, a_agLevel, a_list, a_pend, a_outer, a_begin, a_todo, a_nodeKind, a_left, a_right, a_cls, a_def, a_symbol, a_finite) => wY_item_53 post x1 x2 x3 x4 x5 z0 f_maxWords f_maxCells f_maxLevels f_maxFuel f_count f_depth f_copyDepth f_agenda f_listSize f_nodes f_first f_last a_kinds a_args a_size a_cellKind a_cellVal a_copyKind a_copyVal a_agKind a_agVal a_agLevel a_list a_pend a_outer a_begin a_todo a_nodeKind a_left a_right a_cls a_def a_symbol a_finite
theorem pqY_item_53_e (post : Int32 → SY → Prop) (x1 : Int32) (x2 : Int32) (x3 : Int32) (x4 : Int32) (x5 : Int32) (z0 : Int32) (u : SY) : pqY_item_53 post x1 x2 x3 x4 x5 z0 u = (((x3 = 1 → (wpY_put (fun r_359 u1 => (post r_359 u1)) u 1 x4)) ∧ (¬ x3 = 1 → (((x3 = 3 → (wpY_put (fun r_324 u2 => (post r_324 u2)) u 2 x1)) ∧ (¬ x3 = 3 → (((x3 = 2 → (((x2 = (yq_maxLevels u) → (post 3 u)) ∧ (¬ x2 = (yq_maxLevels u) → (vp_in x4 8 ∧ (wpY_body (fun r_289 u3 => (post r_289 u3)) u (32 * x4) ((32 * x4) + ((yq_size u) x4.toNatClampNeg)) (x2 + 1))))))) ∧ (¬ x3 = 2 → (((z0 ≤ x5 → (vp_in (x5 - 1) 16 ∧ (∀ x7_12 : Int32 , x7_12 = (yq_copyVal u) (x5 - 1).toNatClampNeg → (vp_in (x5 - 1) 16 ∧ (∀ x8_14 : Int32 , x8_14 = (yq_copyKind u) (x5 - 1).toNatClampNeg → (((z0 ≤ 1 → (pqY_item_173 post x2 x3 x5 z0 x7_12 x8_14 0 u)) ∧ (¬ z0 ≤ 1 → (vp_in (x5 - 2) 16 ∧ (pqY_item_173 post x2 x3 x5 z0 x7_12 x8_14 ((yq_copyVal u) (x5 - 2).toNatClampNeg) u)))))))))) ∧ (¬ z0 ≤ x5 → (post 5 u))))))))))))) := rfl
def pqY_item_48 (post : Int32 → SY → Prop) (x1 : Int32) (x2 : Int32) (x3 : Int32) (x4 : Int32) (x5 : Int32) (u : SY) : Prop := match u with
  | (f_maxWords, f_maxCells, f_maxLevels, f_maxFuel, f_count, f_depth, f_copyDepth, f_agenda, f_listSize, f_nodes, f_first, f_last, a_kinds, a_args, a_size, a_cellKind, a_cellVal, a_copyKind, a_copyVal, a_agKind, a_agVal, a_agLevel, a_list, a_pend, a_outer, a_begin, a_todo, a_nodeKind, a_left, a_right, a_cls, a_def, a_symbol, a_finite) => wY_item_48 post x1 x2 x3 x4 x5 f_maxWords f_maxCells f_maxLevels f_maxFuel f_count f_depth f_copyDepth f_agenda f_listSize f_nodes f_first f_last a_kinds a_args a_size a_cellKind a_cellVal a_copyKind a_copyVal a_agKind a_agVal a_agLevel a_list a_pend a_outer a_begin a_todo a_nodeKind a_left a_right a_cls a_def a_symbol a_finite
theorem pqY_item_48_e (post : Int32 → SY → Prop) (x1 : Int32) (x2 : Int32) (x3 : Int32) (x4 : Int32) (x5 : Int32) (u : SY) : pqY_item_48 post x1 x2 x3 x4 x5 u = (pqY_item_53 post x1 x2 x3 x4 x5 1 u) := rfl
theorem we_Y_item (post : Int32 → SY → Prop) (u : SY) (p0 : Int32) (p1 : Int32) : wpY_item post u p0 p1 = (vp_in p0 256 ∧ (∀ x3_2 : Int32 , x3_2 = (yq_kinds u) p0.toNatClampNeg → (vp_in p0 256 ∧ (∀ x4_4 : Int32 , x4_4 = (yq_args u) p0.toNatClampNeg → (((x3_2 = 13 → (pqY_item_53 post p0 p1 x3_2 x4_4 (yq_copyDepth u) 3 u)) ∧ (¬ x3_2 = 13 → (((x3_2 = 5 → (pqY_item_48 post p0 p1 x3_2 x4_4 (yq_copyDepth u) u)) ∧ (¬ x3_2 = 5 → (((x3_2 = 6 → (pqY_item_48 post p0 p1 x3_2 x4_4 (yq_copyDepth u) u)) ∧ (¬ x3_2 = 6 → (((x3_2 = 11 → (pqY_item_48 post p0 p1 x3_2 x4_4 (yq_copyDepth u) u)) ∧ (¬ x3_2 = 11 → (pqY_item_53 post p0 p1 x3_2 x4_4 (yq_copyDepth u) 2 u))))))))))))))))) := rfl
def lqY_run_223 (post : Int32 → SY → Prop) (n : Nat) (x4 : Int32) (u : SY) : Prop := match u with
  | (f_maxWords, f_maxCells, f_maxLevels, f_maxFuel, f_count, f_depth, f_copyDepth, f_agenda, f_listSize, f_nodes, f_first, f_last, a_kinds, a_args, a_size, a_cellKind, a_cellVal, a_copyKind, a_copyVal, a_agKind, a_agVal, a_agLevel, a_list, a_pend, a_outer, a_begin, a_todo, a_nodeKind, a_left, a_right, a_cls, a_def, a_symbol, a_finite) => wY_run_223 post f_maxWords f_maxCells f_maxLevels f_maxFuel f_count f_depth f_copyDepth f_agenda f_listSize f_nodes f_first f_last n x4 a_kinds a_args a_size a_cellKind a_cellVal a_copyKind a_copyVal a_agKind a_agVal a_agLevel a_list a_pend a_outer a_begin a_todo a_nodeKind a_left a_right a_cls a_def a_symbol a_finite
theorem lqY_run_223_s (post : Int32 → SY → Prop) (n : Nat) (x4 : Int32) (u : SY) : lqY_run_223 post (n + 1) x4 u = ((((yq_copyDepth u) ≤ x4 → (post 1 (ys_depth u (yq_copyDepth u)))) ∧ (¬ (yq_copyDepth u) ≤ x4 → (vp_in x4 16 ∧ (vp_in x4 16 ∧ ∀ a_cellKind_45 : Nat → Int32 , a_cellKind_45 = upd (yq_cellKind u) x4.toNatClampNeg ((yq_copyKind u) x4.toNatClampNeg) → (vp_in x4 16 ∧ (vp_in x4 16 ∧ ∀ a_cellVal_48 : Nat → Int32 , a_cellVal_48 = upd (yq_cellVal u) x4.toNatClampNeg ((yq_copyVal u) x4.toNatClampNeg) → (∀ x4_49 : Int32 , x4_49 = x4 + 1 → (lqY_run_223 post n x4_49 (ys_cellKind_cellVal u a_cellKind_45 a_cellVal_48)))))))))) := rfl
def pqY_run_213 (post : Int32 → SY → Prop) (x3 : Int32) (u : SY) : Prop := match u with
  | (f_maxWords, f_maxCells, f_maxLevels, f_maxFuel, f_count, f_depth, f_copyDepth, f_agenda, f_listSize, f_nodes, f_first, f_last, a_kinds, a_args, a_size, a_cellKind, a_cellVal, a_copyKind, a_copyVal, a_agKind, a_agVal, a_agLevel, a_list, a_pend, a_outer, a_begin, a_todo, a_nodeKind, a_left, a_right, a_cls, a_def, a_symbol, a_finite) => wY_run_213 post x3 f_maxWords f_maxCells f_maxLevels f_maxFuel f_count f_depth f_copyDepth f_agenda f_listSize f_nodes f_first f_last a_kinds a_args a_size a_cellKind a_cellVal a_copyKind a_copyVal a_agKind a_agVal a_agLevel a_list a_pend a_outer a_begin a_todo a_nodeKind a_left a_right a_cls a_def a_symbol a_finite
theorem pqY_run_213_e (post : Int32 → SY → Prop) (x3 : Int32) (u : SY) : pqY_run_213 post x3 u = (((x3 = 1 → (∃ n223 : Nat , lqY_run_223 post n223 0 u)) ∧ (¬ x3 = 1 → (post x3 u)))) := rfl
def lqY_run_101 (post : Int32 → SY → Prop) (n : Nat) (x2 : Int32) (x3 : Int32) (x4 : Int32) (u : SY) : Prop := match u with
  | (f_maxWords, f_maxCells, f_maxLevels, f_maxFuel, f_count, f_depth, f_copyDepth, f_agenda, f_listSize, f_nodes, f_first, f_last, a_kinds, a_args, a_size, a_cellKind, a_cellVal, a_copyKind, a_copyVal, a_agKind, a_agVal, a_agLevel, a_list, a_pend, a_outer, a_begin, a_todo, a_nodeKind, a_left, a_right, a_cls, a_def, a_symbol, a_finite) => wY_run_101 post n x2 x3 x4 f_maxWords f_maxCells f_maxLevels f_maxFuel f_count f_depth f_copyDepth f_agenda f_listSize f_nodes f_first f_last a_kinds a_args a_size a_cellKind a_cellVal a_copyKind a_copyVal a_agKind a_agVal a_agLevel a_list a_pend a_outer a_begin a_todo a_nodeKind a_left a_right a_cls a_def a_symbol a_finite
theorem lqY_run_101_s (post : Int32 → SY → Prop) (n : Nat) (x2 : Int32) (x3 : Int32) (x4 : Int32) (u : SY) : lqY_run_101 post (n + 1) x2 x3 x4 u = (((2100 ≤ x4 → (pqY_run_213 post x3 u)) ∧ (¬ 2100 ≤ x4 → ((((yq_agenda u) ≤ 0 → (pqY_run_213 post x3 u)) ∧ (¬ (yq_agenda u) ≤ 0 → (((x3 = 1 → (∀ f_agenda_52 : Int32 , f_agenda_52 = (yq_agenda u) - 1 → (vp_in f_agenda_52 1100 ∧ (((((yq_agKind u) f_agenda_52.toNatClampNeg) = 0 → (∀ x2_55 : Int32 , x2_55 = x2 + 1 → (((x2 = (yq_maxFuel u) → (∀ x4_95 : Int32 , x4_95 = x4 + 1 → (lqY_run_101 post n x2_55 2 x4_95 (ys_agenda u f_agenda_52)))) ∧ (¬ x2 = (yq_maxFuel u) → (vp_in f_agenda_52 1100 ∧ (vp_in f_agenda_52 1100 ∧ (wpY_item (fun r_59 u1 => (∀ x4_94 : Int32 , x4_94 = x4 + 1 → (lqY_run_101 post n x2_55 r_59 x4_94 u1))) (ys_agenda u f_agenda_52) ((yq_agVal u) f_agenda_52.toNatClampNeg) ((yq_agLevel u) f_agenda_52.toNatClampNeg))))))))) ∧ (¬ ((yq_agKind u) f_agenda_52.toNatClampNeg) = 0 → (vp_in f_agenda_52 1100 ∧ (vp_in f_agenda_52 1100 ∧ (wpY_put (fun r_98 u2 => (∀ x4_133 : Int32 , x4_133 = x4 + 1 → (lqY_run_101 post n x2 r_98 x4_133 u2))) (ys_agenda u f_agenda_52) ((yq_agKind u) f_agenda_52.toNatClampNeg) ((yq_agVal u) f_agenda_52.toNatClampNeg)))))))))) ∧ (¬ x3 = 1 → (pqY_run_213 post x3 u)))))))))) := rfl
def lqY_run_34 (post : Int32 → SY → Prop) (x1 : Int32) (x2 : Int32) (x3 : Int32) (n : Nat) (x4 : Int32) (u : SY) : Prop := match u with
  | (f_maxWords, f_maxCells, f_maxLevels, f_maxFuel, f_count, f_depth, f_copyDepth, f_agenda, f_listSize, f_nodes, f_first, f_last, a_kinds, a_args, a_size, a_cellKind, a_cellVal, a_copyKind, a_copyVal, a_agKind, a_agVal, a_agLevel, a_list, a_pend, a_outer, a_begin, a_todo, a_nodeKind, a_left, a_right, a_cls, a_def, a_symbol, a_finite) => wY_run_34 post x1 x2 x3 f_maxWords f_maxCells f_maxLevels f_maxFuel f_count f_depth f_copyDepth f_agenda f_listSize f_nodes f_first f_last n x4 a_kinds a_args a_size a_cellKind a_cellVal a_copyKind a_copyVal a_agKind a_agVal a_agLevel a_list a_pend a_outer a_begin a_todo a_nodeKind a_left a_right a_cls a_def a_symbol a_finite
theorem lqY_run_34_s (post : Int32 → SY → Prop) (x1 : Int32) (x2 : Int32) (x3 : Int32) (n : Nat) (x4 : Int32) (u : SY) : lqY_run_34 post x1 x2 x3 (n + 1) x4 u = ((((yq_depth u) ≤ x4 → (vp_in x1 8 ∧ (wpY_body (fun r_5 u1 => (∃ n101 : Nat , lqY_run_101 post n101 x2 x3 0 u1)) u (32 * x1) ((32 * x1) + ((yq_size u) x1.toNatClampNeg)) 1))) ∧ (¬ (yq_depth u) ≤ x4 → (vp_in x4 16 ∧ (vp_in x4 16 ∧ ∀ a_copyKind_136 : Nat → Int32 , a_copyKind_136 = upd (yq_copyKind u) x4.toNatClampNeg ((yq_cellKind u) x4.toNatClampNeg) → (vp_in x4 16 ∧ (vp_in x4 16 ∧ ∀ a_copyVal_139 : Nat → Int32 , a_copyVal_139 = upd (yq_copyVal u) x4.toNatClampNeg ((yq_cellVal u) x4.toNatClampNeg) → (∀ x4_140 : Int32 , x4_140 = x4 + 1 → (lqY_run_34 post x1 x2 x3 n x4_140 (ys_copyKind_copyVal u a_copyKind_136 a_copyVal_139)))))))))) := rfl
theorem we_Y_run (post : Int32 → SY → Prop) (u : SY) (p0 : Int32) : wpY_run post u p0 = (((p0 < 0 → (post (- 1) u)) ∧ (¬ p0 < 0 → (((p0 < (yq_count u) → (∃ n34 : Nat , lqY_run_34 post p0 0 1 n34 0 (ys_copyDepth_agenda u (yq_depth u) 0))) ∧ (¬ p0 < (yq_count u) → (post (- 1) u))))))) := rfl
end
end
section
/-! the component's type graph: make, find, join, unify -/
section
variable {c : SX} {t : sv_TX}
def xo_V (t : sv_TX) (m : Nat → Nat) : Prop := sv_gv (tx_n t) (tx_K t) (tx_A t) (tx_B t) (tx_P t) m
def xo_G (t : sv_TX) : Prop := tx_n t ≤ 400 ∧ sv_uf (tx_n t) (tx_P t) (tx_R t) (tx_D t) ∧ sv_kw (tx_n t) (tx_K t) (tx_A t) (tx_B t) ∧ (∀ i, i < tx_n t → sv_rb (tx_K t (tx_R t i)) = sv_rb (tx_K t i)) ∧ (tx_s t = 0 ∨ tx_s t = 1) ∧ (tx_s t = 1 → sv_cl (tx_n t) (tx_K t) (tx_A t) (tx_B t) (tx_R t))
def xo_mk (t : sv_TX) (k a b : Nat) : sv_TX := (tx_n t + 1, tx_s t, tx_st t, tx_rw t, tx_ne t, sv_un (tx_K t) (tx_n t) k, sv_un (tx_A t) (tx_n t) a, sv_un (tx_B t) (tx_n t) b, sv_un (tx_P t) (tx_n t) (tx_n t), sv_un (tx_R t) (tx_n t) (tx_n t), sv_un (tx_D t) (tx_n t) 0, tx_M t, tx_Q t, tx_L t, tx_G t, tx_oR t, tx_oS t, tx_cP t, tx_cE t)
theorem xo_make {post : Int32 → SX → Prop} {k a b : Nat} (hn : tx_n t < 512) (h : post (nI (tx_n t)) (gx c (xo_mk t k a b))) : wpX_make post (gx c t) (nI k) (nI a) (nI b) := by
  rw [we_X_make]
  have hi : vp_in (nI (tx_n t)) 512 := vp_in_nI hn (by omega)
  have hb : tx_n t < 2 ^ 31 := by omega
  exact nm_r (nI_1 (tx_n t)) ⟨hi, nm_r (sv_naU hb) ⟨hi, nm_r (sv_naU hb) ⟨hi, nm_r (sv_naU hb) ⟨hi, nm_r (sv_naU hb) h⟩⟩⟩⟩
end
end
section
section
variable {c : SX} {t : sv_TX}
/-- what a new node may be -/
def xo_mkok (t : sv_TX) (k a b : Nat) : Prop := sv_kd k ∧ (k = 4 → tx_n t = 0 ∨ tx_K t 0 = 4) ∧ a ≤ tx_n t ∧ b ≤ tx_n t ∧ (k = 2 → a < tx_n t ∧ b < tx_n t ∧ sv_rb (tx_K t a) = true ∧ sv_rb (tx_K t b) = true) ∧ (k = 5 → a < tx_n t ∧ b < tx_n t ∧ sv_rb (tx_K t a) = true ∧ sv_rb (tx_K t b) = false)
theorem xo_mk_G {k a b : Nat} (h : xo_G t) (hn : tx_n t < 400) (ok : xo_mkok t k a b) : xo_G (xo_mk t k a b) := by
  obtain ⟨h1, h2, h3, h4, h5, h6⟩ := h
  obtain ⟨o1, o2, o3, o4, o5, o6⟩ := ok
  refine ⟨?_, sv_uf_make h2, ?_, ?_, h5, ?_⟩
  · show tx_n t + 1 ≤ 400
    omega
  · intro i hi
    have hi : i < tx_n t + 1 := hi
    show sv_kd (sv_un (tx_K t) (tx_n t) k i) ∧ sv_un (tx_A t) (tx_n t) a i < tx_n t + 1 ∧ sv_un (tx_B t) (tx_n t) b i < tx_n t + 1 ∧ (sv_un (tx_K t) (tx_n t) k i = 2 → sv_rb (sv_un (tx_K t) (tx_n t) k (sv_un (tx_A t) (tx_n t) a i)) = true ∧ sv_rb (sv_un (tx_K t) (tx_n t) k (sv_un (tx_B t) (tx_n t) b i)) = true) ∧ (sv_un (tx_K t) (tx_n t) k i = 5 → sv_rb (sv_un (tx_K t) (tx_n t) k (sv_un (tx_A t) (tx_n t) a i)) = true ∧ sv_rb (sv_un (tx_K t) (tx_n t) k (sv_un (tx_B t) (tx_n t) b i)) = false) ∧ (sv_un (tx_K t) (tx_n t) k i = 4 → sv_un (tx_K t) (tx_n t) k 0 = 4)
    by_cases e : i = tx_n t
    · subst e
      rw [sv_us, sv_us, sv_us]
      refine ⟨o1, by omega, by omega, fun z => ?_, fun z => ?_, fun z => ?_⟩
      · obtain ⟨p1, p2, p3, p4⟩ := o5 z
        rw [sv_uo (by omega), sv_uo (by omega)]; exact ⟨p3, p4⟩
      · obtain ⟨p1, p2, p3, p4⟩ := o6 z
        rw [sv_uo (by omega), sv_uo (by omega)]; exact ⟨p3, p4⟩
      · rcases o2 z with q | q
        · rw [q, sv_us]; exact z
        · by_cases q2 : tx_n t = 0
          · rw [q2, sv_us]; exact z
          · rw [sv_uo (by omega)]; exact q
    · obtain ⟨w1, w2, w3, w4, w5, w6⟩ := h3 i (by omega)
      rw [sv_uo e, sv_uo e, sv_uo e, sv_uo (j := tx_A t i) (by omega), sv_uo (j := tx_B t i) (by omega), sv_uo (j := 0) (by omega)]
      exact ⟨w1, by omega, by omega, w4, w5, w6⟩
  · intro i hi
    have hi : i < tx_n t + 1 := hi
    show sv_rb (sv_un (tx_K t) (tx_n t) k (sv_un (tx_R t) (tx_n t) (tx_n t) i)) = sv_rb (sv_un (tx_K t) (tx_n t) k i)
    by_cases e : i = tx_n t
    · rw [e, sv_us]
    · have := (h2 i (by omega)).2.1
      rw [sv_uo e, sv_uo e, sv_uo (by omega)]
      exact h4 i (by omega)
  · intro hs
    have hc := h6 hs
    intro i hi
    have hi : i < tx_n t + 1 := hi
    show sv_un (tx_K t) (tx_n t) k i ≠ 100 ∧ sv_un (tx_K t) (tx_n t) k i ≠ 200 → sv_un (tx_K t) (tx_n t) k (sv_un (tx_R t) (tx_n t) (tx_n t) i) = sv_un (tx_K t) (tx_n t) k i ∧ (sv_un (tx_K t) (tx_n t) k i = 2 ∨ sv_un (tx_K t) (tx_n t) k i = 5 → sv_un (tx_R t) (tx_n t) (tx_n t) (sv_un (tx_A t) (tx_n t) a i) = sv_un (tx_R t) (tx_n t) (tx_n t) (sv_un (tx_A t) (tx_n t) a (sv_un (tx_R t) (tx_n t) (tx_n t) i)) ∧ sv_un (tx_R t) (tx_n t) (tx_n t) (sv_un (tx_B t) (tx_n t) b i) = sv_un (tx_R t) (tx_n t) (tx_n t) (sv_un (tx_B t) (tx_n t) b (sv_un (tx_R t) (tx_n t) (tx_n t) i)))
    by_cases e : i = tx_n t
    · intro _
      rw [e, sv_us (f := tx_R t)]
      exact ⟨rfl, fun _ => ⟨rfl, rfl⟩⟩
    · have hr := (h2 i (by omega)).2.1
      obtain ⟨w1, w2, w3, w4, w5, w6⟩ := h3 i (by omega)
      obtain ⟨x1, x2, x3, x4, x5, x6⟩ := h3 _ hr
      rw [sv_uo e, sv_uo e, sv_uo e, sv_uo e, sv_uo (j := tx_R t i) (by omega), sv_uo (j := tx_R t i) (by omega), sv_uo (j := tx_R t i) (by omega), sv_uo (j := tx_A t i) (by omega), sv_uo (j := tx_B t i) (by omega), sv_uo (j := tx_A t (tx_R t i)) (by omega), sv_uo (j := tx_B t (tx_R t i)) (by omega)]
      exact hc i (by omega)
theorem xo_mk_V1 {k a b : Nat} {m : Nat → Nat} (h3 : sv_kw (tx_n t) (tx_K t) (tx_A t) (tx_B t)) (h : xo_V (xo_mk t k a b) m) : xo_V t m ∧ sv_ns k (m a) (m b) (m (tx_n t)) := by
  constructor
  · intro i hi
    have := h i (show i < tx_n t + 1 by omega)
    have e : i ≠ tx_n t := by omega
    change m i = m (sv_un (tx_P t) (tx_n t) (tx_n t) i) ∧ sv_ns (sv_un (tx_K t) (tx_n t) k i) (m (sv_un (tx_A t) (tx_n t) a i)) (m (sv_un (tx_B t) (tx_n t) b i)) (m i) at this
    rw [sv_uo e, sv_uo e, sv_uo e, sv_uo e] at this
    exact this
  · have := h (tx_n t) (show tx_n t < tx_n t + 1 by omega)
    change m (tx_n t) = m (sv_un (tx_P t) (tx_n t) (tx_n t) (tx_n t)) ∧ sv_ns (sv_un (tx_K t) (tx_n t) k (tx_n t)) (m (sv_un (tx_A t) (tx_n t) a (tx_n t))) (m (sv_un (tx_B t) (tx_n t) b (tx_n t))) (m (tx_n t)) at this
    rw [sv_us, sv_us, sv_us, sv_us] at this
    exact this.2
theorem xo_ns_any {k a b a' b' T : Nat} (h : sv_ns k a b T) (h2 : k = 2 → a = a' ∧ b = b') (h5 : k = 5 → a = a' ∧ b = b') : sv_ns k a' b' T := by
  refine ⟨h.1, h.2.1, fun z => ?_, fun z => ?_⟩
  · rw [← (h2 z).1, ← (h2 z).2]; exact h.2.2.1 z
  · rw [← (h5 z).1, ← (h5 z).2]; exact h.2.2.2 z
theorem xo_mk_V2 {k a b T : Nat} {m : Nat → Nat} (G : xo_G t) (ok : xo_mkok t k a b) (h : xo_V t m) (hT : sv_ns k (m a) (m b) T) : xo_V (xo_mk t k a b) (sv_un m (tx_n t) T) := by
  obtain ⟨h1, h2, h3, h4, h5, h6⟩ := G
  obtain ⟨o1, o2, o3, o4, o5, o6⟩ := ok
  intro i hi
  have hi : i < tx_n t + 1 := hi
  show sv_un m (tx_n t) T i = sv_un m (tx_n t) T (sv_un (tx_P t) (tx_n t) (tx_n t) i) ∧ sv_ns (sv_un (tx_K t) (tx_n t) k i) (sv_un m (tx_n t) T (sv_un (tx_A t) (tx_n t) a i)) (sv_un m (tx_n t) T (sv_un (tx_B t) (tx_n t) b i)) (sv_un m (tx_n t) T i)
  by_cases e : i = tx_n t
  · subst e
    rw [sv_us (f := tx_P t), sv_us (f := tx_K t), sv_us (f := tx_A t), sv_us (f := tx_B t), sv_us (f := m)]
    refine ⟨rfl, xo_ns_any hT (fun z => ?_) (fun z => ?_)⟩
    · obtain ⟨p1, p2, p3, p4⟩ := o5 z
      rw [sv_uo (by omega), sv_uo (by omega)]; exact ⟨rfl, rfl⟩
    · obtain ⟨p1, p2, p3, p4⟩ := o6 z
      rw [sv_uo (by omega), sv_uo (by omega)]; exact ⟨rfl, rfl⟩
  · obtain ⟨w1, w2, w3, w4, w5, w6⟩ := h3 i (by omega)
    have hp := (h2 i (by omega)).1
    rw [sv_uo e, sv_uo e, sv_uo e, sv_uo e, sv_uo e, sv_uo (j := tx_P t i) (by omega), sv_uo (j := tx_A t i) (by omega), sv_uo (j := tx_B t i) (by omega)]
    exact h i (by omega)
end
end
section
section
variable {c : SX} {t : sv_TX}
/-- find -/
theorem xo_find_l {post : Int32 → Prop} (hn : tx_n t ≤ 400) (U : sv_uf (tx_n t) (tx_P t) (tx_R t) (tx_D t)) : ∀ N j s, tx_D t j < N → j < tx_n t → s + tx_D t j < tx_n t → post (nI (tx_R t j)) → lqX_find_4 post N (nI j) (nI s) (gx c t) := by
  intro N
  induction N with
  | zero => intro j s h; omega
  | succ N ih =>
    intro j s hd hj hs hp
    rw [lqX_find_4_s]
    obtain ⟨h1, h2, h3, h4, h5, h6, h7⟩ := U j hj
    have hi : vp_in (nI j) 512 := vp_in_nI (by omega) (by omega)
    have ea : sv_na (tx_P t) (nI j).toNatClampNeg = nI (tx_P t j) := sv_naA (by omega)
    refine br_f (nI_ge (a := s) (b := tx_n t) (by omega) (by omega)) ⟨hi, ?_⟩
    by_cases e : tx_P t j = j
    · refine br_t (show sv_na (tx_P t) (nI j).toNatClampNeg = nI j by rw [ea, e]) ?_
      rw [(h5 e).1] at hp
      exact hp
    · refine br_f (show ¬ sv_na (tx_P t) (nI j).toNatClampNeg = nI j by rw [ea, nI_eq (by omega) (by omega)]; exact e) ⟨hi, nm_r ea (nm_r (nI_1 s) ?_)⟩
      have := h6 e
      exact ih (tx_P t j) (s + 1) (by omega) h1 (by omega) (by rw [h3]; exact hp)
theorem xo_find {post : Int32 → Prop} {i : Nat} (hn : tx_n t ≤ 400) (U : sv_uf (tx_n t) (tx_P t) (tx_R t) (tx_D t)) (hi : i < tx_n t) (h : post (nI (tx_R t i))) : wpX_find post (gx c t) (nI i) := by
  rw [we_X_find]
  have := sv_uf_lt U hi
  exact ⟨tx_D t i + 1, xo_find_l hn U _ i 0 (by omega) hi (by omega) h⟩
theorem xo_kd_le {k : Nat} (h : sv_kd k) : k ≤ 200 := by rcases h with h | h | h | h | h | h <;> omega
theorem xo_isVar1 {post : Int32 → Prop} {i : Nat} (hi : i < 512) (hk : tx_K t i ≤ 200) (hv : tx_K t i = 100 ∨ tx_K t i = 200) (h : post 1) : wpX_isVariable post (gx c t) (nI i) := by
  rw [we_X_isVariable]
  have hb : vp_in (nI i) 512 := vp_in_nI (by omega) (by omega)
  have ea : sv_na (tx_K t) (nI i).toNatClampNeg = nI (tx_K t i) := sv_naA (by omega)
  refine ⟨hb, pk_eq (tx_K t i) 100 (fun _ => h) (fun e => ⟨hb, br_t ?_ h⟩) ea rfl (by omega) (by omega)⟩
  show sv_na (tx_K t) (nI i).toNatClampNeg = 200
  rw [ea]; rcases hv with hv | hv
  · exact absurd hv e
  · rw [hv]; rfl
theorem xo_isVar0 {post : Int32 → Prop} {i : Nat} (hi : i < 512) (hk : tx_K t i ≤ 200) (hv : tx_K t i ≠ 100 ∧ tx_K t i ≠ 200) (h : post 0) : wpX_isVariable post (gx c t) (nI i) := by
  rw [we_X_isVariable]
  have hb : vp_in (nI i) 512 := vp_in_nI (by omega) (by omega)
  have ea : sv_na (tx_K t) (nI i).toNatClampNeg = nI (tx_K t i) := sv_naA (by omega)
  exact ⟨hb, pk_eq (tx_K t i) 100 (fun e => absurd e hv.1) (fun _ => ⟨hb, pk_eq (tx_K t i) 200 (fun e => absurd e hv.2) (fun _ => h) ea rfl (by omega) (by omega)⟩) ea rfl (by omega) (by omega)⟩
theorem xo_parts1 {post : Int32 → Prop} {i : Nat} (hi : i < 512) (hk : tx_K t i ≤ 200) (hv : tx_K t i = 2 ∨ tx_K t i = 5) (h : post 1) : wpX_hasParts post (gx c t) (nI i) := by
  rw [we_X_hasParts]
  have hb : vp_in (nI i) 512 := vp_in_nI (by omega) (by omega)
  have ea : sv_na (tx_K t) (nI i).toNatClampNeg = nI (tx_K t i) := sv_naA (by omega)
  exact ⟨hb, pk_eq (tx_K t i) 2 (fun _ => h) (fun e => ⟨hb, pk_eq (tx_K t i) 5 (fun _ => h) (fun e2 => absurd hv (by omega)) ea rfl (by omega) (by omega)⟩) ea rfl (by omega) (by omega)⟩
theorem xo_parts0 {post : Int32 → Prop} {i : Nat} (hi : i < 512) (hk : tx_K t i ≤ 200) (hv : ¬ (tx_K t i = 2 ∨ tx_K t i = 5)) (h : post 0) : wpX_hasParts post (gx c t) (nI i) := by
  rw [we_X_hasParts]
  have hb : vp_in (nI i) 512 := vp_in_nI (by omega) (by omega)
  have ea : sv_na (tx_K t) (nI i).toNatClampNeg = nI (tx_K t i) := sv_naA (by omega)
  exact ⟨hb, pk_eq (tx_K t i) 2 (fun e => absurd (Or.inl e) hv) (fun e => ⟨hb, pk_eq (tx_K t i) 5 (fun e => absurd (Or.inr e) hv) (fun _ => h) ea rfl (by omega) (by omega)⟩) ea rfl (by omega) (by omega)⟩
end
end
section
section
variable {c : SX} {t : sv_TX}
/-- the state with another forest and other pending pairs -/
def xo_ps (t : sv_TX) (s : Nat) (P R D L G : Nat → Nat) : sv_TX := (tx_n t, s, tx_st t, tx_rw t, tx_ne t, tx_K t, tx_A t, tx_B t, P, R, D, tx_M t, tx_Q t, L, G, tx_oR t, tx_oS t, tx_cP t, tx_cE t)
variable {s : Nat} {P R D L G : Nat → Nat}
theorem xo_ps_parent (P' : Nat → Nat) : xs_parent (gx c (xo_ps t s P R D L G)) (sv_na P') = gx c (xo_ps t s P' R D L G) := rfl
theorem xo_ps_sound : xs_sound (gx c (xo_ps t s P R D L G)) 0 = gx c (xo_ps t 0 P R D L G) := rfl
theorem xo_ps_K : tx_K (xo_ps t s P R D L G) = tx_K t := rfl
theorem xo_ps_qP : xq_parent (gx c (xo_ps t s P R D L G)) = sv_na P := rfl
theorem xo_ps_qK : xq_nodeKind (gx c (xo_ps t s P R D L G)) = sv_na (tx_K t) := rfl
theorem xo_join_a {post : Int32 → SX → Prop} {x y : Nat} (hx : x < 512) (hkx : tx_K t x ≤ 200) (hv : tx_K t x = 100 ∨ tx_K t x = 200) (h : post 0 (gx c (xo_ps t s (sv_un P x y) R D L G))) : wpX_join post (gx c (xo_ps t s P R D L G)) (nI x) (nI y) := by
  rw [we_X_join]
  refine xo_isVar1 (t := xo_ps t s P R D L G) hx hkx hv ?_
  refine br_f (by decide) ⟨vp_in_nI hx (by omega), ?_⟩
  rw [xo_ps_qP, sv_naU (by omega)]
  refine nm_e ?_
  rw [xo_ps_parent]
  exact h
theorem xo_join_b {post : Int32 → SX → Prop} {x y : Nat} (hx : x < 512) (hkx : tx_K t x ≤ 200) (hv : tx_K t x ≠ 100 ∧ tx_K t x ≠ 200) (hy : y < 512) (hky : tx_K t y ≤ 200) (hw : tx_K t y = 100 ∨ tx_K t y = 200) (h : post 0 (gx c (xo_ps t s (sv_un P y x) R D L G))) : wpX_join post (gx c (xo_ps t s P R D L G)) (nI x) (nI y) := by
  rw [we_X_join]
  refine xo_isVar0 (t := xo_ps t s P R D L G) hx hkx hv ?_
  refine br_t rfl (xo_isVar1 (t := xo_ps t s P R D L G) hy hky hw ?_)
  refine br_f (by decide) ⟨vp_in_nI hy (by omega), ?_⟩
  rw [xo_ps_qP, sv_naU (by omega)]
  refine nm_e ?_
  rw [xo_ps_parent]
  exact h
theorem xo_join_c {post : Int32 → SX → Prop} {x y : Nat} (hx : x < 512) (hkx : tx_K t x ≤ 200) (hv : tx_K t x ≠ 100 ∧ tx_K t x ≠ 200) (hy : y < 512) (he : tx_K t x = tx_K t y) (h1 : tx_K t y = 2 ∨ tx_K t y = 5 → post 1 (gx c (xo_ps t s (sv_un P x y) R D L G))) (h0 : ¬ (tx_K t y = 2 ∨ tx_K t y = 5) → post 0 (gx c (xo_ps t s (sv_un P x y) R D L G))) : wpX_join post (gx c (xo_ps t s P R D L G)) (nI x) (nI y) := by
  rw [we_X_join]
  have hky : tx_K t y ≤ 200 := by rw [← he]; exact hkx
  have hw : tx_K t y ≠ 100 ∧ tx_K t y ≠ 200 := by rw [← he]; exact hv
  refine xo_isVar0 (t := xo_ps t s P R D L G) hx hkx hv ?_
  refine br_t rfl (xo_isVar0 (t := xo_ps t s P R D L G) hy hky hw ?_)
  refine br_t rfl ⟨vp_in_nI hx (by omega), vp_in_nI hy (by omega), br_t ?_ ⟨vp_in_nI hx (by omega), ?_⟩⟩
  · rw [xo_ps_qK, sv_naA (by omega), sv_naA (by omega), he]
  · rw [xo_ps_qP, sv_naU (by omega)]
    refine nm_e ?_
    rw [xo_ps_parent]
    by_cases q : tx_K t y = 2 ∨ tx_K t y = 5
    · exact xo_parts1 (t := xo_ps t s (sv_un P x y) R D L G) hy hky q ⟨rfl, h1 q⟩
    · exact xo_parts0 (t := xo_ps t s (sv_un P x y) R D L G) hy hky q ⟨rfl, h0 q⟩
theorem xo_join_d {post : Int32 → SX → Prop} {x y : Nat} (hx : x < 512) (hkx : tx_K t x ≤ 200) (hv : tx_K t x ≠ 100 ∧ tx_K t x ≠ 200) (hy : y < 512) (hky : tx_K t y ≤ 200) (hw : tx_K t y ≠ 100 ∧ tx_K t y ≠ 200) (he : tx_K t x ≠ tx_K t y) (h : post 0 (gx c (xo_ps t 0 P R D L G))) : wpX_join post (gx c (xo_ps t s P R D L G)) (nI x) (nI y) := by
  rw [we_X_join]
  refine xo_isVar0 (t := xo_ps t s P R D L G) hx hkx hv ?_
  refine br_t rfl (xo_isVar0 (t := xo_ps t s P R D L G) hy hky hw ?_)
  refine br_t rfl ⟨vp_in_nI hx (by omega), vp_in_nI hy (by omega), br_f ?_ ?_⟩
  rotate_left
  · rw [xo_ps_sound]; exact h
  rw [xo_ps_qK, sv_naA (by omega), sv_naA (by omega), nI_eq (by omega) (by omega)]
  exact he
end
end
section
/-! unify: closed modulo the pending pairs, over all colourings -/
section
def xu_I (n : Nat) (K A B P0 : Nat → Nat) (a b : Nat) (P R D L G : Nat → Nat) (top step : Nat) : Prop :=
  sv_uf n P R D ∧ (∀ i, i < n → sv_rb (K (R i)) = sv_rb (K i)) ∧
  (∀ i, i < n → K i ≠ 100 ∧ K i ≠ 200 → K (R i) = K i) ∧
  (∀ f, sv_ff n P f → (∀ k, k < top → f (L k) = f (G k)) → ∀ i, i < n → (K i = 2 ∨ K i = 5) → f (A i) = f (A (R i)) ∧ f (B i) = f (B (R i))) ∧
  (∀ k, k < top → L k < n ∧ G k < n ∧ sv_rb (K (L k)) = sv_rb (K (G k))) ∧
  (∀ f, sv_ff n P f → (∀ k, k < top → f (L k) = f (G k)) → f a = f b ∧ sv_ff n P0 f) ∧
  (∀ m, sv_gv n K A B P0 m → m a = m b → sv_ff n P m ∧ ∀ k, k < top → m (L k) = m (G k)) ∧
  sv_cn (sv_nr P0) n ≤ sv_cn (sv_nr P) n ∧ step + top + 2 * sv_cn (sv_nr P0) n ≤ 1 + 2 * sv_cn (sv_nr P) n ∧ top + sv_cn (sv_nr P0) n ≤ 1 + sv_cn (sv_nr P) n
/-- what unify leaves -/
def xu_R (n : Nat) (K A B P0 : Nat → Nat) (a b : Nat) (s : Nat) (P R D : Nat → Nat) : Prop :=
  sv_uf n P R D ∧ (∀ i, i < n → sv_rb (K (R i)) = sv_rb (K i)) ∧ (s = 0 ∨ s = 1) ∧ (s = 1 → sv_cl n K A B R) ∧
  (s = 1 → ∀ f, sv_ff n P f → f a = f b ∧ sv_ff n P0 f) ∧
  (∀ m, sv_gv n K A B P0 m → m a = m b → s = 1 ∧ sv_ff n P m)
variable {n : Nat} {K A B P0 : Nat → Nat} {a b : Nat} {P R D L G : Nat → Nat} {top step : Nat}
theorem xu_exit (h : xu_I n K A B P0 a b P R D L G 0 step) : xu_R n K A B P0 a b 1 P R D := by
  obtain ⟨h1, h2, h3, h4, h5, h6, h7, h8, h9, h10⟩ := h
  refine ⟨h1, h2, Or.inr rfl, fun _ => ?_, fun _ f hf => h6 f hf (fun k hk => absurd hk (Nat.not_lt_zero k)), fun m hm e => ⟨rfl, (h7 m hm e).1⟩⟩
  intro i hi hv
  exact ⟨h3 i hi hv, fun hp => h4 R (sv_ff_self h1) (fun k hk => absurd hk (Nat.not_lt_zero k)) i hi hp⟩
theorem xu_same (h : xu_I n K A B P0 a b P R D L G (top + 1) step) (e : R (L top) = R (G top)) : xu_I n K A B P0 a b P R D L G top (step + 1) := by
  obtain ⟨h1, h2, h3, h4, h5, h6, h7, h8, h9, h10⟩ := h
  obtain ⟨p1, p2, p3⟩ := h5 top (by omega)
  have ext : ∀ f, sv_ff n P f → (∀ k, k < top → f (L k) = f (G k)) → ∀ k, k < top + 1 → f (L k) = f (G k) := by
    intro f hf hk k hk'
    by_cases q : k = top
    · subst q; rw [sv_ff_r h1 hf p1, sv_ff_r h1 hf p2, e]
    · exact hk k (by omega)
  exact ⟨h1, h2, h3, fun f hf hk => h4 f hf (ext f hf hk), fun k hk => h5 k (by omega), fun f hf hk => h6 f hf (ext f hf hk), fun m hm e => ⟨(h7 m hm e).1, fun k hk => (h7 m hm e).2 k (by omega)⟩, h8, by omega, by omega⟩
theorem xu_join (h : xu_I n K A B P0 a b P R D L G (top + 1) step) {p q : Nat} (hpq : (p = R (L top) ∧ q = R (G top)) ∨ (q = R (L top) ∧ p = R (G top))) (ne : p ≠ q)
    (hk : (K p = 100 ∨ K p = 200) ∨ K p = K q) {L' G' : Nat → Nat} {top' : Nat} (ht : top ≤ top') (ht2 : top' ≤ top + 2) (hL : ∀ k, k < top → L' k = L k ∧ G' k = G k)
    (hP : ∀ k, top ≤ k → k < top' → L' k < n ∧ G' k < n ∧ sv_rb (K (L' k)) = sv_rb (K (G' k)))
    (hC : ∀ f : Nat → Nat, (∀ k, top ≤ k → k < top' → f (L' k) = f (G' k)) → (K p = 2 ∨ K p = 5) → f (A p) = f (A q) ∧ f (B p) = f (B q))
    (hM : ∀ m, sv_gv n K A B P0 m → m p = m q → ∀ k, top ≤ k → k < top' → m (L' k) = m (G' k)) :
    xu_I n K A B P0 a b (sv_un P p q) (sv_jR R p q) (sv_jD R D p) L' G' top' (step + 1) := by
  obtain ⟨h1, h2, h3, h4, h5, h6, h7, h8, h9, h10⟩ := h
  obtain ⟨p1, p2, p3⟩ := h5 top (by omega)
  have rl := (h1 _ p1).2.1
  have rg := (h1 _ p2).2.1
  have el := (h1 _ p1).2.2.2.1
  have eg := (h1 _ p2).2.2.2.1
  have hp : p < n := by rcases hpq with ⟨z, _⟩ | ⟨_, z⟩ <;> rw [z] <;> assumption
  have hq : q < n := by rcases hpq with ⟨_, z⟩ | ⟨z, _⟩ <;> rw [z] <;> assumption
  have ep : P p = p := by rcases hpq with ⟨z, _⟩ | ⟨_, z⟩ <;> rw [z] <;> assumption
  have eq : P q = q := by rcases hpq with ⟨_, z⟩ | ⟨z, _⟩ <;> rw [z] <;> assumption
  have sl := h2 _ p1
  have sg := h2 _ p2
  have spq : sv_rb (K p) = sv_rb (K q) := by
    rcases hpq with ⟨z, z'⟩ | ⟨z', z⟩ <;> rw [z, z', sl, sg, p3]
  have cj := sv_cn_join (n := n) (P := P) hp ep ne
  have flg : ∀ f, sv_ff n P f → (f p = f q ↔ f (L top) = f (G top)) := by
    intro f hf
    rw [sv_ff_r h1 hf p1, sv_ff_r h1 hf p2]
    rcases hpq with ⟨z, z'⟩ | ⟨z', z⟩ <;> rw [z, z']
    exact ⟨fun e => e.symm, fun e => e.symm⟩
  have ext : ∀ f, sv_ff n (sv_un P p q) f → (∀ k, k < top' → f (L' k) = f (G' k)) → sv_ff n P f ∧ f p = f q ∧ ∀ k, k < top + 1 → f (L k) = f (G k) := by
    intro f hf hk'
    obtain ⟨f1, f2⟩ := sv_ff_join hp ep hf
    refine ⟨f1, f2, fun k hk2 => ?_⟩
    by_cases z : k = top
    · subst z; exact (flg f f1).mp f2
    · have := hk' k (by omega)
      rw [(hL k (by omega)).1, (hL k (by omega)).2] at this
      exact this
  refine ⟨sv_uf_join h1 hp hq ep eq ne, ?_, ?_, ?_, ?_, ?_, ?_, by omega, by omega, by omega⟩
  · intro i hi
    show sv_rb (K (if R i = p then q else R i)) = _
    by_cases z : R i = p
    · rw [if_pos z, ← spq, ← z]; exact h2 i hi
    · rw [if_neg z]; exact h2 i hi
  · intro i hi hv
    show K (if R i = p then q else R i) = _
    by_cases z : R i = p
    · rw [if_pos z]
      have e := h3 i hi hv
      rw [z] at e
      rcases hk with hk | hk
      · omega
      · rw [← hk]; exact e
    · rw [if_neg z]; exact h3 i hi hv
  · intro f hf hk' i hi hp'
    obtain ⟨f1, f2, f3⟩ := ext f hf hk'
    have e := h4 f f1 f3 i hi hp'
    show f (A i) = f (A (if R i = p then q else R i)) ∧ f (B i) = f (B (if R i = p then q else R i))
    by_cases z : R i = p
    · rw [if_pos z]
      have e2 := h3 i hi (by omega)
      rw [z] at e2 e
      have e3 := hC f (fun k k1 k2 => hk' k k2) (by omega)
      rw [e.1, e.2]; exact e3
    · rw [if_neg z]; exact e
  · intro k hk'
    by_cases z : k < top
    · rw [(hL k z).1, (hL k z).2]; exact h5 k (by omega)
    · exact hP k (by omega) hk'
  · intro f hf hk'
    obtain ⟨f1, f2, f3⟩ := ext f hf hk'
    exact h6 f f1 f3
  · intro m hm e
    obtain ⟨m1, m2⟩ := h7 m hm e
    have e2 : m p = m q := (flg m m1).mpr (m2 top (by omega))
    refine ⟨sv_ff_join' m1 e2, fun k hk' => ?_⟩
    by_cases z : k < top
    · rw [(hL k z).1, (hL k z).2]; exact m2 k (by omega)
    · exact hM m hm e2 k (by omega) hk'
theorem xu_clash (hw : sv_kw n K A B) (h : xu_I n K A B P0 a b P R D L G (top + 1) step) (v1 : K (R (L top)) ≠ 100 ∧ K (R (L top)) ≠ 200) (v2 : K (R (G top)) ≠ 100 ∧ K (R (G top)) ≠ 200) (ne : K (R (L top)) ≠ K (R (G top))) : xu_R n K A B P0 a b 0 P R D := by
  obtain ⟨h1, h2, h3, h4, h5, h6, h7, h8, h9, h10⟩ := h
  obtain ⟨p1, p2, p3⟩ := h5 top (by omega)
  refine ⟨h1, h2, Or.inl rfl, fun z => absurd z (by decide), fun z => absurd z (by decide), fun m hm e => ?_⟩
  obtain ⟨m1, m2⟩ := h7 m hm e
  have e2 := m2 top (by omega)
  rw [sv_ff_r h1 m1 p1, sv_ff_r h1 m1 p2] at e2
  have g1 := (hm _ (h1 _ p1).2.1).2
  have g2 := (hm _ (h1 _ p2).2.1).2
  rw [e2] at g1
  exact absurd (sv_ns_eq g1 g2 (hw _ (h1 _ p1).2.1).1 (hw _ (h1 _ p2).2.1).1 v1 v2).1 ne
theorem xu_start (hw : sv_kw n K A B) (h1 : sv_uf n P0 R D) (h2 : ∀ i, i < n → sv_rb (K (R i)) = sv_rb (K i)) (h3 : sv_cl n K A B R) (ha : a < n) (hb : b < n) (hs : sv_rb (K a) = sv_rb (K b)) : xu_I n K A B P0 a b P0 R D (sv_un L 0 a) (sv_un G 0 b) 1 0 := by
  have e1 : sv_un L 0 a 0 = a := sv_us
  have e2 : sv_un G 0 b 0 = b := sv_us
  have z0 : ∀ k, k < 1 → k = 0 := fun k hk => by omega
  refine ⟨h1, h2, fun i hi hv => (h3 i hi hv).1, ?_, ?_, ?_, ?_, Nat.le_refl _, by omega, by omega⟩
  · intro f hf _ i hi hp
    have e := (h3 i hi (by omega)).2 hp
    have w := hw i hi
    have wr := hw (R i) (h1 i hi).2.1
    exact ⟨(sv_ff_r h1 hf w.2.1).trans ((congrArg f e.1).trans (sv_ff_r h1 hf wr.2.1).symm), (sv_ff_r h1 hf w.2.2.1).trans ((congrArg f e.2).trans (sv_ff_r h1 hf wr.2.2.1).symm)⟩
  · intro k hk
    rw [z0 k hk, e1, e2]; exact ⟨ha, hb, hs⟩
  · intro f hf hk
    have := hk 0 (by omega)
    rw [e1, e2] at this
    exact ⟨this, hf⟩
  · intro m hm e
    refine ⟨sv_gv_ff hm, fun k hk => ?_⟩
    rw [z0 k hk, e1, e2]; exact e
end
section
variable {c : SX} {t : sv_TX} {a b : Nat}
theorem xo_ps_qL {s : Nat} {P R D L G : Nat → Nat} : xq_left (gx c (xo_ps t s P R D L G)) = sv_na L := rfl
theorem xo_ps_qG {s : Nat} {P R D L G : Nat → Nat} : xq_right (gx c (xo_ps t s P R D L G)) = sv_na G := rfl
theorem xo_ps_qA {s : Nat} {P R D L G : Nat → Nat} : xq_partA (gx c (xo_ps t s P R D L G)) = sv_na (tx_A t) := rfl
theorem xo_ps_qB {s : Nat} {P R D L G : Nat → Nat} : xq_partB (gx c (xo_ps t s P R D L G)) = sv_na (tx_B t) := rfl
theorem xo_ps_qs {s : Nat} {P R D L G : Nat → Nat} : xq_sound (gx c (xo_ps t s P R D L G)) = nI s := rfl
theorem xo_ps_gh {s : Nat} {P R D R' D' L G : Nat → Nat} : gx c (xo_ps t s P R D L G) = gx c (xo_ps t s P R' D' L G) := rfl
theorem xo_ps_LG {s : Nat} {P R D L G L' G' : Nat → Nat} : xs_left_right (gx c (xo_ps t s P R D L G)) (sv_na L') (sv_na G') = gx c (xo_ps t s P R D L' G') := rfl
theorem xo_ps_LG0 {L' G' : Nat → Nat} : xs_left_right (gx c t) (sv_na L') (sv_na G') = gx c (xo_ps t (tx_s t) (tx_P t) (tx_R t) (tx_D t) L' G') := rfl
theorem xo_find_ps {post : Int32 → Prop} {i s : Nat} {P R D L G : Nat → Nat} (hn : tx_n t ≤ 400) (U : sv_uf (tx_n t) P R D) (hi : i < tx_n t) (h : post (nI (R i))) : wpX_find post (gx c (xo_ps t s P R D L G)) (nI i) :=
  xo_find (t := xo_ps t s P R D L G) hn U hi h
theorem xu_loop {post : SX → Prop} (hn : tx_n t ≤ 400) (hw : sv_kw (tx_n t) (tx_K t) (tx_A t) (tx_B t))
    (h : ∀ s P R D L G, xu_R (tx_n t) (tx_K t) (tx_A t) (tx_B t) (tx_P t) a b s P R D → post (gx c (xo_ps t s P R D L G))) :
    ∀ N P R D L G top step, xu_I (tx_n t) (tx_K t) (tx_A t) (tx_B t) (tx_P t) a b P R D L G top step → 2 * (tx_n t - sv_cn (sv_nr P) (tx_n t)) + top < N → lqX_unify_19 post N (nI top) (nI step) (gx c (xo_ps t 1 P R D L G)) := by
  intro N
  induction N with
  | zero => intro P R D L G top step _ hN; omega
  | succ N ih =>
    intro P R D L G top step I hN
    rw [lqX_unify_19_s, xo_ps_qL, xo_ps_qG, xo_ps_qs]
    have cle := sv_cn_le (sv_nr P) (tx_n t)
    obtain ⟨h1, h2, h3, h4, h5, h6, h7, h8, h9, h10⟩ := id I
    refine br_f (show ¬ nI 1024 ≤ nI step from nI_ge (by omega) (by omega)) ?_
    cases top with
    | zero =>
      exact br_t (show nI 0 ≤ 0 from by decide) (h 1 P R D L G (xu_exit I))
    | succ top =>
      obtain ⟨p1, p2, p3⟩ := h5 top (by omega)
      have hb : top < 512 := by omega
      have hi : vp_in (nI top) 512 := vp_in_nI hb (by omega)
      have eL : sv_na L (nI top).toNatClampNeg = nI (L top) := sv_naA (by omega)
      have eG : sv_na G (nI top).toNatClampNeg = nI (G top) := sv_naA (by omega)
      refine br_f (nI_nle (by omega) (by omega)) (br_f (show ¬ nI 1 = 0 by decide) (nm_r (pk_m1 top) ⟨hi, ?_⟩))
      rw [eL, eG]
      refine xo_find_ps hn h1 p1 ⟨hi, ?_⟩
      refine xo_find_ps hn h1 p2 ?_
      have rl := (h1 _ p1).2.1
      have rg := (h1 _ p2).2.1
      have el := (h1 _ p1).2.2.2.1
      have eg := (h1 _ p2).2.2.2.1
      obtain ⟨wl, wla, wlb, wl2, wl5, wl0⟩ := hw _ rl
      obtain ⟨wg, wga, wgb, wg2, wg5, wg0⟩ := hw _ rg
      have kl := xo_kd_le wl
      have kg := xo_kd_le wg
      show (nI (R (L top)) = nI (R (G top)) → _) ∧ (¬ nI (R (L top)) = nI (R (G top)) → _)
      refine pk_eq (R (L top)) (R (G top)) (fun e => ?_) (fun ne => ?_) rfl rfl (by omega) (by omega)
      · exact nm_r (nI_1 step) (ih P R D L G top (step + 1) (xu_same I e) (by omega))
      · have mt := sv_uf_cn h1 p1
        by_cases v1 : tx_K t (R (L top)) = 100 ∨ tx_K t (R (L top)) = 200
        · refine xo_join_a (by omega) kl v1 ?_
          have J := xu_join I (Or.inl ⟨rfl, rfl⟩) ne (Or.inl v1) (L' := L) (G' := G) (Nat.le_refl top) (by omega) (fun k _ => ⟨rfl, rfl⟩) (fun k k1 k2 => by omega) (fun f _ z => by omega) (fun m _ _ k k1 k2 => by omega)
          have cj := sv_cn_join (n := tx_n t) (P := P) rl el ne
          refine br_t rfl (nm_r (nI_1 step) ?_)
          rw [xo_ps_gh]
          exact ih _ _ _ L G top (step + 1) J (by omega)
        · by_cases v2 : tx_K t (R (G top)) = 100 ∨ tx_K t (R (G top)) = 200
          · refine xo_join_b (by omega) kl (by omega) (by omega) kg v2 ?_
            have J := xu_join I (Or.inr ⟨rfl, rfl⟩) (fun z => ne z.symm) (Or.inl v2) (L' := L) (G' := G) (Nat.le_refl top) (by omega) (fun k _ => ⟨rfl, rfl⟩) (fun k k1 k2 => by omega) (fun f _ z => by omega) (fun m _ _ k k1 k2 => by omega)
            have cj := sv_cn_join (n := tx_n t) (P := P) rg eg (fun z => ne z.symm)
            refine br_t rfl (nm_r (nI_1 step) ?_)
            rw [xo_ps_gh]
            exact ih _ _ _ L G top (step + 1) J (by omega)
          · by_cases ke : tx_K t (R (L top)) = tx_K t (R (G top))
            · have cj := sv_cn_join (n := tx_n t) (P := P) rl el ne
              refine xo_join_c (by omega) kl (by omega) (by omega) ke (fun hp => ?_) (fun hp => ?_)
              · have hb1 : vp_in (nI (R (L top))) 512 := vp_in_nI (by omega) (by omega)
                have hb2 : vp_in (nI (R (G top))) 512 := vp_in_nI (by omega) (by omega)
                have hi1 : vp_in (nI top + 1) 512 := by rw [nI_1]; exact vp_in_nI (by omega) (by omega)
                have a1 : upd (sv_na L) (nI top).toNatClampNeg (sv_na (tx_A t) (nI (R (L top))).toNatClampNeg) = sv_na (sv_un L top (tx_A t (R (L top)))) := by rw [sv_naA (by omega), sv_naU (by omega)]
                have a2 : upd (sv_na G) (nI top).toNatClampNeg (sv_na (tx_A t) (nI (R (G top))).toNatClampNeg) = sv_na (sv_un G top (tx_A t (R (G top)))) := by rw [sv_naA (by omega), sv_naU (by omega)]
                have a3 : upd (sv_na (sv_un L top (tx_A t (R (L top))))) (nI top + 1).toNatClampNeg (sv_na (tx_B t) (nI (R (L top))).toNatClampNeg) = sv_na (sv_un (sv_un L top (tx_A t (R (L top)))) (top + 1) (tx_B t (R (L top)))) := by rw [nI_1, sv_naA (by omega), sv_naU (by omega)]
                have a4 : upd (sv_na (sv_un G top (tx_A t (R (G top))))) (nI top + 1).toNatClampNeg (sv_na (tx_B t) (nI (R (G top))).toNatClampNeg) = sv_na (sv_un (sv_un G top (tx_A t (R (G top)))) (top + 1) (tx_B t (R (G top)))) := by rw [nI_1, sv_naA (by omega), sv_naU (by omega)]
                rw [xo_ps_qL, xo_ps_qG, xo_ps_qA, xo_ps_qB]
                refine br_f (by decide) ⟨hb1, hi, nm_r a1 ⟨hb2, hi, nm_r a2 ⟨hb1, hi1, nm_r a3 ⟨hb2, hi1, nm_r a4 (nm_r (nI_add top 2) (nm_r (nI_1 step) ?_))⟩⟩⟩⟩
                have l0 : ∀ {f : Nat → Nat} {u v : Nat}, sv_un (sv_un f top u) (top + 1) v top = u := by intro f u v; rw [sv_uo (by omega), sv_us]
                have l1 : ∀ {f : Nat → Nat} {u v : Nat}, sv_un (sv_un f top u) (top + 1) v (top + 1) = v := by intro f u v; rw [sv_us]
                have two : ∀ k, top ≤ k → k < top + 2 → k = top ∨ k = top + 1 := by intro k k1 k2; omega
                have J := xu_join I (Or.inl ⟨rfl, rfl⟩) ne (Or.inr ke) (L' := sv_un (sv_un L top (tx_A t (R (L top)))) (top + 1) (tx_B t (R (L top)))) (G' := sv_un (sv_un G top (tx_A t (R (G top)))) (top + 1) (tx_B t (R (G top)))) (top' := top + 2) (by omega) (by omega)
                  (fun k hk => by rw [sv_uo (by omega), sv_uo (by omega), sv_uo (by omega), sv_uo (by omega)]; exact ⟨rfl, rfl⟩)
                  (fun k k1 k2 => by
                    rcases two k k1 k2 with rfl | rfl
                    · rw [l0, l0]
                      refine ⟨wla, wga, ?_⟩
                      rcases hp with z | z
                      · rw [(wl2 (by omega)).1, (wg2 z).1]
                      · rw [(wl5 (by omega)).1, (wg5 z).1]
                    · rw [l1, l1]
                      refine ⟨wlb, wgb, ?_⟩
                      rcases hp with z | z
                      · rw [(wl2 (by omega)).2, (wg2 z).2]
                      · rw [(wl5 (by omega)).2, (wg5 z).2])
                  (fun f hf _ => by
                    have f0 := hf top (by omega) (by omega)
                    have f1 := hf (top + 1) (by omega) (by omega)
                    rw [l0, l0] at f0
                    rw [l1, l1] at f1
                    exact ⟨f0, f1⟩)
                  (fun m hm e k k1 k2 => by
                    have g1 := (hm _ rl).2
                    have g2 := (hm _ rg).2
                    rw [e] at g1
                    have q := (sv_ns_eq g1 g2 wl wg (by omega) (by omega)).2 (by omega)
                    rcases two k k1 k2 with rfl | rfl
                    · rw [l0, l0]; exact q.1
                    · rw [l1, l1]; exact q.2)
                rw [xo_ps_LG, xo_ps_gh]
                exact ih _ _ _ _ _ (top + 2) (step + 1) J (by omega)
              · have J := xu_join I (Or.inl ⟨rfl, rfl⟩) ne (Or.inr ke) (L' := L) (G' := G) (Nat.le_refl top) (by omega) (fun k _ => ⟨rfl, rfl⟩) (fun k k1 k2 => by omega) (fun f _ z => by omega) (fun m _ _ k k1 k2 => by omega)
                refine br_t rfl (nm_r (nI_1 step) ?_)
                rw [xo_ps_gh]
                exact ih _ _ _ L G top (step + 1) J (by omega)
            · refine xo_join_d (by omega) kl (by omega) (by omega) kg (by omega) ke ?_
              have Z := xu_clash hw I (by omega) (by omega) ke
              refine br_t rfl (nm_r (nI_1 step) ?_)
              cases N with
              | zero => omega
              | succ N =>
                rw [lqX_unify_19_s, xo_ps_qs]
                refine br_f (show ¬ nI 1024 ≤ nI (step + 1) from nI_ge (by omega) (by omega)) ?_
                refine br_c (fun _ => h 0 P R D L G Z) (fun _ => br_t rfl (h 0 P R D L G Z))
theorem xu_unify {post : SX → Prop} (I : xo_G t) (ha : a < tx_n t) (hb : b < tx_n t) (hs : sv_rb (tx_K t a) = sv_rb (tx_K t b))
    (h : ∀ s P R D L G, xu_R (tx_n t) (tx_K t) (tx_A t) (tx_B t) (tx_P t) a b s P R D → tx_s t = 1 → post (gx c (xo_ps t s P R D L G)))
    (h0 : ∀ L G, tx_s t = 0 → post (gx c (xo_ps t 0 (tx_P t) (tx_R t) (tx_D t) L G))) : wpX_unify post (gx c t) (nI a) (nI b) := by
  obtain ⟨i1, i2, i3, i4, i5, i6⟩ := I
  rw [we_X_unify]
  rw [gx_left, gx_right, sv_naU0, sv_naU0]
  refine nm_e (nm_e ?_)
  rw [xo_ps_LG0]
  rcases i5 with e | e
  · refine ⟨1, ?_⟩
    rw [lqX_unify_19_s, xo_ps_qs, e]
    exact br_f (show ¬ nI 1024 ≤ nI 0 from nI_ge (by omega) (by omega)) (br_f (by decide) (br_t rfl (h0 _ _ e)))
  · refine ⟨2 * (tx_n t - sv_cn (sv_nr (tx_P t)) (tx_n t)) + 1 + 1, ?_⟩
    rw [e]
    exact xu_loop (c := c) (t := t) i1 i3 (fun s P R D L G z => h s P R D L G z e) _ _ _ _ (sv_un (tx_L t) 0 a) (sv_un (tx_G t) 0 b) 1 0 (xu_start i3 i2 i4 (i6 e) ha hb hs) (Nat.lt_succ_self _)
end
end
section
/-! the component's typing of one token -/
section
variable {c : SX} {t : sv_TX}
theorem sv_SR1 {r r' : Nat} : sv_SR 1 r r' = (r' = sv_nd 5 r (sv_lf 1)) := rfl
theorem sv_SR5 {r r' : Nat} : sv_SR 5 r r' = (∃ q x, r = sv_nd 5 q x ∧ r' = sv_nd 5 (sv_nd 5 q x) x) := rfl
theorem sv_SR6 {r r' : Nat} : sv_SR 6 r r' = (∃ x, r = sv_nd 5 r' x) := rfl
theorem sv_SR7 {r r' : Nat} : sv_SR 7 r r' = (∃ q x y, r = sv_nd 5 (sv_nd 5 q y) x ∧ r' = sv_nd 5 (sv_nd 5 q x) y) := rfl
theorem sv_SR11 {r r' : Nat} : sv_SR 11 r r' = (∃ q, r = sv_nd 5 q (sv_nd 2 q r')) := rfl
theorem sv_SR12 {r r' : Nat} : sv_SR 12 r r' = (∃ q y z, r = sv_nd 5 (sv_nd 5 q y) (sv_nd 2 q z) ∧ r' = sv_nd 5 z y) := rfl
theorem sv_SR13 {r r' : Nat} : sv_SR 13 r r' = (∃ q, r = sv_nd 5 (sv_nd 5 (sv_nd 5 q (sv_lf 1)) (sv_nd 2 q r')) (sv_nd 2 q r')) := rfl
theorem sv_SRa {k r r' : Nat} (h : k = 8 ∨ k = 9 ∨ k = 10) : sv_SR k r r' = (∃ q, r = sv_nd 5 (sv_nd 5 q (sv_lf 1)) (sv_lf 1) ∧ r' = sv_nd 5 q (sv_lf 1)) := by
  rcases h with rfl | rfl | rfl <;> rfl
theorem sv_St3 {v w : Nat × Nat × List (Nat × Nat)} : sv_St 3 v w = (w.1 = w.2.1 ∧ w.2.2 = (v.1, v.2.1) :: v.2.2) := rfl
theorem sv_St4 {v w : Nat × Nat × List (Nat × Nat)} : sv_St 4 v w = (∃ r0, v.2.2 = (r0, w.2.1) :: w.2.2 ∧ w.1 = sv_nd 5 r0 (sv_nd 2 v.2.1 v.1)) := rfl
theorem sv_StE {k : Nat} (h3 : k ≠ 3) (h4 : k ≠ 4) {v w : Nat × Nat × List (Nat × Nat)} : sv_St k v w = (w.2.1 = v.2.1 ∧ w.2.2 = v.2.2 ∧ sv_SR k v.1 w.1) := by
  unfold sv_St; rw [if_neg h3, if_neg h4]
theorem xo_nsv {k a b T : Nat} (h : k = 100 ∨ k = 200) : sv_ns k a b T := ⟨fun z => by omega, fun z => by omega, fun z => by omega, fun z => by omega⟩
theorem xo_ns1 {a b : Nat} : sv_ns 1 a b (sv_lf 1) := ⟨fun _ => rfl, fun z => by omega, fun z => by omega, fun z => by omega⟩
theorem xo_ns2 {a b : Nat} : sv_ns 2 a b (sv_nd 2 a b) := ⟨fun z => by omega, fun z => by omega, fun _ => rfl, fun z => by omega⟩
theorem xo_ns5 {a b : Nat} : sv_ns 5 a b (sv_nd 5 a b) := ⟨fun z => by omega, fun z => by omega, fun z => by omega, fun _ => rfl⟩
/-- unify, by states -/
def xo_same (t t' : sv_TX) : Prop := tx_n t' = tx_n t ∧ tx_K t' = tx_K t ∧ tx_A t' = tx_A t ∧ tx_B t' = tx_B t ∧ tx_st t' = tx_st t ∧ tx_rw t' = tx_rw t ∧ tx_ne t' = tx_ne t ∧ tx_oR t' = tx_oR t ∧ tx_oS t' = tx_oS t ∧ tx_cP t' = tx_cP t ∧ tx_cE t' = tx_cE t
theorem xo_unify {post : SX → Prop} {a b : Nat} (I : xo_G t) (ha : a < tx_n t) (hb : b < tx_n t) (hs : sv_rb (tx_K t a) = sv_rb (tx_K t b))
    (h : ∀ t', xo_G t' → xo_same t t' → (tx_s t' = 1 → tx_s t = 1 ∧ ∀ m, xo_V t' m → xo_V t m ∧ m a = m b) → (tx_s t = 1 → ∀ m, xo_V t m → m a = m b → tx_s t' = 1 ∧ xo_V t' m) → post (gx c t')) : wpX_unify post (gx c t) (nI a) (nI b) := by
  refine xu_unify I ha hb hs (fun s P R D L G U e => ?_) (fun L G e => ?_)
  · obtain ⟨u1, u2, u3, u4, u5, u6⟩ := U
    refine h _ ⟨I.1, u1, I.2.2.1, u2, u3, u4⟩ ⟨rfl, rfl, rfl, rfl, rfl, rfl, rfl, rfl, rfl, rfl, rfl⟩ (fun z => ⟨e, fun m hm => ?_⟩) (fun _ m hm e2 => ?_)
    · obtain ⟨f1, f2⟩ := u5 z m (sv_gv_ff hm)
      exact ⟨sv_gv_of (P := P) hm f2, f1⟩
    · obtain ⟨f1, f2⟩ := u6 m hm e2
      exact ⟨f1, sv_gv_of (P := tx_P t) hm f2⟩
  · refine h _ ⟨I.1, I.2.1, I.2.2.1, I.2.2.2.1, Or.inl rfl, fun z => absurd z (by show ¬ (0 = 1); decide)⟩ ⟨rfl, rfl, rfl, rfl, rfl, rfl, rfl, rfl, rfl, rfl, rfl⟩ (fun z => absurd z (by show ¬ (0 = 1); decide)) (fun z => by omega)
/-- the whole invariant -/
def xo_I (t : sv_TX) : Prop := xo_G t ∧ (tx_st t < tx_n t ∧ sv_rb (tx_K t (tx_st t)) = true) ∧ (tx_rw t < tx_n t ∧ sv_rb (tx_K t (tx_rw t)) = true) ∧ tx_ne t ≤ 32 ∧ (∀ k, k < tx_ne t → tx_oR t k < tx_n t ∧ sv_rb (tx_K t (tx_oR t k)) = true ∧ tx_oS t k < tx_n t ∧ sv_rb (tx_K t (tx_oS t k)) = true)
/-- what stays -/
def xo_F (t t' : sv_TX) : Prop := tx_n t ≤ tx_n t' ∧ (∀ i, i < tx_n t → tx_K t' i = tx_K t i) ∧ tx_st t' = tx_st t ∧ tx_ne t' = tx_ne t ∧ tx_oR t' = tx_oR t ∧ tx_oS t' = tx_oS t ∧ tx_cP t' = tx_cP t ∧ tx_cE t' = tx_cE t
theorem xo_F_tr {t t' t'' : sv_TX} (h : xo_F t t') (h' : xo_F t' t'') : xo_F t t'' := by
  obtain ⟨a1, a2, a3, a4, a5, a6, a7, a8⟩ := h
  obtain ⟨b1, b2, b3, b4, b5, b6, b7, b8⟩ := h'
  exact ⟨by omega, fun i hi => (b2 i (by omega)).trans (a2 i hi), b3.trans a3, b4.trans a4, b5.trans a5, b6.trans a6, b7.trans a7, b8.trans a8⟩
theorem xo_F_same {t t' : sv_TX} (h : xo_same t t') : xo_F t t' := by
  obtain ⟨a1, a2, a3, a4, a5, a6, a7, a8, a9, a10, a11⟩ := h
  exact ⟨by omega, fun i _ => by rw [a2], a5, a7, a8, a9, a10, a11⟩
theorem xo_I_same {t t' : sv_TX} (I : xo_I t) (G : xo_G t') (h : xo_same t t') : xo_I t' := by
  obtain ⟨a1, a2, a3, a4, a5, a6, a7, a8, a9, a10, a11⟩ := h
  obtain ⟨i1, i2, i3, i4, i5⟩ := I
  refine ⟨G, ?_, ?_, ?_, ?_⟩
  · rw [a1, a2, a5]; exact i2
  · rw [a1, a2, a6]; exact i3
  · rw [a7]; exact i4
  · rw [a1, a2, a7, a8, a9]; exact i5
theorem xo_F_mk {k a b : Nat} : xo_F t (xo_mk t k a b) :=
  ⟨Nat.le_succ _, fun i hi => sv_uo (by omega), rfl, rfl, rfl, rfl, rfl, rfl⟩
theorem xo_I_mk {k a b : Nat} (I : xo_I t) (hn : tx_n t < 400) (ok : xo_mkok t k a b) : xo_I (xo_mk t k a b) := by
  obtain ⟨i1, i2, i3, i4, i5⟩ := I
  have kk : ∀ i, i < tx_n t → tx_K (xo_mk t k a b) i = tx_K t i := fun i hi => sv_uo (by omega)
  refine ⟨xo_mk_G i1 hn ok, ⟨Nat.lt_succ_of_lt i2.1, ?_⟩, ⟨Nat.lt_succ_of_lt i3.1, ?_⟩, i4, fun j hj => ?_⟩
  · exact (congrArg sv_rb (kk _ i2.1)).trans i2.2
  · exact (congrArg sv_rb (kk _ i3.1)).trans i3.2
  · obtain ⟨p1, p2, p3, p4⟩ := i5 j hj
    exact ⟨Nat.lt_succ_of_lt p1, (congrArg sv_rb (kk _ p1)).trans p2, Nat.lt_succ_of_lt p3, (congrArg sv_rb (kk _ p3)).trans p4⟩
def xo_rw (t : sv_TX) (r : Nat) : sv_TX := (tx_n t, tx_s t, tx_st t, r, tx_ne t, tx_K t, tx_A t, tx_B t, tx_P t, tx_R t, tx_D t, tx_M t, tx_Q t, tx_L t, tx_G t, tx_oR t, tx_oS t, tx_cP t, tx_cE t)
theorem xo_I_rw {r : Nat} (I : xo_I t) (h1 : r < tx_n t) (h2 : sv_rb (tx_K t r) = true) : xo_I (xo_rw t r) := ⟨I.1, I.2.1, ⟨h1, h2⟩, I.2.2.2.1, I.2.2.2.2⟩
theorem xo_F_rw {r : Nat} : xo_F t (xo_rw t r) := ⟨Nat.le_refl _, fun _ _ => rfl, rfl, rfl, rfl, rfl, rfl, rfl⟩
theorem xo_okv {k : Nat} (h : k = 1 ∨ k = 100 ∨ k = 200) : xo_mkok t k 0 0 := by
  refine ⟨?_, fun z => by omega, Nat.zero_le _, Nat.zero_le _, fun z => by omega, fun z => by omega⟩
  unfold sv_kd; omega
/-- take -/
theorem xo_take {post : Int32 → SX → Prop} (I : xo_I t) (hn : tx_n t + 3 ≤ 400)
    (h : ∀ x t', xo_I t' → xo_F t t' → tx_n t' ≤ tx_n t + 3 → x < tx_n t' → sv_rb (tx_K t' x) = false →
      (tx_s t' = 1 → tx_s t = 1 ∧ ∀ m, xo_V t' m → xo_V t m ∧ m (tx_rw t) = sv_nd 5 (m (tx_rw t')) (m x)) →
      (tx_s t = 1 → ∀ m r y, xo_V t m → m (tx_rw t) = sv_nd 5 r y → tx_s t' = 1 ∧ ∃ m', xo_V t' m' ∧ (∀ i, i < tx_n t → m' i = m i) ∧ m' (tx_rw t') = r ∧ m' x = y) →
      post (nI x) (gx c t')) : wpX_take post (gx c t) := by
  rw [we_X_take]
  obtain ⟨i1, i2, i3, i4, i5⟩ := id I
  obtain ⟨g1, g2, g3, g4, g5, g6⟩ := id i1
  refine xo_find (t := t) g1 g2 i3.1 ?_
  have hr := (g2 _ i3.1).2.1
  have kr := g3 _ hr
  have kle := xo_kd_le kr.1
  have hb : vp_in (nI (tx_R t (tx_rw t))) 512 := vp_in_nI (by omega) (by omega)
  have ek : sv_na (tx_K t) (nI (tx_R t (tx_rw t))).toNatClampNeg = nI (tx_K t (tx_R t (tx_rw t))) := sv_naA (by omega)
  refine ⟨hb, pk_eq (tx_K t (tx_R t (tx_rw t))) 5 (fun e => ?_) (fun e => ?_) ek rfl (by omega) (by omega)⟩
  · have p5 := kr.2.2.2.2.1 e
    refine ⟨hb, nm_r (sv_naA (f := tx_A t) (k := tx_R t (tx_rw t)) (by omega)) ⟨hb, ?_⟩⟩
    have ev : sv_na (tx_B t) (nI (tx_R t (tx_rw t))).toNatClampNeg = nI (tx_B t (tx_R t (tx_rw t))) := sv_naA (by omega)
    show post (sv_na (tx_B t) (nI (tx_R t (tx_rw t))).toNatClampNeg) (gx c (xo_rw t (tx_A t (tx_R t (tx_rw t)))))
    rw [ev]
    have key : ∀ m, xo_V t m → m (tx_rw t) = sv_nd 5 (m (tx_A t (tx_R t (tx_rw t)))) (m (tx_B t (tx_R t (tx_rw t)))) := fun m hm => by
      rw [sv_ff_r g2 (sv_gv_ff hm) i3.1]
      exact (hm _ hr).2.2.2.2 e
    refine h _ _ (xo_I_rw I kr.2.1 p5.1) xo_F_rw (Nat.le_add_right _ 3) kr.2.2.1 p5.2 (fun z => ⟨z, fun m hm => ⟨hm, key m hm⟩⟩) (fun z m r y hm e2 => ?_)
    have q := sv_nd_inj ((key m hm).symm.trans e2)
    exact ⟨z, m, hm, fun _ _ => rfl, q.2.1, q.2.2⟩
  · refine xo_make (t := t) (k := 200) (a := 0) (b := 0) (by omega) ?_
    have I1 := xo_I_mk I (by omega) (xo_okv (t := t) (k := 200) (Or.inr (Or.inr rfl)))
    refine xo_make (t := xo_mk t 200 0 0) (k := 100) (a := 0) (b := 0) (show tx_n t + 1 < 512 by omega) ?_
    have I2 := xo_I_mk I1 (show tx_n t + 1 < 400 by omega) (xo_okv (t := xo_mk t 200 0 0) (k := 100) (Or.inr (Or.inl rfl)))
    have ok3 : xo_mkok (xo_mk (xo_mk t 200 0 0) 100 0 0) 5 (tx_n t) (tx_n t + 1) := by
      refine ⟨Or.inr (Or.inr (Or.inr (Or.inl rfl))), fun z => by omega, ?_, ?_, fun z => by omega, fun _ => ⟨?_, ?_, ?_, ?_⟩⟩
      · show tx_n t ≤ tx_n t + 1 + 1; omega
      · show tx_n t + 1 ≤ tx_n t + 1 + 1; omega
      · show tx_n t < tx_n t + 1 + 1; omega
      · show tx_n t + 1 < tx_n t + 1 + 1; omega
      · show sv_rb (sv_un (sv_un (tx_K t) (tx_n t) 200) (tx_n t + 1) 100 (tx_n t)) = true
        rw [sv_uo (by omega), sv_us]; rfl
      · show sv_rb (sv_un (sv_un (tx_K t) (tx_n t) 200) (tx_n t + 1) 100 (tx_n t + 1)) = false
        rw [sv_us]; rfl
    refine xo_make (t := xo_mk (xo_mk t 200 0 0) 100 0 0) (k := 5) (a := tx_n t) (b := tx_n t + 1) (show tx_n t + 1 + 1 < 512 by omega) ?_
    have I3 := xo_I_mk I2 (show tx_n t + 1 + 1 < 400 by omega) ok3
    have F3 : xo_F t (xo_mk (xo_mk (xo_mk t 200 0 0) 100 0 0) 5 (tx_n t) (tx_n t + 1)) := xo_F_tr xo_F_mk (xo_F_tr xo_F_mk xo_F_mk)
    have ka : tx_K (xo_mk (xo_mk (xo_mk t 200 0 0) 100 0 0) 5 (tx_n t) (tx_n t + 1)) (tx_R t (tx_rw t)) = tx_K t (tx_R t (tx_rw t)) := F3.2.1 _ hr
    have kc : tx_K (xo_mk (xo_mk (xo_mk t 200 0 0) 100 0 0) 5 (tx_n t) (tx_n t + 1)) (tx_n t + 1 + 1) = 5 := sv_us
    have k0 : tx_K (xo_mk (xo_mk (xo_mk t 200 0 0) 100 0 0) 5 (tx_n t) (tx_n t + 1)) (tx_n t) = 200 := by
      show sv_un (sv_un (sv_un (tx_K t) (tx_n t) 200) (tx_n t + 1) 100) (tx_n t + 1 + 1) 5 (tx_n t) = 200
      rw [sv_uo (by omega), sv_uo (by omega), sv_us]
    have k1 : tx_K (xo_mk (xo_mk (xo_mk t 200 0 0) 100 0 0) 5 (tx_n t) (tx_n t + 1)) (tx_n t + 1) = 100 := by
      show sv_un (sv_un (sv_un (tx_K t) (tx_n t) 200) (tx_n t + 1) 100) (tx_n t + 1 + 1) 5 (tx_n t + 1) = 100
      rw [sv_uo (by omega), sv_us]
    have n3 : tx_n (xo_mk (xo_mk (xo_mk t 200 0 0) 100 0 0) 5 (tx_n t) (tx_n t + 1)) = tx_n t + 3 := rfl
    refine xo_unify (t := xo_mk (xo_mk (xo_mk t 200 0 0) 100 0 0) 5 (tx_n t) (tx_n t + 1)) (a := tx_R t (tx_rw t)) (b := tx_n t + 1 + 1) I3.1 (by rw [n3]; omega) (by rw [n3]; omega) ?_ (fun t4 G4 S4 e4 f4 => ?_)
    · rw [ka, kc, g4 _ i3.1, i3.2]; rfl
    · have I4 := xo_I_same I3 G4 S4
      have n4 : tx_n t4 = tx_n t + 3 := S4.1
      have K4 := S4.2.1
      refine h (tx_n t + 1) (xo_rw t4 (tx_n t)) (xo_I_rw I4 (by rw [n4]; omega) (by rw [K4, k0]; rfl)) (xo_F_tr F3 (xo_F_tr (xo_F_same S4) xo_F_rw)) (show tx_n t4 ≤ _ by omega) (show tx_n t + 1 < tx_n t4 by omega) (by show sv_rb (tx_K t4 (tx_n t + 1)) = false; rw [K4, k1]; rfl) (fun z => ?_) (fun z m r y hm e2 => ?_)
      · obtain ⟨z1, z2⟩ := e4 z
        refine ⟨z1, fun m hm => ?_⟩
        obtain ⟨v3, q⟩ := z2 m hm
        obtain ⟨v2, q3⟩ := xo_mk_V1 I2.1.2.2.1 v3
        obtain ⟨v1, q2⟩ := xo_mk_V1 I1.1.2.2.1 v2
        obtain ⟨v0, q1⟩ := xo_mk_V1 g3 v1
        refine ⟨v0, ?_⟩
        rw [sv_ff_r g2 (sv_gv_ff v0) i3.1, q]
        exact q3.2.2.2 rfl
      · have v1 := xo_mk_V2 (T := r) i1 (xo_okv (k := 200) (Or.inr (Or.inr rfl))) hm (xo_nsv (Or.inr rfl))
        have v2 := xo_mk_V2 (T := y) I1.1 (xo_okv (k := 100) (Or.inr (Or.inl rfl))) v1 (xo_nsv (Or.inl rfl))
        have m0 : sv_un (sv_un m (tx_n t) r) (tx_n t + 1) y (tx_n t) = r := by rw [sv_uo (by omega), sv_us]
        have m1 : sv_un (sv_un m (tx_n t) r) (tx_n t + 1) y (tx_n t + 1) = y := sv_us
        have v3 := xo_mk_V2 (T := sv_nd 5 r y) I2.1 ok3 v2 (by
          show sv_ns 5 (sv_un (sv_un m (tx_n t) r) (tx_n t + 1) y (tx_n t)) (sv_un (sv_un m (tx_n t) r) (tx_n t + 1) y (tx_n t + 1)) _
          rw [m0, m1]; exact xo_ns5)
        have ag : ∀ i, i < tx_n t → sv_un (sv_un (sv_un m (tx_n t) r) (tx_n t + 1) y) (tx_n t + 1 + 1) (sv_nd 5 r y) i = m i := fun i hi => by
          rw [sv_uo (by omega), sv_uo (by omega), sv_uo (by omega)]
        obtain ⟨s4, v4⟩ := f4 z _ v3 (by
          show sv_un (sv_un (sv_un m (tx_n t) r) (tx_n t + 1) y) (tx_n t + 1 + 1) (sv_nd 5 r y) (tx_R t (tx_rw t)) = sv_un (sv_un (sv_un m (tx_n t) r) (tx_n t + 1) y) (tx_n t + 1 + 1) (sv_nd 5 r y) (tx_n t + 1 + 1)
          rw [ag _ hr, sv_us, ← sv_ff_r g2 (sv_gv_ff hm) i3.1, e2])
        refine ⟨s4, _, v4, ag, ?_, ?_⟩
        · show sv_un (sv_un (sv_un m (tx_n t) r) (tx_n t + 1) y) (tx_n t + 1 + 1) (sv_nd 5 r y) (tx_n t) = r
          rw [sv_uo (by omega), sv_uo (by omega), sv_us]
        · show sv_un (sv_un (sv_un m (tx_n t) r) (tx_n t + 1) y) (tx_n t + 1 + 1) (sv_nd 5 r y) (tx_n t + 1) = y
          rw [sv_uo (by omega), sv_us]
/-- give -/
theorem xo_give {post : SX → Prop} {x : Nat} (I : xo_I t) (hn : tx_n t + 1 ≤ 400) (hx : x < tx_n t) (hs : sv_rb (tx_K t x) = false)
    (h : ∀ t', xo_I t' → xo_F t t' → tx_n t' ≤ tx_n t + 1 → tx_s t' = tx_s t →
      (∀ m, xo_V t' m → xo_V t m ∧ m (tx_rw t') = sv_nd 5 (m (tx_rw t)) (m x)) →
      (∀ m, xo_V t m → ∃ m', xo_V t' m' ∧ (∀ i, i < tx_n t → m' i = m i) ∧ m' (tx_rw t') = sv_nd 5 (m (tx_rw t)) (m x)) →
      post (gx c t')) : wpX_give post (gx c t) (nI x) := by
  rw [we_X_give]
  obtain ⟨i1, i2, i3, i4, i5⟩ := id I
  have ok : xo_mkok t 5 (tx_rw t) x := ⟨Or.inr (Or.inr (Or.inr (Or.inl rfl))), fun z => by omega, Nat.le_of_lt i3.1, Nat.le_of_lt hx, fun z => by omega, fun _ => ⟨i3.1, hx, i3.2, hs⟩⟩
  refine xo_make (t := t) (k := 5) (a := tx_rw t) (b := x) (by omega) ?_
  have I1 := xo_I_mk I (by omega) ok
  refine h (xo_rw (xo_mk t 5 (tx_rw t) x) (tx_n t)) (xo_I_rw I1 (Nat.lt_succ_self _) (by show sv_rb (sv_un (tx_K t) (tx_n t) 5 (tx_n t)) = true; rw [sv_us]; rfl)) (xo_F_tr xo_F_mk xo_F_rw) (Nat.le_refl _) rfl (fun m hm => ?_) (fun m hm => ?_)
  · obtain ⟨v, q⟩ := xo_mk_V1 i1.2.2.1 hm
    exact ⟨v, q.2.2.2 rfl⟩
  · exact ⟨_, xo_mk_V2 (T := sv_nd 5 (m (tx_rw t)) (m x)) i1 ok hm xo_ns5, fun i hi => sv_uo (by omega), sv_us⟩
/-- giveInt -/
theorem xo_giveInt {post : SX → Prop} (I : xo_I t) (hn : tx_n t + 2 ≤ 400)
    (h : ∀ t', xo_I t' → xo_F t t' → tx_n t' ≤ tx_n t + 2 → tx_s t' = tx_s t →
      (∀ m, xo_V t' m → xo_V t m ∧ m (tx_rw t') = sv_nd 5 (m (tx_rw t)) (sv_lf 1)) →
      (∀ m, xo_V t m → ∃ m', xo_V t' m' ∧ (∀ i, i < tx_n t → m' i = m i) ∧ m' (tx_rw t') = sv_nd 5 (m (tx_rw t)) (sv_lf 1)) →
      post (gx c t')) : wpX_giveInt post (gx c t) := by
  rw [we_X_giveInt]
  have i3 := I.2.2.1
  refine xo_make (t := t) (k := 1) (a := 0) (b := 0) (by omega) ?_
  have I1 := xo_I_mk I (by omega) (xo_okv (t := t) (k := 1) (Or.inl rfl))
  refine xo_give (t := xo_mk t 1 0 0) I1 (show tx_n t + 1 + 1 ≤ 400 by omega) (Nat.lt_succ_self _) (by show sv_rb (sv_un (tx_K t) (tx_n t) 1 (tx_n t)) = false; rw [sv_us]; rfl) (fun t2 I2 F2 n2 s2 e2 f2 => ?_)
  refine h t2 I2 (xo_F_tr xo_F_mk F2) n2 s2 (fun m hm => ?_) (fun m hm => ?_)
  · obtain ⟨v1, q⟩ := e2 m hm
    obtain ⟨v0, q1⟩ := xo_mk_V1 I.1.2.2.1 v1
    have q1 := q1.1 rfl
    rw [q1] at q
    exact ⟨v0, q⟩
  · have v1 := xo_mk_V2 (T := sv_lf 1) I.1 (xo_okv (k := 1) (Or.inl rfl)) hm xo_ns1
    obtain ⟨m', v2, ag, q⟩ := f2 _ v1
    refine ⟨m', v2, fun i hi => (ag i (Nat.lt_succ_of_lt hi)).trans (sv_uo (by omega)), ?_⟩
    rw [q]
    show sv_nd 5 (sv_un m (tx_n t) (sv_lf 1) (tx_rw t)) (sv_un m (tx_n t) (sv_lf 1) (tx_n t)) = _
    rw [sv_us, sv_uo (by omega)]
/-- takeInt -/
theorem xo_takeInt {post : SX → Prop} (I : xo_I t) (hn : tx_n t + 4 ≤ 400)
    (h : ∀ t', xo_I t' → xo_F t t' → tx_n t' ≤ tx_n t + 4 →
      (tx_s t' = 1 → tx_s t = 1 ∧ ∀ m, xo_V t' m → xo_V t m ∧ m (tx_rw t) = sv_nd 5 (m (tx_rw t')) (sv_lf 1)) →
      (tx_s t = 1 → ∀ m r, xo_V t m → m (tx_rw t) = sv_nd 5 r (sv_lf 1) → tx_s t' = 1 ∧ ∃ m', xo_V t' m' ∧ (∀ i, i < tx_n t → m' i = m i) ∧ m' (tx_rw t') = r) →
      post (gx c t')) : wpX_takeInt post (gx c t) := by
  rw [we_X_takeInt]
  refine xo_take I (by omega) (fun x t1 I1 F1 n1 hx sx e1 f1 => ?_)
  have r1 := I1.2.2.1.1
  refine xo_make (t := t1) (k := 1) (a := 0) (b := 0) (by omega) ?_
  have I2 := xo_I_mk I1 (by omega) (xo_okv (t := t1) (k := 1) (Or.inl rfl))
  have F2 : xo_F t1 (xo_mk t1 1 0 0) := xo_F_mk
  have kx : tx_K (xo_mk t1 1 0 0) x = tx_K t1 x := F2.2.1 _ hx
  have kn : tx_K (xo_mk t1 1 0 0) (tx_n t1) = 1 := sv_us
  refine xo_unify (t := xo_mk t1 1 0 0) I2.1 (Nat.lt_succ_of_lt hx) (Nat.lt_succ_self _) (by rw [kx, kn, sx]; rfl) (fun t3 G3 S3 e3 f3 => ?_)
  have rw3 : tx_rw t3 = tx_rw t1 := S3.2.2.2.2.2.1
  have n3 : tx_n t3 = tx_n t1 + 1 := S3.1
  refine h t3 (xo_I_same I2 G3 S3) (xo_F_tr F1 (xo_F_tr F2 (xo_F_same S3))) (by omega) (fun z => ?_) (fun z m r hm e => ?_)
  · obtain ⟨s2, v2⟩ := e3 z
    obtain ⟨s1, v1⟩ := e1 s2
    refine ⟨s1, fun m hm => ?_⟩
    obtain ⟨w2, q2⟩ := v2 m hm
    obtain ⟨w1, q1⟩ := xo_mk_V1 I1.1.2.2.1 w2
    obtain ⟨w0, q0⟩ := v1 m w1
    refine ⟨w0, ?_⟩
    rw [rw3, q0, q2, q1.1 rfl]
  · obtain ⟨s1, m1, v1, ag1, q1, q1'⟩ := f1 z m r (sv_lf 1) hm e
    have v2 := xo_mk_V2 (T := sv_lf 1) I1.1 (xo_okv (k := 1) (Or.inl rfl)) v1 xo_ns1
    obtain ⟨s3, v3⟩ := f3 s1 _ v2 (by rw [sv_us, sv_uo (by omega), q1'])
    refine ⟨s3, _, v3, fun i hi => ?_, ?_⟩
    · have := F1.1
      rw [sv_uo (by omega)]; exact ag1 i hi
    · rw [rw3, sv_uo (by omega)]; exact q1
/-- wantQuotation -/
theorem xo_want {post : Int32 → SX → Prop} (I : xo_I t) (hn : tx_n t + 2 ≤ 400)
    (h : ∀ t', xo_I t' → xo_F t t' → tx_n t' = tx_n t + 2 → tx_s t' = tx_s t → tx_rw t' = tx_rw t → tx_K t' (tx_n t + 1) = 2 → tx_K t' (tx_n t) = 200 → tx_B t' (tx_n t + 1) = tx_n t →
      (∀ m, xo_V t' m → xo_V t m ∧ m (tx_n t + 1) = sv_nd 2 (m (tx_rw t)) (m (tx_n t))) →
      (∀ m z, xo_V t m → ∃ m', xo_V t' m' ∧ (∀ i, i < tx_n t → m' i = m i) ∧ m' (tx_n t) = z ∧ m' (tx_n t + 1) = sv_nd 2 (m (tx_rw t)) z) →
      post (nI (tx_n t + 1)) (gx c t')) : wpX_wantQuotation post (gx c t) := by
  rw [we_X_wantQuotation]
  have i3 := I.2.2.1
  refine xo_make (t := t) (k := 200) (a := 0) (b := 0) (by omega) ?_
  have I1 := xo_I_mk I (by omega) (xo_okv (t := t) (k := 200) (Or.inr (Or.inr rfl)))
  have F1 : xo_F t (xo_mk t 200 0 0) := xo_F_mk
  have kr : tx_K (xo_mk t 200 0 0) (tx_rw t) = tx_K t (tx_rw t) := F1.2.1 _ i3.1
  have kn : tx_K (xo_mk t 200 0 0) (tx_n t) = 200 := sv_us
  have ok : xo_mkok (xo_mk t 200 0 0) 2 (tx_rw t) (tx_n t) := by
    refine ⟨Or.inr (Or.inl rfl), fun z => by omega, ?_, ?_, fun _ => ⟨?_, ?_, ?_, ?_⟩, fun z => by omega⟩
    · show tx_rw t ≤ tx_n t + 1; omega
    · show tx_n t ≤ tx_n t + 1; omega
    · show tx_rw t < tx_n t + 1; omega
    · show tx_n t < tx_n t + 1; omega
    · rw [kr]; exact i3.2
    · rw [kn]; rfl
  refine xo_make (t := xo_mk t 200 0 0) (k := 2) (a := tx_rw t) (b := tx_n t) (show tx_n t + 1 < 512 by omega) ?_
  have I2 := xo_I_mk I1 (show tx_n t + 1 < 400 by omega) ok
  refine h _ I2 (xo_F_tr F1 xo_F_mk) rfl rfl rfl sv_us ?_ sv_us (fun m hm => ?_) (fun m z hm => ?_)
  · show sv_un (sv_un (tx_K t) (tx_n t) 200) (tx_n t + 1) 2 (tx_n t) = 200
    rw [sv_uo (by omega), sv_us]
  · obtain ⟨v1, q1⟩ := xo_mk_V1 I1.1.2.2.1 hm
    obtain ⟨v0, q0⟩ := xo_mk_V1 I.1.2.2.1 v1
    exact ⟨v0, q1.2.2.1 rfl⟩
  · have v1 := xo_mk_V2 (T := z) I.1 (xo_okv (k := 200) (Or.inr (Or.inr rfl))) hm (xo_nsv (Or.inr rfl))
    have e1 : sv_un m (tx_n t) z (tx_rw t) = m (tx_rw t) := sv_uo (by omega)
    have e2 : sv_un m (tx_n t) z (tx_n t) = z := sv_us
    have v2 := xo_mk_V2 (T := sv_nd 2 (m (tx_rw t)) z) I1.1 ok v1 (by rw [e1, e2]; exact xo_ns2)
    refine ⟨_, v2, fun i hi => ?_, ?_, ?_⟩
    · show sv_un (sv_un m (tx_n t) z) (tx_n t + 1) (sv_nd 2 (m (tx_rw t)) z) i = m i
      rw [sv_uo (by omega), sv_uo (by omega)]
    · show sv_un (sv_un m (tx_n t) z) (tx_n t + 1) (sv_nd 2 (m (tx_rw t)) z) (tx_n t) = z
      rw [sv_uo (by omega), sv_us]
    · exact sv_us
end
end
section
/-! the component: one token, by views -/
section
variable {c : SX} {t : sv_TX}
def xo_vw (m : Nat → Nat) (t : sv_TX) : Nat × Nat × List (Nat × Nat) := (m (tx_rw t), m (tx_st t), sv_stk m (tx_oR t) (tx_oS t) (tx_ne t))
/-- what typing token k does to the state -/
def xo_S (k : Nat) (t t' : sv_TX) : Prop := xo_I t' ∧ tx_n t ≤ tx_n t' ∧ tx_n t' ≤ tx_n t + 12 ∧ tx_K t' 0 = tx_K t 0 ∧ tx_cP t' = tx_cP t ∧ tx_cE t' = tx_cE t ∧
  (k = 3 → tx_ne t' = tx_ne t + 1) ∧ (k = 4 → tx_ne t' = tx_ne t - 1) ∧ (k ≠ 3 → k ≠ 4 → tx_ne t' = tx_ne t) ∧
  (tx_s t' = 1 → tx_s t = 1 ∧ ∀ m, xo_V t' m → xo_V t m ∧ sv_St k (xo_vw m t) (xo_vw m t')) ∧
  (tx_s t = 1 → ∀ m w, xo_V t m → sv_St k (xo_vw m t) w → tx_s t' = 1 ∧ ∃ m', xo_V t' m' ∧ (∀ i, i < tx_n t → m' i = m i) ∧ xo_vw m' t' = w)
/-- the tokens that move the row alone -/
theorem xo_lift {k : Nat} {t' : sv_TX} (h3 : k ≠ 3) (h4 : k ≠ 4) (I : xo_I t) (I' : xo_I t') (F : xo_F t t') (hn : tx_n t' ≤ tx_n t + 12)
    (e : tx_s t' = 1 → tx_s t = 1 ∧ ∀ m, xo_V t' m → xo_V t m ∧ sv_SR k (m (tx_rw t)) (m (tx_rw t')))
    (f : tx_s t = 1 → ∀ m r, xo_V t m → sv_SR k (m (tx_rw t)) r → tx_s t' = 1 ∧ ∃ m', xo_V t' m' ∧ (∀ i, i < tx_n t → m' i = m i) ∧ m' (tx_rw t') = r) : xo_S k t t' := by
  obtain ⟨a1, a2, a3, a4, a5, a6, a7, a8⟩ := F
  have i2 := I.2.1
  have i5 := I.2.2.2.2
  have stk : ∀ m m' : Nat → Nat, (∀ i, i < tx_n t → m' i = m i) → sv_stk m' (tx_oR t') (tx_oS t') (tx_ne t') = sv_stk m (tx_oR t) (tx_oS t) (tx_ne t) := by
    intro m m' ag
    rw [a4, a5, a6]
    exact sv_stk_congr _ (fun j hj => ⟨ag _ (i5 j hj).1, ag _ (i5 j hj).2.2.1⟩)
  refine ⟨I', a1, hn, a2 0 (by omega), a7, a8, fun z => absurd z h3, fun z => absurd z h4, fun _ _ => a4, fun z => ?_, fun z m w hm hS => ?_⟩
  · obtain ⟨s, v⟩ := e z
    refine ⟨s, fun m hm => ?_⟩
    obtain ⟨v0, q⟩ := v m hm
    refine ⟨v0, ?_⟩
    rw [sv_StE h3 h4]
    refine ⟨?_, stk m m (fun _ _ => rfl), q⟩
    show m (tx_st t') = m (tx_st t)
    rw [a3]
  · rw [sv_StE h3 h4] at hS
    obtain ⟨w1, w2, w3⟩ := hS
    obtain ⟨s, m', v', ag, q⟩ := f z m w.1 hm w3
    refine ⟨s, m', v', ag, ?_⟩
    show (m' (tx_rw t'), m' (tx_st t'), sv_stk m' (tx_oR t') (tx_oS t') (tx_ne t')) = w
    rw [stk m m' ag, q, a3, ag _ i2.1]
    have w1 : w.2.1 = m (tx_st t) := w1
    have w2 : w.2.2 = sv_stk m (tx_oR t) (tx_oS t) (tx_ne t) := w2
    rw [← w1, ← w2]
theorem xo_t1 {post : SX → Prop} (I : xo_I t) (hn : tx_n t + 12 ≤ 400) (h : ∀ t', xo_S 1 t t' → post (gx c t')) : wpX_giveInt post (gx c t) := by
  refine xo_giveInt I (by omega) (fun t' I' F n1 s1 e1 f1 => h t' (xo_lift (by decide) (by decide) I I' F (by omega) (fun z => ⟨by omega, fun m hm => ?_⟩) (fun z m r hm q => ?_)))
  · obtain ⟨v, q⟩ := e1 m hm
    exact ⟨v, by rw [sv_SR1]; exact q⟩
  · rw [sv_SR1] at q
    obtain ⟨m', v', ag, q'⟩ := f1 m hm
    exact ⟨by omega, m', v', ag, q'.trans q.symm⟩
theorem xo_t6 {post : SX → Prop} (I : xo_I t) (hn : tx_n t + 12 ≤ 400) (h : ∀ t', xo_S 6 t t' → post (gx c t')) : wpX_take (fun _ u => post u) (gx c t) := by
  refine xo_take I (by omega) (fun x t' I' F n1 hx sx e1 f1 => h t' (xo_lift (by decide) (by decide) I I' F (by omega) (fun z => ⟨(e1 z).1, fun m hm => ?_⟩) (fun z m r hm q => ?_)))
  · obtain ⟨v, q⟩ := (e1 z).2 m hm
    exact ⟨v, by rw [sv_SR6]; exact ⟨_, q⟩⟩
  · rw [sv_SR6] at q
    obtain ⟨y, q⟩ := q
    obtain ⟨s, m', v', ag, q', _⟩ := f1 z m r y hm q
    exact ⟨s, m', v', ag, q'⟩
theorem xo_t5 {post : SX → Prop} (I : xo_I t) (hn : tx_n t + 12 ≤ 400) (h : ∀ t', xo_S 5 t t' → post (gx c t')) : wpX_typeDup post (gx c t) := by
  rw [we_X_typeDup]
  refine xo_take I (by omega) (fun x t1 I1 F1 n1 hx sx e1 f1 => ?_)
  refine xo_give I1 (by omega) hx sx (fun t2 I2 F2 n2 s2 e2 f2 => ?_)
  have hx2 : x < tx_n t2 := Nat.lt_of_lt_of_le hx F2.1
  refine xo_give I2 (by omega) hx2 (by rw [F2.2.1 x hx]; exact sx) (fun t3 I3 F3 n3 s3 e3 f3 => ?_)
  refine h t3 (xo_lift (by decide) (by decide) I I3 (xo_F_tr F1 (xo_F_tr F2 F3)) (by omega) (fun z => ⟨(e1 (by omega)).1, fun m hm => ?_⟩) (fun z m r hm q => ?_))
  · obtain ⟨v2, q3⟩ := e3 m hm
    obtain ⟨v1, q2⟩ := e2 m v2
    obtain ⟨v0, q1⟩ := (e1 (by omega)).2 m v1
    exact ⟨v0, by rw [sv_SR5]; exact ⟨_, _, q1, by rw [q3, q2]⟩⟩
  · rw [sv_SR5] at q
    obtain ⟨p, y, q1, q2⟩ := q
    obtain ⟨z1, m1, v1, ag1, r1, x1⟩ := f1 z m p y hm q1
    obtain ⟨m2, v2, ag2, r2⟩ := f2 m1 v1
    obtain ⟨m3, v3, ag3, r3⟩ := f3 m2 v2
    have := F1.1
    have := F2.1
    refine ⟨by omega, m3, v3, fun i hi => (ag3 i (by omega)).trans ((ag2 i (by omega)).trans (ag1 i hi)), ?_⟩
    rw [r3, r2, ag2 x hx, r1, x1, q2]
theorem xo_t7 {post : SX → Prop} (I : xo_I t) (hn : tx_n t + 12 ≤ 400) (h : ∀ t', xo_S 7 t t' → post (gx c t')) : wpX_typeSwap post (gx c t) := by
  rw [we_X_typeSwap]
  refine xo_take I (by omega) (fun x t1 I1 F1 n1 hx sx e1 f1 => ?_)
  refine xo_take I1 (by omega) (fun y t2 I2 F2 n2 hy sy e2 f2 => ?_)
  have hx2 : x < tx_n t2 := Nat.lt_of_lt_of_le hx F2.1
  refine xo_give I2 (by omega) hx2 (by rw [F2.2.1 x hx]; exact sx) (fun t3 I3 F3 n3 s3 e3 f3 => ?_)
  have hy3 : y < tx_n t3 := Nat.lt_of_lt_of_le hy F3.1
  refine xo_give I3 (by omega) hy3 (by rw [F3.2.1 y hy]; exact sy) (fun t4 I4 F4 n4 s4 e4 f4 => ?_)
  have l1 := F1.1
  have l2 := F2.1
  have l3 := F3.1
  refine h t4 (xo_lift (by decide) (by decide) I I4 (xo_F_tr F1 (xo_F_tr F2 (xo_F_tr F3 F4))) (by omega) (fun z => ⟨(e1 (e2 (by omega)).1).1, fun m hm => ?_⟩) (fun z m r hm q => ?_))
  · obtain ⟨v3, q4⟩ := e4 m hm
    obtain ⟨v2, q3⟩ := e3 m v3
    obtain ⟨v1, q2⟩ := (e2 (by omega)).2 m v2
    obtain ⟨v0, q1⟩ := (e1 (e2 (by omega)).1).2 m v1
    exact ⟨v0, by rw [sv_SR7]; exact ⟨_, _, _, by rw [q1, q2], by rw [q4, q3]⟩⟩
  · rw [sv_SR7] at q
    obtain ⟨p, a, b, q1, q2⟩ := q
    obtain ⟨z1, m1, v1, ag1, r1, x1⟩ := f1 z m _ _ hm q1
    obtain ⟨z2, m2, v2, ag2, r2, y2⟩ := f2 z1 m1 _ _ v1 r1
    obtain ⟨m3, v3, ag3, r3⟩ := f3 m2 v2
    obtain ⟨m4, v4, ag4, r4⟩ := f4 m3 v3
    refine ⟨by omega, m4, v4, fun i hi => (ag4 i (by omega)).trans ((ag3 i (by omega)).trans ((ag2 i (by omega)).trans (ag1 i hi))), ?_⟩
    rw [r4, r3, ag3 y hy, ag2 x hx, r2, x1, y2, q2]
theorem xo_t11 {post : SX → Prop} (I : xo_I t) (hn : tx_n t + 12 ≤ 400) (h : ∀ t', xo_S 11 t t' → post (gx c t')) : wpX_typeApply post (gx c t) := by
  rw [we_X_typeApply]
  refine xo_take I (by omega) (fun x t1 I1 F1 n1 hx sx e1 f1 => ?_)
  refine xo_want I1 (by omega) (fun t2 I2 F2 n2 s2 w2 k2 k2' b2 e2 f2 => ?_)
  refine xo_unify (t := t2) I2.1 (by omega) (by omega) (by rw [F2.2.1 x hx, sx, k2]; rfl) (fun t3 G3 S3 e3 f3 => ?_)
  have I3 := xo_I_same I2 G3 S3
  have n3 : tx_n t3 = tx_n t2 := S3.1
  have hb : tx_B t3 (tx_n t1 + 1) = tx_n t1 := by rw [S3.2.2.2.1]; exact b2
  have eb : sv_na (tx_B t3) (nI (tx_n t1 + 1)).toNatClampNeg = nI (tx_n t1) := by rw [sv_naA (by omega), hb]
  refine ⟨vp_in_nI (by omega) (by omega), nm_r eb ?_⟩
  have l1 := F1.1
  refine h (xo_rw t3 (tx_n t1)) (xo_lift (by decide) (by decide) I (xo_I_rw I3 (by omega) (by rw [S3.2.1, k2']; rfl)) (xo_F_tr F1 (xo_F_tr F2 (xo_F_tr (xo_F_same S3) xo_F_rw))) (show tx_n t3 ≤ _ by omega) (fun z => ?_) (fun z m r hm q => ?_))
  · obtain ⟨z2, v3⟩ := e3 z
    obtain ⟨z1, v1⟩ := e1 (by omega)
    refine ⟨z1, fun m hm => ?_⟩
    obtain ⟨u2, q3⟩ := v3 m hm
    obtain ⟨u1, q2⟩ := e2 m u2
    obtain ⟨u0, q1⟩ := v1 m u1
    refine ⟨u0, ?_⟩
    rw [sv_SR11]
    exact ⟨_, by rw [q1, q3, q2]; rfl⟩
  · rw [sv_SR11] at q
    obtain ⟨p, q⟩ := q
    obtain ⟨z1, m1, v1, ag1, r1, x1⟩ := f1 z m _ _ hm q
    obtain ⟨m2, v2, ag2, a2, w2'⟩ := f2 m1 r v1
    obtain ⟨z3, v3⟩ := f3 (by omega) m2 v2 (by rw [ag2 x hx, x1, w2', r1])
    exact ⟨z3, m2, v3, fun i hi => (ag2 i (by omega)).trans (ag1 i hi), a2⟩
theorem xo_t12 {post : SX → Prop} (I : xo_I t) (hn : tx_n t + 12 ≤ 400) (h : ∀ t', xo_S 12 t t' → post (gx c t')) : wpX_typeDip post (gx c t) := by
  rw [we_X_typeDip]
  refine xo_take I (by omega) (fun x t0 I0 F0 n0 hx0 sx e0 f0 => ?_)
  refine xo_take I0 (by omega) (fun y t1 I1 F1 n1 hy sy e1 f1 => ?_)
  have hx : x < tx_n t1 := Nat.lt_of_lt_of_le hx0 F1.1
  refine xo_want I1 (by omega) (fun t2 I2 F2 n2 s2 w2 k2 k2' b2 e2 f2 => ?_)
  refine xo_unify (t := t2) I2.1 (by omega) (by omega) (by rw [F2.2.1 x hx, F1.2.1 x hx0, sx, k2]; rfl) (fun t3 G3 S3 e3 f3 => ?_)
  have I3 := xo_I_same I2 G3 S3
  have n3 : tx_n t3 = tx_n t2 := S3.1
  have hb : tx_B t3 (tx_n t1 + 1) = tx_n t1 := by rw [S3.2.2.2.1]; exact b2
  have eb : sv_na (tx_B t3) (nI (tx_n t1 + 1)).toNatClampNeg = nI (tx_n t1) := by rw [sv_naA (by omega), hb]
  refine ⟨vp_in_nI (by omega) (by omega), nm_r eb ?_⟩
  have l0 := F0.1
  have l1 := F1.1
  have I3' : xo_I (xo_rw t3 (tx_n t1)) := xo_I_rw I3 (by omega) (by rw [S3.2.1, k2']; rfl)
  refine xo_give (t := xo_rw t3 (tx_n t1)) (x := y) I3' (show tx_n t3 + 1 ≤ 400 by omega) (show y < tx_n t3 by omega) (by show sv_rb (tx_K t3 y) = false; rw [S3.2.1, F2.2.1 y hy]; exact sy) (fun t4 I4 F4 n4 s4 e4 f4 => ?_)
  have n4' : tx_n t4 ≤ tx_n t3 + 1 := n4
  have s4' : tx_s t4 = tx_s t3 := s4
  have l4 : tx_n t3 ≤ tx_n t4 := F4.1
  refine h t4 (xo_lift (by decide) (by decide) I I4 (xo_F_tr F0 (xo_F_tr F1 (xo_F_tr F2 (xo_F_tr (xo_F_same S3) (xo_F_tr xo_F_rw F4))))) (by omega) (fun z => ?_) (fun z m r hm q => ?_))
  · obtain ⟨z2, v3⟩ := e3 (by omega)
    obtain ⟨z1, v1⟩ := e1 (by omega)
    obtain ⟨z0, v0⟩ := e0 z1
    refine ⟨z0, fun m hm => ?_⟩
    obtain ⟨u3, q4⟩ := e4 m hm
    obtain ⟨u2, q3⟩ := v3 m u3
    obtain ⟨u1, q2⟩ := e2 m u2
    obtain ⟨u0, q1⟩ := v1 m u1
    obtain ⟨u, q0⟩ := v0 m u0
    refine ⟨u, ?_⟩
    rw [sv_SR12]
    exact ⟨m (tx_rw t1), m y, m (tx_n t1), by rw [q0, q1, q3, q2], q4⟩
  · rw [sv_SR12] at q
    obtain ⟨p, a, b, q, q'⟩ := q
    obtain ⟨z0, m0, v0, ag0, r0, x0⟩ := f0 z m _ _ hm q
    obtain ⟨z1, m1, v1, ag1, r1, y1⟩ := f1 z0 m0 _ _ v0 r0
    obtain ⟨m2, v2, ag2, a2, w2'⟩ := f2 m1 b v1
    obtain ⟨z3, v3⟩ := f3 (by omega) m2 v2 (by rw [ag2 x hx, ag1 x hx0, x0, w2', r1])
    obtain ⟨m4, v4, ag4, r4⟩ := f4 m2 v3
    have ag4 : ∀ i, i < tx_n t3 → m4 i = m2 i := ag4
    have r4 : m4 (tx_rw t4) = sv_nd 5 (m2 (tx_n t1)) (m2 y) := r4
    refine ⟨by omega, m4, v4, fun i hi => (ag4 i (by omega)).trans ((ag2 i (by omega)).trans ((ag1 i (by omega)).trans (ag0 i hi))), ?_⟩
    rw [r4, a2, ag2 y hy, y1, q']
theorem xo_t13 {post : SX → Prop} (I : xo_I t) (hn : tx_n t + 12 ≤ 400) (h : ∀ t', xo_S 13 t t' → post (gx c t')) : wpX_typeIf post (gx c t) := by
  rw [we_X_typeIf]
  refine xo_take I (by omega) (fun x t0 I0 F0 n0 hx0 sx e0 f0 => ?_)
  refine xo_take I0 (by omega) (fun y ta Ia Fa na hya sy ea fa => ?_)
  have hxa : x < tx_n ta := Nat.lt_of_lt_of_le hx0 Fa.1
  refine xo_takeInt Ia (by omega) (fun t1 I1 F1 n1 e1 f1 => ?_)
  have hx : x < tx_n t1 := Nat.lt_of_lt_of_le hxa F1.1
  have hy : y < tx_n t1 := Nat.lt_of_lt_of_le hya F1.1
  refine xo_want I1 (by omega) (fun t2 I2 F2 n2 s2 w2 k2 k2' b2 e2 f2 => ?_)
  refine xo_unify (t := t2) I2.1 (by omega) (by omega) (by rw [F2.2.1 x hx, F1.2.1 x hxa, Fa.2.1 x hx0, sx, k2]; rfl) (fun t3 G3 S3 e3 f3 => ?_)
  have n3 : tx_n t3 = tx_n t2 := S3.1
  refine xo_unify (t := t3) G3 (by omega) (by omega) (by rw [S3.2.1, F2.2.1 y hy, F1.2.1 y hya, sy, k2]; rfl) (fun t4 G4 S4 e4 f4 => ?_)
  have I4 := xo_I_same (xo_I_same I2 G3 S3) G4 S4
  have n4 : tx_n t4 = tx_n t3 := S4.1
  have hb : tx_B t4 (tx_n t1 + 1) = tx_n t1 := by rw [S4.2.2.2.1, S3.2.2.2.1]; exact b2
  have eb : sv_na (tx_B t4) (nI (tx_n t1 + 1)).toNatClampNeg = nI (tx_n t1) := by rw [sv_naA (by omega), hb]
  refine ⟨vp_in_nI (by omega) (by omega), nm_r eb ?_⟩
  have l0 := F0.1
  have la := Fa.1
  have l1 := F1.1
  refine h (xo_rw t4 (tx_n t1)) (xo_lift (by decide) (by decide) I (xo_I_rw I4 (by omega) (by rw [S4.2.1, S3.2.1, k2']; rfl)) (xo_F_tr F0 (xo_F_tr Fa (xo_F_tr F1 (xo_F_tr F2 (xo_F_tr (xo_F_same S3) (xo_F_tr (xo_F_same S4) xo_F_rw)))))) (show tx_n t4 ≤ _ by omega) (fun z => ?_) (fun z m r hm q => ?_))
  · obtain ⟨z3, v4⟩ := e4 z
    obtain ⟨z2, v3⟩ := e3 z3
    obtain ⟨z1, v1⟩ := e1 (by omega)
    obtain ⟨za, va⟩ := ea z1
    obtain ⟨z0, v0⟩ := e0 za
    refine ⟨z0, fun m hm => ?_⟩
    obtain ⟨u3, q4⟩ := v4 m hm
    obtain ⟨u2, q3⟩ := v3 m u3
    obtain ⟨u1, q2⟩ := e2 m u2
    obtain ⟨ua, q1⟩ := v1 m u1
    obtain ⟨u0, qa⟩ := va m ua
    obtain ⟨u, q0⟩ := v0 m u0
    refine ⟨u, ?_⟩
    rw [sv_SR13]
    refine ⟨m (tx_rw t1), ?_⟩
    show m (tx_rw t) = sv_nd 5 (sv_nd 5 (sv_nd 5 (m (tx_rw t1)) (sv_lf 1)) (sv_nd 2 (m (tx_rw t1)) (m (tx_n t1)))) (sv_nd 2 (m (tx_rw t1)) (m (tx_n t1)))
    rw [q0, qa, q1, q3, q4, q2]
  · rw [sv_SR13] at q
    obtain ⟨p, q⟩ := q
    obtain ⟨z0, m0, v0, ag0, r0, x0⟩ := f0 z m _ _ hm q
    obtain ⟨za, ma, va, aga, ra, ya⟩ := fa z0 m0 _ _ v0 r0
    obtain ⟨z1, m1, v1, ag1, r1⟩ := f1 za ma _ va ra
    obtain ⟨m2, v2, ag2, a2, w2'⟩ := f2 m1 r v1
    obtain ⟨z3, v3⟩ := f3 (by omega) m2 v2 (by rw [ag2 x hx, ag1 x hxa, aga x hx0, x0, w2', r1])
    obtain ⟨z4, v4⟩ := f4 z3 m2 v3 (by rw [ag2 y hy, ag1 y hya, ya, w2', r1])
    exact ⟨z4, m2, v4, fun i hi => (ag2 i (by omega)).trans ((ag1 i (by omega)).trans ((aga i (by omega)).trans (ag0 i hi))), a2⟩
theorem xo_ta {post : SX → Prop} {k : Nat} (hk : k = 8 ∨ k = 9 ∨ k = 10) (I : xo_I t) (hn : tx_n t + 12 ≤ 400) (h : ∀ t', xo_S k t t' → post (gx c t')) : pqX_typeToken_132 post (gx c t) := by
  rw [pqX_typeToken_132_e]
  refine xo_takeInt I (by omega) (fun t1 I1 F1 n1 e1 f1 => ?_)
  refine xo_takeInt I1 (by omega) (fun t2 I2 F2 n2 e2 f2 => ?_)
  refine xo_giveInt I2 (by omega) (fun t3 I3 F3 n3 s3 e3 f3 => ?_)
  have l1 := F1.1
  have l2 := F2.1
  refine h t3 (xo_lift (by omega) (by omega) I I3 (xo_F_tr F1 (xo_F_tr F2 F3)) (by omega) (fun z => ?_) (fun z m r hm q => ?_))
  · obtain ⟨z1, v2⟩ := e2 (by omega)
    obtain ⟨z0, v1⟩ := e1 z1
    refine ⟨z0, fun m hm => ?_⟩
    obtain ⟨u2, q3⟩ := e3 m hm
    obtain ⟨u1, q2⟩ := v2 m u2
    obtain ⟨u0, q1⟩ := v1 m u1
    refine ⟨u0, ?_⟩
    rw [sv_SRa hk]
    exact ⟨_, by rw [q1, q2], q3⟩
  · rw [sv_SRa hk] at q
    obtain ⟨p, q, q'⟩ := q
    obtain ⟨z1, m1, v1, ag1, r1⟩ := f1 z m _ hm q
    obtain ⟨z2, m2, v2, ag2, r2⟩ := f2 z1 m1 _ v1 r1
    obtain ⟨m3, v3, ag3, r3⟩ := f3 m2 v2
    refine ⟨by omega, m3, v3, fun i hi => (ag3 i (by omega)).trans ((ag2 i (by omega)).trans (ag1 i hi)), ?_⟩
    rw [r3, r2, q']
end
end
section
/-! the component: brackets, any token, and the walk through calls -/
section
variable {c : SX} {t : sv_TX}
theorem xo_t3 {post : SX → Prop} (I : xo_I t) (hn : tx_n t + 12 ≤ 400) (hb : tx_ne t < 32) (h : ∀ t', xo_S 3 t t' → post (gx c t')) : wpX_openBody post (gx c t) := by
  rw [we_X_openBody]
  obtain ⟨i1, i2, i3, i4, i5⟩ := id I
  have hi : vp_in (nI (tx_ne t)) 32 := vp_in_nI hb (by omega)
  refine ⟨hi, nm_r (sv_naU (f := tx_oR t) (k := tx_ne t) (by omega)) ⟨hi, nm_r (sv_naU (f := tx_oS t) (k := tx_ne t) (by omega)) (nm_r (nI_1 (tx_ne t)) ?_)⟩⟩
  have key : ∀ t1 : sv_TX, t1 = (tx_n t, tx_s t, tx_st t, tx_rw t, tx_ne t + 1, tx_K t, tx_A t, tx_B t, tx_P t, tx_R t, tx_D t, tx_M t, tx_Q t, tx_L t, tx_G t, sv_un (tx_oR t) (tx_ne t) (tx_rw t), sv_un (tx_oS t) (tx_ne t) (tx_st t), tx_cP t, tx_cE t) → wpX_make (fun r_6 u1 => (post (xs_startRow_row u1 r_6 r_6))) (gx c t1) 200 0 0 := by
    intro t1 et1
    have G1 : xo_G t1 := by rw [et1]; exact i1
    have n1 : tx_n t1 = tx_n t := by rw [et1]; rfl
    refine xo_make (t := t1) (k := 200) (a := 0) (b := 0) (by omega) ?_
    have G2 := xo_mk_G G1 (by omega) (xo_okv (t := t1) (k := 200) (Or.inr (Or.inr rfl)))
    have ke : ∀ i, i < tx_n t → tx_K (xo_mk t1 200 0 0) i = tx_K t i := fun i hi => by
      show sv_un (tx_K t1) (tx_n t1) 200 i = _
      rw [sv_uo (by omega), et1]; rfl
    have kn : tx_K (xo_mk t1 200 0 0) (tx_n t) = 200 := by
      show sv_un (tx_K t1) (tx_n t1) 200 (tx_n t) = _
      rw [n1, sv_us]
    have n2 : tx_n (xo_mk t1 200 0 0) = tx_n t + 1 := by show tx_n t1 + 1 = _; rw [n1]
    have oRn : tx_oR t1 (tx_ne t) = tx_rw t := by rw [et1]; exact sv_us
    have oSn : tx_oS t1 (tx_ne t) = tx_st t := by rw [et1]; exact sv_us
    have oRo : ∀ k, k < tx_ne t → tx_oR t1 k = tx_oR t k := fun k hk => by rw [et1]; exact sv_uo (by omega)
    have oSo : ∀ k, k < tx_ne t → tx_oS t1 k = tx_oS t k := fun k hk => by rw [et1]; exact sv_uo (by omega)
    have ne1 : tx_ne t1 = tx_ne t + 1 := by rw [et1]; rfl
    have V1 : ∀ m, xo_V t1 m ↔ xo_V t m := fun m => by rw [et1]; exact Iff.rfl
    have stk : ∀ m m' : Nat → Nat, (∀ i, i < tx_n t → m' i = m i) → sv_stk m' (tx_oR t1) (tx_oS t1) (tx_ne t1) = (m (tx_rw t), m (tx_st t)) :: sv_stk m (tx_oR t) (tx_oS t) (tx_ne t) := by
      intro m m' ag
      rw [ne1]
      show (m' (tx_oR t1 (tx_ne t)), m' (tx_oS t1 (tx_ne t))) :: sv_stk m' (tx_oR t1) (tx_oS t1) (tx_ne t) = _
      rw [oRn, oSn, ag _ i3.1, ag _ i2.1, sv_stk_congr (m := m) (oR := tx_oR t) (oS := tx_oS t) (tx_ne t) (fun j hj => ?_)]
      rw [oRo j hj, oSo j hj]
      exact ⟨ag _ (i5 j hj).1, ag _ (i5 j hj).2.2.1⟩
    have cP1 : tx_cP t1 = tx_cP t := by rw [et1]; rfl
    have cE1 : tx_cE t1 = tx_cE t := by rw [et1]; rfl
    have s1 : tx_s t1 = tx_s t := by rw [et1]; rfl
    have key2 : ∀ t' : sv_TX, t' = (tx_n (xo_mk t1 200 0 0), tx_s (xo_mk t1 200 0 0), tx_n t1, tx_n t1, tx_ne (xo_mk t1 200 0 0), tx_K (xo_mk t1 200 0 0), tx_A (xo_mk t1 200 0 0), tx_B (xo_mk t1 200 0 0), tx_P (xo_mk t1 200 0 0), tx_R (xo_mk t1 200 0 0), tx_D (xo_mk t1 200 0 0), tx_M (xo_mk t1 200 0 0), tx_Q (xo_mk t1 200 0 0), tx_L (xo_mk t1 200 0 0), tx_G (xo_mk t1 200 0 0), tx_oR (xo_mk t1 200 0 0), tx_oS (xo_mk t1 200 0 0), tx_cP (xo_mk t1 200 0 0), tx_cE (xo_mk t1 200 0 0)) → post (gx c t') := by
      intro t' et'
      have nn : tx_n t' = tx_n t + 1 := by rw [et']; exact n2
      have KK : tx_K t' = tx_K (xo_mk t1 200 0 0) := by rw [et']; rfl
      have rr : tx_rw t' = tx_n t := by rw [et']; exact n1
      have ss : tx_st t' = tx_n t := by rw [et']; exact n1
      have VV : ∀ m, xo_V t' m ↔ xo_V (xo_mk t1 200 0 0) m := fun m => by rw [et']; exact Iff.rfl
      have oo : tx_oR t' = tx_oR t1 := by rw [et']; rfl
      have oo' : tx_oS t' = tx_oS t1 := by rw [et']; rfl
      have nee : tx_ne t' = tx_ne t1 := by rw [et']; rfl
      have sss : tx_s t' = tx_s t := by rw [et']; exact s1
      refine h t' ⟨⟨by rw [et']; exact G2, ?_, ?_, ?_, ?_⟩, by omega, by omega, by rw [KK]; exact ke 0 (by omega), by rw [et']; exact cP1, by rw [et']; exact cE1, fun _ => by rw [nee]; exact ne1, fun z => absurd z (by decide), fun z => absurd rfl z, fun z => ⟨by omega, fun m hm => ?_⟩, fun z m w hm hS => ?_⟩
      · rw [nn, ss, KK, kn]; exact ⟨by omega, rfl⟩
      · rw [nn, rr, KK, kn]; exact ⟨by omega, rfl⟩
      · rw [nee, ne1]; omega
      · intro k hk
        rw [nee, ne1] at hk
        rw [oo, oo', KK, nn]
        by_cases e : k = tx_ne t
        · rw [e, oRn, oSn, ke _ i3.1, ke _ i2.1]
          exact ⟨by omega, i3.2, by omega, i2.2⟩
        · obtain ⟨q1, q2, q3, q4⟩ := i5 k (by omega)
          rw [oRo k (by omega), oSo k (by omega), ke _ q1, ke _ q3]
          exact ⟨by omega, q2, by omega, q4⟩
      · have v1 := (xo_mk_V1 G1.2.2.1 ((VV m).mp hm)).1
        refine ⟨(V1 m).mp v1, ?_⟩
        rw [sv_St3]
        refine ⟨?_, ?_⟩
        · show m (tx_rw t') = m (tx_st t')
          rw [rr, ss]
        · show sv_stk m (tx_oR t') (tx_oS t') (tx_ne t') = _
          rw [oo, oo', nee]
          exact stk m m (fun _ _ => rfl)
      · rw [sv_St3] at hS
        obtain ⟨w1, w2⟩ := hS
        have v2 := xo_mk_V2 (T := w.1) G1 (xo_okv (t := t1) (k := 200) (Or.inr (Or.inr rfl))) ((V1 m).mpr hm) (xo_nsv (Or.inr rfl))
        rw [n1] at v2
        have ag : ∀ i, i < tx_n t → sv_un m (tx_n t) w.1 i = m i := fun i hi => sv_uo (by omega)
        refine ⟨by omega, sv_un m (tx_n t) w.1, (VV _).mpr v2, ag, ?_⟩
        show (sv_un m (tx_n t) w.1 (tx_rw t'), sv_un m (tx_n t) w.1 (tx_st t'), sv_stk (sv_un m (tx_n t) w.1) (tx_oR t') (tx_oS t') (tx_ne t')) = w
        rw [oo, oo', nee, stk m _ ag, rr, ss, sv_us]
        have w2 : w.2.2 = (m (tx_rw t), m (tx_st t)) :: sv_stk m (tx_oR t) (tx_oS t) (tx_ne t) := w2
        rw [← w2]
        exact Prod.ext rfl (Prod.ext w1 rfl)
    exact key2 _ rfl
  exact key _ rfl
theorem xo_t4 {post : SX → Prop} (I : xo_I t) (hn : tx_n t + 12 ≤ 400) (hb : 0 < tx_ne t) (h : ∀ t', xo_S 4 t t' → post (gx c t')) : wpX_closeBody post (gx c t) := by
  rw [we_X_closeBody]
  obtain ⟨i1, i2, i3, i4, i5⟩ := id I
  have ok : xo_mkok t 2 (tx_st t) (tx_rw t) := ⟨Or.inr (Or.inl rfl), fun z => by omega, by omega, by omega, fun _ => ⟨i2.1, i3.1, i2.2, i3.2⟩, fun z => by omega⟩
  refine xo_make (t := t) (k := 2) (a := tx_st t) (b := tx_rw t) (by omega) ?_
  have I1 := xo_I_mk I (by omega) ok
  have F1 : xo_F t (xo_mk t 2 (tx_st t) (tx_rw t)) := xo_F_mk
  obtain ⟨ne0, hne⟩ : ∃ k, tx_ne t = k + 1 := ⟨tx_ne t - 1, by omega⟩
  have e1 : xq_nested (gx c (xo_mk t 2 (tx_st t) (tx_rw t))) - 1 = nI ne0 := by
    show nI (tx_ne t) - 1 = nI ne0
    rw [hne]; exact nI_pred ne0
  obtain ⟨p1, p2, p3, p4⟩ := i5 ne0 (by omega)
  have hi : vp_in (nI ne0) 32 := vp_in_nI (by omega) (by omega)
  refine nm_r e1 ⟨hi, nm_r (sv_naA (f := tx_oR t) (by omega)) ⟨hi, nm_r (sv_naA (f := tx_oS t) (by omega)) ?_⟩⟩
  have key : ∀ t1 : sv_TX, t1 = (tx_n (xo_mk t 2 (tx_st t) (tx_rw t)), tx_s (xo_mk t 2 (tx_st t) (tx_rw t)), tx_oS t ne0, tx_oR t ne0, ne0, tx_K (xo_mk t 2 (tx_st t) (tx_rw t)), tx_A (xo_mk t 2 (tx_st t) (tx_rw t)), tx_B (xo_mk t 2 (tx_st t) (tx_rw t)), tx_P (xo_mk t 2 (tx_st t) (tx_rw t)), tx_R (xo_mk t 2 (tx_st t) (tx_rw t)), tx_D (xo_mk t 2 (tx_st t) (tx_rw t)), tx_M (xo_mk t 2 (tx_st t) (tx_rw t)), tx_Q (xo_mk t 2 (tx_st t) (tx_rw t)), tx_L (xo_mk t 2 (tx_st t) (tx_rw t)), tx_G (xo_mk t 2 (tx_st t) (tx_rw t)), tx_oR (xo_mk t 2 (tx_st t) (tx_rw t)), tx_oS (xo_mk t 2 (tx_st t) (tx_rw t)), tx_cP (xo_mk t 2 (tx_st t) (tx_rw t)), tx_cE (xo_mk t 2 (tx_st t) (tx_rw t))) → wpX_give (fun u2 => post u2) (gx c t1) (nI (tx_n t)) := by
    intro t1 et1
    have G1 : xo_G t1 := by rw [et1]; exact I1.1
    have n1 : tx_n t1 = tx_n t + 1 := by rw [et1]; rfl
    have K1 : tx_K t1 = tx_K (xo_mk t 2 (tx_st t) (tx_rw t)) := by rw [et1]; rfl
    have ke : ∀ i, i < tx_n t → tx_K t1 i = tx_K t i := fun i hi => by rw [K1]; exact F1.2.1 i hi
    have kn : tx_K t1 (tx_n t) = 2 := by rw [K1]; exact sv_us
    have st1 : tx_st t1 = tx_oS t ne0 := by rw [et1]; rfl
    have rw1 : tx_rw t1 = tx_oR t ne0 := by rw [et1]; rfl
    have ne1 : tx_ne t1 = ne0 := by rw [et1]; rfl
    have oR1 : tx_oR t1 = tx_oR t := by rw [et1]; rfl
    have oS1 : tx_oS t1 = tx_oS t := by rw [et1]; rfl
    have s1 : tx_s t1 = tx_s t := by rw [et1]; rfl
    have V1 : ∀ m, xo_V t1 m ↔ xo_V (xo_mk t 2 (tx_st t) (tx_rw t)) m := fun m => by rw [et1]; exact Iff.rfl
    have It1 : xo_I t1 := by
      refine ⟨G1, ?_, ?_, by omega, fun k hk => ?_⟩
      · rw [n1, st1, ke _ p3]; exact ⟨by omega, p4⟩
      · rw [n1, rw1, ke _ p1]; exact ⟨by omega, p2⟩
      · obtain ⟨q1, q2, q3, q4⟩ := i5 k (by omega)
        rw [n1, oR1, oS1, ke _ q1, ke _ q3]; exact ⟨by omega, q2, by omega, q4⟩
    refine xo_give (t := t1) It1 (by omega) (by omega) (by rw [kn]; rfl) (fun t2 I2 F2 n2 s2 e2 f2 => ?_)
    obtain ⟨b1, b2, b3, b4, b5, b6, b7, b8⟩ := F2
    have stk : ∀ m m' : Nat → Nat, (∀ i, i < tx_n t → m' i = m i) → sv_stk m' (tx_oR t2) (tx_oS t2) (tx_ne t2) = sv_stk m (tx_oR t) (tx_oS t) ne0 := by
      intro m m' ag
      rw [b4, b5, b6, ne1, oR1, oS1]
      exact sv_stk_congr _ (fun j hj => ⟨ag _ (i5 j (by omega)).1, ag _ (i5 j (by omega)).2.2.1⟩)
    have vst : ∀ m, (xo_vw m t).2.2 = (m (tx_oR t ne0), m (tx_oS t ne0)) :: sv_stk m (tx_oR t) (tx_oS t) ne0 := fun m => by
      show sv_stk m (tx_oR t) (tx_oS t) (tx_ne t) = _
      rw [hne]; rfl
    refine h t2 ⟨I2, by omega, by omega, (b2 0 (by omega)).trans (ke 0 (by omega)), ?_, ?_, fun z => absurd z (by decide), fun _ => by omega, fun _ z => absurd rfl z, fun z => ⟨by omega, fun m hm => ?_⟩, fun z m w hm hS => ?_⟩
    · rw [b7, et1]; rfl
    · rw [b8, et1]; rfl
    · obtain ⟨v1, q1⟩ := e2 m hm
      obtain ⟨v0, q0⟩ := xo_mk_V1 i1.2.2.1 ((V1 m).mp v1)
      refine ⟨v0, ?_⟩
      rw [sv_St4]
      refine ⟨m (tx_oR t ne0), ?_, ?_⟩
      · rw [vst]
        show _ = (m (tx_oR t ne0), m (tx_st t2)) :: sv_stk m (tx_oR t2) (tx_oS t2) (tx_ne t2)
        rw [stk m m (fun _ _ => rfl), b3, st1]
      · show m (tx_rw t2) = sv_nd 5 (m (tx_oR t ne0)) (sv_nd 2 (m (tx_st t)) (m (tx_rw t)))
        rw [q1, rw1, q0.2.2.1 rfl]
    · rw [sv_St4] at hS
      obtain ⟨r0, w1, w2⟩ := hS
      rw [vst] at w1
      injection w1 with w3 w4
      injection w3 with w5 w6
      have v1 := xo_mk_V2 (T := sv_nd 2 (m (tx_st t)) (m (tx_rw t))) i1 ok hm xo_ns2
      obtain ⟨m', v2, ag, q⟩ := f2 _ ((V1 _).mpr v1)
      have ag' : ∀ i, i < tx_n t → m' i = m i := fun i hi => (ag i (by omega)).trans (sv_uo (by omega))
      refine ⟨by omega, m', v2, ag', ?_⟩
      show (m' (tx_rw t2), m' (tx_st t2), sv_stk m' (tx_oR t2) (tx_oS t2) (tx_ne t2)) = w
      rw [stk m m' ag', q, rw1, sv_us, sv_uo (by omega), b3, st1, ag' _ p3, w4, w6, w5]
      have w2 : w.1 = sv_nd 5 r0 (sv_nd 2 (m (tx_st t)) (m (tx_rw t))) := w2
      rw [← w2]
  exact key _ rfl
/-- any token but a call -/
theorem xo_tok {post : SX → Prop} {k : Nat} (I : xo_I t) (hn : tx_n t + 12 ≤ 400) (h1 : 1 ≤ k) (h13 : k ≤ 13) (h2 : k ≠ 2) (h3 : k = 3 → tx_ne t < 32) (h4 : k = 4 → 0 < tx_ne t) (h : ∀ t', xo_S k t t' → post (gx c t')) : wpX_typeToken post (gx c t) (nI k) := by
  rw [we_X_typeToken]
  rcases (show k = 1 ∨ k = 3 ∨ k = 4 ∨ k = 5 ∨ k = 6 ∨ k = 7 ∨ k = 8 ∨ k = 9 ∨ k = 10 ∨ k = 11 ∨ k = 12 ∨ k = 13 by omega) with rfl | rfl | rfl | rfl | rfl | rfl | rfl | rfl | rfl | rfl | rfl | rfl
  · exact br_f (by decide) (br_f (by decide) (br_t rfl (xo_t1 I hn h)))
  · exact br_f (by decide) (br_f (by decide) (br_f (by decide) (br_f (by decide) (br_t rfl (xo_t3 I hn (h3 rfl) h)))))
  · exact br_f (by decide) (br_f (by decide) (br_f (by decide) (br_f (by decide) (br_f (by decide) (br_t rfl (xo_t4 I hn (h4 rfl) h))))))
  · exact br_f (by decide) (br_f (by decide) (br_f (by decide) (br_f (by decide) (br_f (by decide) (br_f (by decide) (br_t rfl (xo_t5 I hn h)))))))
  · exact br_f (by decide) (br_f (by decide) (br_f (by decide) (br_f (by decide) (br_f (by decide) (br_f (by decide) (br_f (by decide) (br_t rfl (xo_t6 I hn h))))))))
  · exact br_f (by decide) (br_f (by decide) (br_f (by decide) (br_f (by decide) (br_f (by decide) (br_f (by decide) (br_f (by decide) (br_f (by decide) (br_t rfl (xo_t7 I hn h)))))))))
  · exact br_f (by decide) (br_f (by decide) (br_f (by decide) (br_f (by decide) (br_f (by decide) (br_f (by decide) (br_f (by decide) (br_f (by decide) (br_f (by decide) (br_t rfl (xo_ta (Or.inl rfl) I hn h))))))))))
  · exact br_f (by decide) (br_f (by decide) (br_f (by decide) (br_f (by decide) (br_f (by decide) (br_f (by decide) (br_f (by decide) (br_f (by decide) (br_f (by decide) (br_f (by decide) (br_t rfl (xo_ta (Or.inr (Or.inl rfl)) I hn h)))))))))))
  · exact br_f (by decide) (br_f (by decide) (br_f (by decide) (br_f (by decide) (br_f (by decide) (br_f (by decide) (br_f (by decide) (br_f (by decide) (br_f (by decide) (br_f (by decide) (br_f (by decide) (br_t rfl (xo_ta (Or.inr (Or.inr rfl)) I hn h))))))))))))
  · exact br_f (by decide) (br_f (by decide) (br_f (by decide) (br_f (by decide) (br_f (by decide) (br_f (by decide) (br_f (by decide) (br_f (by decide) (br_f (by decide) (br_f (by decide) (br_f (by decide) (br_f (by decide) (br_t rfl (xo_t11 I hn h)))))))))))))
  · exact br_f (by decide) (br_f (by decide) (br_f (by decide) (br_f (by decide) (br_f (by decide) (br_f (by decide) (br_f (by decide) (br_f (by decide) (br_f (by decide) (br_f (by decide) (br_f (by decide) (br_f (by decide) (br_f (by decide) (br_t rfl (xo_t12 I hn h))))))))))))))
  · exact br_f (by decide) (br_f (by decide) (br_f (by decide) (br_f (by decide) (br_f (by decide) (br_f (by decide) (br_f (by decide) (br_f (by decide) (br_f (by decide) (br_f (by decide) (br_f (by decide) (br_f (by decide) (br_f (by decide) (br_f (by decide) (br_t rfl (xo_t13 I hn h)))))))))))))))
end
end
section
/-! words: the flattened list and the weight of a run of tokens -/
section
def wd_L (g : Nat → List Nat) : Nat → Nat → List Nat
  | _, 0 => []
  | p, m + 1 => g p ++ wd_L g (p + 1) m
def wd_W (g : Nat → Nat) : Nat → Nat → Nat
  | _, 0 => 0
  | p, m + 1 => g p + wd_W g (p + 1) m
def wd_tL (kd : Nat → Nat) (ag : Nat → Int32) (fw : Nat → List Nat) (p : Nat) : List Nat := if kd p = 2 then fw (ag p).toNatClampNeg else [kd p]
def wd_tW (kd : Nat → Nat) (ag : Nat → Int32) (wt : Nat → Nat) (p : Nat) : Nat := if kd p = 2 then 1 + wt (ag p).toNatClampNeg else 1
theorem wd_tW1 {kd : Nat → Nat} {ag : Nat → Int32} {wt : Nat → Nat} (p : Nat) : 1 ≤ wd_tW kd ag wt p := by
  unfold wd_tW; split <;> omega
theorem wd_L_app {g : Nat → List Nat} : ∀ (m p k : Nat), wd_L g p (m + k) = wd_L g p m ++ wd_L g (p + m) k
  | 0, p, k => by rw [Nat.zero_add, Nat.add_zero]; rfl
  | m + 1, p, k => by
    rw [show m + 1 + k = (m + k) + 1 by omega]
    show g p ++ wd_L g (p + 1) (m + k) = (g p ++ wd_L g (p + 1) m) ++ wd_L g (p + (m + 1)) k
    rw [wd_L_app m (p + 1) k, List.append_assoc, show p + 1 + m = p + (m + 1) by omega]
theorem wd_W_app {g : Nat → Nat} : ∀ (m p k : Nat), wd_W g p (m + k) = wd_W g p m + wd_W g (p + m) k
  | 0, p, k => by rw [Nat.zero_add, Nat.add_zero]; show _ = 0 + _; omega
  | m + 1, p, k => by
    rw [show m + 1 + k = (m + k) + 1 by omega]
    show g p + wd_W g (p + 1) (m + k) = (g p + wd_W g (p + 1) m) + wd_W g (p + (m + 1)) k
    rw [wd_W_app m (p + 1) k, show p + 1 + m = p + (m + 1) by omega]; omega
theorem wd_W_ge {g : Nat → Nat} (h : ∀ p, 1 ≤ g p) : ∀ (m p : Nat), m ≤ wd_W g p m
  | 0, p => Nat.zero_le _
  | m + 1, p => by
    have := wd_W_ge h m (p + 1)
    have := h p
    show m + 1 ≤ g p + wd_W g (p + 1) m
    omega
theorem wd_W_congr {g g' : Nat → Nat} : ∀ (m p : Nat), (∀ i, i < m → g (p + i) = g' (p + i)) → wd_W g p m = wd_W g' p m
  | 0, p, _ => rfl
  | m + 1, p, h => by
    show g p + wd_W g (p + 1) m = g' p + wd_W g' (p + 1) m
    have ih := wd_W_congr (g := g) (g' := g') m (p + 1) (fun i hi => by
      have := h (i + 1) (by omega)
      rw [show p + 1 + i = p + (i + 1) by omega]
      exact this)
    rw [ih, show g p = g' p from h 0 (by omega)]
theorem wd_L_congr {g g' : Nat → List Nat} : ∀ (m p : Nat), (∀ i, i < m → g (p + i) = g' (p + i)) → wd_L g p m = wd_L g' p m
  | 0, p, _ => rfl
  | m + 1, p, h => by
    show g p ++ wd_L g (p + 1) m = g' p ++ wd_L g' (p + 1) m
    have ih := wd_L_congr (g := g) (g' := g') m (p + 1) (fun i hi => by
      have := h (i + 1) (by omega)
      rw [show p + 1 + i = p + (i + 1) by omega]
      exact this)
    rw [ih, show g p = g' p from h 0 (by omega)]
/-- the finished words -/
def wd_ok (kd ln wt : Nat → Nat) (ag : Nat → Int32) (fw : Nat → List Nat) (cnt : Nat) : Prop :=
  cnt ≤ 7 ∧ ∀ w, w < cnt → wt w ≤ 32 ∧ wt w = wd_W (wd_tW kd ag wt) (32 * w) (ln w) ∧ fw w = wd_L (wd_tL kd ag fw) (32 * w) (ln w) ∧
    (∀ i, i < ln w → 1 ≤ kd (32 * w + i) ∧ kd (32 * w + i) ≤ 13 ∧ (kd (32 * w + i) = 2 → ∃ v, v < w ∧ ag (32 * w + i) = nI v))
variable {kd ln wt : Nat → Nat} {ag : Nat → Int32} {fw : Nat → List Nat} {cnt : Nat}
theorem wd_ln (h : wd_ok kd ln wt ag fw cnt) {w : Nat} (hw : w < cnt) : ln w ≤ wt w ∧ ln w ≤ 32 := by
  obtain ⟨h1, h2, h3, h4⟩ := h.2 w hw
  have := wd_W_ge (g := wd_tW kd ag wt) wd_tW1 (ln w) (32 * w)
  omega
theorem wd_tL2 {p v : Nat} (h : kd p = 2) (hv : v < 2 ^ 31) (e : ag p = nI v) : wd_tL kd ag fw p = fw v := by
  unfold wd_tL; rw [if_pos h, e, nI_clamp hv]
theorem wd_tLn {p : Nat} (h : kd p ≠ 2) : wd_tL kd ag fw p = [kd p] := by unfold wd_tL; rw [if_neg h]
theorem wd_tW2 {p v : Nat} (h : kd p = 2) (hv : v < 2 ^ 31) (e : ag p = nI v) : wd_tW kd ag wt p = 1 + wt v := by
  unfold wd_tW; rw [if_pos h, e, nI_clamp hv]
theorem wd_tWn {p : Nat} (h : kd p ≠ 2) : wd_tW kd ag wt p = 1 := by unfold wd_tW; rw [if_neg h]
theorem wd_len_seg {W : Nat} (hl : ∀ v, v < W → (fw v).length ≤ wt v) (hW : W < 2 ^ 31) : ∀ (m p : Nat), (∀ i, i < m → kd (p + i) = 2 → ∃ v, v < W ∧ ag (p + i) = nI v) → (wd_L (wd_tL kd ag fw) p m).length ≤ wd_W (wd_tW kd ag wt) p m
  | 0, p, _ => Nat.le_refl 0
  | m + 1, p, h => by
    show (wd_tL kd ag fw p ++ wd_L (wd_tL kd ag fw) (p + 1) m).length ≤ wd_tW kd ag wt p + wd_W (wd_tW kd ag wt) (p + 1) m
    have ih := wd_len_seg hl hW m (p + 1) (fun i hi => by have := h (i + 1) (by omega); rw [show p + (i + 1) = p + 1 + i by omega] at this; exact this)
    rw [List.length_append]
    by_cases e : kd p = 2
    · obtain ⟨v, hv, ev⟩ := h 0 (by omega) e
      have ev : ag p = nI v := ev
      rw [wd_tL2 e (by omega) ev, wd_tW2 e (by omega) ev]
      have := hl v hv
      omega
    · rw [wd_tLn e, wd_tWn e]
      show 1 + _ ≤ _
      omega
theorem wd_len (h : wd_ok kd ln wt ag fw cnt) : ∀ w, w < cnt → (fw w).length ≤ wt w := by
  intro w
  induction w using Nat.strongRecOn with
  | ind w ih =>
    intro hw
    obtain ⟨h1, h2, h3, h4⟩ := h.2 w hw
    have hc := h.1
    rw [h3, h2]
    exact wd_len_seg (W := w) (fun v hv => ih v hv (by omega)) (by omega) (ln w) (32 * w) (fun i hi e => (h4 i hi).2.2 e)
/-- the depth of brackets behind a list -/
def sv_dp : Nat → List Nat → Nat
  | h, [] => h
  | h, k :: l => sv_dp (if k = 3 then h + 1 else if k = 4 then h - 1 else h) l
theorem sv_dp_app : ∀ (l l' : List Nat) (h : Nat), sv_dp h (l ++ l') = sv_dp (sv_dp h l) l'
  | [], _, _ => rfl
  | k :: l, l', h => sv_dp_app l l' _
theorem sv_ok_app : ∀ (l l' : List Nat) (h : Nat), sv_ok h (l ++ l') ↔ sv_ok h l ∧ sv_ok (sv_dp h l) l'
  | [], _, _ => ⟨fun z => ⟨trivial, z⟩, fun z => z.2⟩
  | k :: l, l', h => by
    show (if k = 3 then sv_ok (h + 1) (l ++ l') else if k = 4 then 0 < h ∧ sv_ok (h - 1) (l ++ l') else sv_ok h (l ++ l')) ↔ (if k = 3 then sv_ok (h + 1) l else if k = 4 then 0 < h ∧ sv_ok (h - 1) l else sv_ok h l) ∧ sv_ok (sv_dp (if k = 3 then h + 1 else if k = 4 then h - 1 else h) l) l'
    by_cases e3 : k = 3
    · rw [if_pos e3, if_pos e3, if_pos e3]; exact sv_ok_app l l' _
    · by_cases e4 : k = 4
      · rw [if_neg e3, if_neg e3, if_neg e3, if_pos e4, if_pos e4, if_pos e4, sv_ok_app l l' _]
        exact ⟨fun ⟨a, b, c⟩ => ⟨⟨a, b⟩, c⟩, fun ⟨⟨a, b⟩, c⟩ => ⟨a, b, c⟩⟩
      · rw [if_neg e3, if_neg e3, if_neg e3, if_neg e4, if_neg e4, if_neg e4]; exact sv_ok_app l l' _
theorem sv_dp_len : ∀ (l : List Nat) (h : Nat), sv_dp h l ≤ h + l.length
  | [], h => Nat.le_refl _
  | k :: l, h => by
    have := sv_dp_len l (if k = 3 then h + 1 else if k = 4 then h - 1 else h)
    show sv_dp _ l ≤ h + (l.length + 1)
    by_cases e3 : k = 3
    · rw [if_pos e3] at this ⊢; omega
    · by_cases e4 : k = 4
      · rw [if_neg e3, if_pos e4] at this ⊢; omega
      · rw [if_neg e3, if_neg e4] at this ⊢; omega
end
end
section
/-! the component: the walk through calls, by lists -/
section
variable {c : SX} {t : sv_TX}
def xo_SL (L : List Nat) (t t' : sv_TX) : Prop := xo_I t' ∧ tx_n t ≤ tx_n t' ∧ tx_n t' ≤ tx_n t + 12 * L.length ∧ tx_K t' 0 = tx_K t 0 ∧ (tx_s t' = 1 → tx_ne t' = sv_dp (tx_ne t) L) ∧
  (tx_s t' = 1 → tx_s t = 1 ∧ ∀ m, xo_V t' m → xo_V t m ∧ sv_rn L (xo_vw m t) (xo_vw m t')) ∧
  (tx_s t = 1 → ∀ m w, xo_V t m → sv_rn L (xo_vw m t) w → tx_s t' = 1 ∧ ∃ m', xo_V t' m' ∧ (∀ i, i < tx_n t → m' i = m i) ∧ xo_vw m' t' = w)
theorem xo_SL_nil (I : xo_I t) : xo_SL [] t t :=
  ⟨I, Nat.le_refl _, Nat.le_add_right _ _, rfl, fun _ => rfl, fun z => ⟨z, fun m hm => ⟨hm, rfl⟩⟩, fun z m w hm e => ⟨z, m, hm, fun _ _ => rfl, e⟩⟩
theorem xo_SL_stop {L : List Nat} (I : xo_I t) (e : tx_s t = 0) : xo_SL L t t :=
  ⟨I, Nat.le_refl _, Nat.le_add_right _ _, rfl, fun z => by omega, fun z => by omega, fun z => by omega⟩
theorem xo_SL_app {l l' : List Nat} {t t1 t' : sv_TX} (h : xo_SL l t t1) (h' : xo_SL l' t1 t') : xo_SL (l ++ l') t t' := by
  obtain ⟨a1, a2, a3, a4, a5, a6, a7⟩ := h
  obtain ⟨b1, b2, b3, b4, b5, b6, b7⟩ := h'
  refine ⟨b1, by omega, ?_, b4.trans a4, fun z => ?_, fun z => ?_, fun z m w hm e => ?_⟩
  · rw [List.length_append]; omega
  · rw [sv_dp_app, b5 z, a5 (b6 z).1]
  · obtain ⟨z1, v1⟩ := b6 z
    obtain ⟨z0, v0⟩ := a6 z1
    refine ⟨z0, fun m hm => ?_⟩
    obtain ⟨u1, q1⟩ := v1 m hm
    obtain ⟨u0, q0⟩ := v0 m u1
    exact ⟨u0, (sv_rn_app l l' _ _).mpr ⟨_, q0, q1⟩⟩
  · obtain ⟨x, e1, e2⟩ := (sv_rn_app l l' _ _).mp e
    obtain ⟨z1, m1, v1, ag1, q1⟩ := a7 z m x hm e1
    rw [← q1] at e2
    obtain ⟨z2, m2, v2, ag2, q2⟩ := b7 z1 m1 w v1 e2
    exact ⟨z2, m2, v2, fun i hi => (ag2 i (by omega)).trans (ag1 i hi), q2⟩
theorem xo_SL_one {k : Nat} {t t' : sv_TX} (h : xo_S k t t') : xo_SL [k] t t' := by
  obtain ⟨a1, a2, a3, a4, a5, a6, a7, a8, a9, a10, a11⟩ := h
  refine ⟨a1, a2, a3, a4, fun _ => ?_, fun z => ?_, fun z m w hm e => ?_⟩
  · show tx_ne t' = (if k = 3 then tx_ne t + 1 else if k = 4 then tx_ne t - 1 else tx_ne t)
    by_cases e3 : k = 3
    · rw [if_pos e3]; exact a7 e3
    · by_cases e4 : k = 4
      · rw [if_neg e3, if_pos e4]; exact a8 e4
      · rw [if_neg e3, if_neg e4]; exact a9 e3 e4
  · obtain ⟨z0, v⟩ := a10 z
    exact ⟨z0, fun m hm => ⟨(v m hm).1, _, (v m hm).2, rfl⟩⟩
  · obtain ⟨x, e1, e2⟩ := e
    have e2 : x = w := e2
    subst e2
    exact a11 z m x hm e1
theorem xo_SL_cons {k : Nat} {l : List Nat} {t t1 t' : sv_TX} (h : xo_S k t t1) (h' : xo_SL l t1 t') : xo_SL (k :: l) t t' := xo_SL_app (xo_SL_one h) h'
def xo_cc (t : sv_TX) (p q : Nat → Nat) : sv_TX := (tx_n t, tx_s t, tx_st t, tx_rw t, tx_ne t, tx_K t, tx_A t, tx_B t, tx_P t, tx_R t, tx_D t, tx_M t, tx_Q t, tx_L t, tx_G t, tx_oR t, tx_oS t, p, q)
theorem xo_cc_st {p q : Nat → Nat} : xs_callPos_callEnd (gx c t) (sv_na p) (sv_na q) = gx c (xo_cc t p q) := rfl
/-- the pending calls: their lists, weights, and where they lie -/
def xw_L (g : Nat → List Nat) (p q : Nat → Nat) : Nat → List Nat
  | 0 => []
  | k + 1 => wd_L g (p k) (q k - p k) ++ xw_L g p q k
def xw_W (g : Nat → Nat) (p q : Nat → Nat) : Nat → Nat
  | 0 => 0
  | k + 1 => wd_W g (p k) (q k - p k) + xw_W g p q k
theorem xw_L_congr {g : Nat → List Nat} {p q p' q' : Nat → Nat} : ∀ k, (∀ j, j < k → p' j = p j ∧ q' j = q j) → xw_L g p' q' k = xw_L g p q k
  | 0, _ => rfl
  | k + 1, h => by
    show wd_L g (p' k) (q' k - p' k) ++ xw_L g p' q' k = _
    rw [(h k (by omega)).1, (h k (by omega)).2, xw_L_congr k (fun j hj => h j (by omega))]; rfl
theorem xw_W_congr {g : Nat → Nat} {p q p' q' : Nat → Nat} : ∀ k, (∀ j, j < k → p' j = p j ∧ q' j = q j) → xw_W g p' q' k = xw_W g p q k
  | 0, _ => rfl
  | k + 1, h => by
    show wd_W g (p' k) (q' k - p' k) + xw_W g p' q' k = _
    rw [(h k (by omega)).1, (h k (by omega)).2, xw_W_congr k (fun j hj => h j (by omega))]; rfl
variable {kd ln wt : Nat → Nat} {ag : Nat → Int32} {fw : Nat → List Nat} {cnt : Nat}
def xw_seg (ln : Nat → Nat) (cnt p q k : Nat) : Prop := ∃ w, w < cnt ∧ w + k ≤ 7 ∧ 32 * w ≤ p ∧ p ≤ q ∧ q ≤ 32 * w + ln w
theorem xw_loop {post : SX → Prop} (hK : xq_tokKind c = sv_na kd) (hA : xq_tokArg c = ag) (hLn : xq_length c = sv_na ln) (WD : wd_ok kd ln wt ag fw cnt) :
    ∀ N pos stop top step t, xo_I t → xw_seg ln cnt pos stop top → (∀ j, j < top → xw_seg ln cnt (tx_cP t j) (tx_cE t j) j) →
      step + 2 * (wd_W (wd_tW kd ag wt) pos (stop - pos) + xw_W (wd_tW kd ag wt) (tx_cP t) (tx_cE t) top) + top ≤ 64 →
      2 * (wd_W (wd_tW kd ag wt) pos (stop - pos) + xw_W (wd_tW kd ag wt) (tx_cP t) (tx_cE t) top) + top < N →
      tx_n t + 12 * (wd_L (wd_tL kd ag fw) pos (stop - pos) ++ xw_L (wd_tL kd ag fw) (tx_cP t) (tx_cE t) top).length ≤ 400 →
      tx_ne t + (wd_L (wd_tL kd ag fw) pos (stop - pos) ++ xw_L (wd_tL kd ag fw) (tx_cP t) (tx_cE t) top).length ≤ 32 →
      sv_ok (tx_ne t) (wd_L (wd_tL kd ag fw) pos (stop - pos) ++ xw_L (wd_tL kd ag fw) (tx_cP t) (tx_cE t) top) →
      (∀ t', xo_SL (wd_L (wd_tL kd ag fw) pos (stop - pos) ++ xw_L (wd_tL kd ag fw) (tx_cP t) (tx_cE t) top) t t' → post (gx c t')) →
      lqX_walk_11 post N (nI pos) (nI stop) (nI top) (nI step) (gx c t) := by
  intro N
  induction N with
  | zero => intro pos stop top step t _ _ _ _ hN; omega
  | succ N ih =>
    intro pos stop top step t I sg fr hst hN hn hne hok h
    rw [lqX_walk_11_s, gx_sound]
    obtain ⟨w, w1, w2, w3, w4, w5⟩ := id sg
    have wl := wd_ln WD w1
    have wc := WD.1
    refine br_f (show ¬ nI 64 < nI step from nI_nlt (by omega) (by omega)) ?_
    rcases I.1.2.2.2.2.1 with e | e
    · rw [e]
      exact br_t rfl (h t (xo_SL_stop I e))
    · rw [e]
      refine br_f (by decide) (pk_lt pos stop (fun hl => ?_) (fun hge => ?_) rfl rfl (by omega) (by omega))
      · rw [pqX_walk_36_e, gx_tokKind, gx_callPos, gx_callEnd, gx_tokArg, gx_length, hK, hA, hLn]
        obtain ⟨m, hm⟩ : ∃ m, stop - pos = m + 1 := ⟨stop - pos - 1, by omega⟩
        have hm' : stop - (pos + 1) = m := by omega
        obtain ⟨k1, k2, k3⟩ := (WD.2 w w1).2.2.2 (pos - 32 * w) (by omega)
        rw [show 32 * w + (pos - 32 * w) = pos by omega] at k1 k2 k3
        have hp : vp_in (nI pos) 256 := vp_in_nI (by omega) (by omega)
        have eL : wd_L (wd_tL kd ag fw) pos (stop - pos) = wd_tL kd ag fw pos ++ wd_L (wd_tL kd ag fw) (pos + 1) (stop - (pos + 1)) := by rw [hm, hm']; rfl
        have eW : wd_W (wd_tW kd ag wt) pos (stop - pos) = wd_tW kd ag wt pos + wd_W (wd_tW kd ag wt) (pos + 1) (stop - (pos + 1)) := by rw [hm, hm']; rfl
        rw [eW] at hst hN
        rw [eL] at hn hne hok h
        have ek : sv_na kd (nI pos).toNatClampNeg = nI (kd pos) := sv_naA (by omega)
        rw [ek]
        refine br_t (nI_lt hl (by omega)) ⟨hp, ?_⟩
        refine pk_eq (kd pos) 2 (fun k => ?_) (fun k => ?_) rfl rfl (by omega) (by omega)
        · obtain ⟨v, v1, ev⟩ := k3 k
          have tl := wd_tL2 (fw := fw) k (by omega) ev
          have tw := wd_tW2 (wt := wt) k (by omega) ev
          obtain ⟨x1, x2, x3, x4⟩ := WD.2 v (by omega)
          have xl := wd_ln WD (show v < cnt by omega)
          have hi : vp_in (nI top) 8 := vp_in_nI (by omega) (by omega)
          have a1 : upd (sv_na (tx_cP t)) (nI top).toNatClampNeg (nI pos + 1) = sv_na (sv_un (tx_cP t) top (pos + 1)) := by rw [nI_1, sv_naU (by omega)]
          have a2 : upd (sv_na (tx_cE t)) (nI top).toNatClampNeg (nI stop) = sv_na (sv_un (tx_cE t) top stop) := by rw [sv_naU (by omega)]
          have a3 : ag (nI pos).toNatClampNeg = nI v := by rw [nI_clamp (by omega)]; exact ev
          have a4 : (32 : Int32) * nI v = nI (32 * v) := pk_mul 32 v
          have a5 : nI (32 * v) + sv_na ln (nI v).toNatClampNeg = nI (32 * v + ln v) := by rw [sv_naA (by omega), nI_add]
          refine ⟨hi, nm_r a1 ⟨hi, nm_r a2 (nm_r (nI_1 top) ⟨hp, nm_r a3 (nm_r a4 ⟨vp_in_nI (by omega) (by omega), nm_r a5 (nm_r (nI_1 step) ?_)⟩)⟩)⟩⟩
          rw [xo_cc_st]
          have old : ∀ j, j < top → sv_un (tx_cP t) top (pos + 1) j = tx_cP t j ∧ sv_un (tx_cE t) top stop j = tx_cE t j := fun j hj => ⟨sv_uo (by omega), sv_uo (by omega)⟩
          have fL : wd_L (wd_tL kd ag fw) (32 * v) (32 * v + ln v - 32 * v) ++ xw_L (wd_tL kd ag fw) (tx_cP (xo_cc t (sv_un (tx_cP t) top (pos + 1)) (sv_un (tx_cE t) top stop))) (tx_cE (xo_cc t (sv_un (tx_cP t) top (pos + 1)) (sv_un (tx_cE t) top stop))) (top + 1) = (wd_tL kd ag fw pos ++ wd_L (wd_tL kd ag fw) (pos + 1) (stop - (pos + 1))) ++ xw_L (wd_tL kd ag fw) (tx_cP t) (tx_cE t) top := by
            show _ ++ (wd_L (wd_tL kd ag fw) (sv_un (tx_cP t) top (pos + 1) top) (sv_un (tx_cE t) top stop top - sv_un (tx_cP t) top (pos + 1) top) ++ xw_L (wd_tL kd ag fw) (sv_un (tx_cP t) top (pos + 1)) (sv_un (tx_cE t) top stop) top) = _
            rw [sv_us, sv_us, xw_L_congr top old, tl, show 32 * v + ln v - 32 * v = ln v by omega, ← x3, List.append_assoc]
          have fW : wd_W (wd_tW kd ag wt) (32 * v) (32 * v + ln v - 32 * v) + xw_W (wd_tW kd ag wt) (tx_cP (xo_cc t (sv_un (tx_cP t) top (pos + 1)) (sv_un (tx_cE t) top stop))) (tx_cE (xo_cc t (sv_un (tx_cP t) top (pos + 1)) (sv_un (tx_cE t) top stop))) (top + 1) = wt v + (wd_W (wd_tW kd ag wt) (pos + 1) (stop - (pos + 1)) + xw_W (wd_tW kd ag wt) (tx_cP t) (tx_cE t) top) := by
            show _ + (wd_W (wd_tW kd ag wt) (sv_un (tx_cP t) top (pos + 1) top) (sv_un (tx_cE t) top stop top - sv_un (tx_cP t) top (pos + 1) top) + xw_W (wd_tW kd ag wt) (sv_un (tx_cP t) top (pos + 1)) (sv_un (tx_cE t) top stop) top) = _
            rw [sv_us, sv_us, xw_W_congr top old, show 32 * v + ln v - 32 * v = ln v by omega, ← x2]
          have I' : xo_I (xo_cc t (sv_un (tx_cP t) top (pos + 1)) (sv_un (tx_cE t) top stop)) := I
          refine ih (32 * v) (32 * v + ln v) (top + 1) (step + 1) (xo_cc t (sv_un (tx_cP t) top (pos + 1)) (sv_un (tx_cE t) top stop)) I' ⟨v, by omega, by omega, by omega, by omega, by omega⟩ (fun j hj => ?_) ?_ ?_ ?_ ?_ ?_ ?_
          · show xw_seg ln cnt (sv_un (tx_cP t) top (pos + 1) j) (sv_un (tx_cE t) top stop j) j
            by_cases q : j = top
            · rw [q, sv_us, sv_us]; exact ⟨w, w1, w2, by omega, by omega, w5⟩
            · rw [sv_uo q, sv_uo q]; exact fr j (by omega)
          · rw [fW]; rw [tw] at hst; omega
          · rw [fW]; rw [tw] at hN; omega
          · rw [fL]; exact hn
          · rw [fL]; exact hne
          · rw [fL]; exact hok
          · rw [fL]; exact h
        · have tl := wd_tLn (ag := ag) (fw := fw) k
          have tw := wd_tWn (ag := ag) (wt := wt) k
          rw [tl] at hn hne hok h
          rw [tw] at hst hN
          have hok : (if kd pos = 3 then sv_ok (tx_ne t + 1) (wd_L (wd_tL kd ag fw) (pos + 1) (stop - (pos + 1)) ++ xw_L (wd_tL kd ag fw) (tx_cP t) (tx_cE t) top) else if kd pos = 4 then 0 < tx_ne t ∧ sv_ok (tx_ne t - 1) (wd_L (wd_tL kd ag fw) (pos + 1) (stop - (pos + 1)) ++ xw_L (wd_tL kd ag fw) (tx_cP t) (tx_cE t) top) else sv_ok (tx_ne t) (wd_L (wd_tL kd ag fw) (pos + 1) (stop - (pos + 1)) ++ xw_L (wd_tL kd ag fw) (tx_cP t) (tx_cE t) top)) := hok
          have hlen : ∀ l : List Nat, ([kd pos] ++ wd_L (wd_tL kd ag fw) (pos + 1) (stop - (pos + 1)) ++ l).length = (wd_L (wd_tL kd ag fw) (pos + 1) (stop - (pos + 1)) ++ l).length + 1 := fun l => rfl
          rw [hlen] at hn hne
          refine ⟨hp, xo_tok (t := t) I (by omega) k1 k2 k (fun k3 => by omega) (fun k4 => ?_) (fun t1 S1 => ?_)⟩
          · rw [if_neg (by omega), if_pos k4] at hok; exact hok.1
          · refine nm_r (nI_1 pos) (nm_r (nI_1 step) ?_)
            have S1' := S1
            obtain ⟨s1, s2, s3, s4, s5, s6, s7, s8, s9, s10, s11⟩ := S1
            have ne1 : tx_ne t1 ≤ tx_ne t + 1 := by
              by_cases e3 : kd pos = 3
              · rw [s7 e3]; omega
              · by_cases e4 : kd pos = 4
                · rw [s8 e4]; omega
                · rw [s9 e3 e4]; omega
            refine ih (pos + 1) stop top (step + 1) t1 s1 ⟨w, w1, w2, by omega, by omega, w5⟩ (fun j hj => by rw [s5, s6]; exact fr j hj) ?_ ?_ ?_ ?_ ?_ ?_
            · rw [s5, s6]; omega
            · rw [s5, s6]; omega
            · rw [s5, s6]; omega
            · rw [s5, s6]; omega
            · rw [s5, s6]
              by_cases e3 : kd pos = 3
              · rw [if_pos e3] at hok; rw [s7 e3]; exact hok
              · by_cases e4 : kd pos = 4
                · rw [if_neg e3, if_pos e4] at hok; rw [s8 e4]; exact hok.2
                · rw [if_neg e3, if_neg e4] at hok; rw [s9 e3 e4]; exact hok
            · rw [s5, s6]
              intro t' h'
              exact h t' (xo_SL_cons S1' h')
      · have z0 : stop - pos = 0 := by omega
        have eL : wd_L (wd_tL kd ag fw) pos (stop - pos) = [] := by rw [z0]; rfl
        have eW : wd_W (wd_tW kd ag wt) pos (stop - pos) = 0 := by rw [z0]; rfl
        rw [eW] at hst hN
        rw [eL] at hn hne hok h
        cases top with
        | zero =>
          exact br_t (by decide) (h t (xo_SL_nil I))
        | succ top =>
          refine br_f (nI_nle (by omega) (by omega)) ?_
          rw [pqX_walk_36_e, gx_callPos, gx_callEnd]
          obtain ⟨v, v1, v2, v3, v4, v5⟩ := fr top (by omega)
          have hi : vp_in (nI top) 8 := vp_in_nI (by omega) (by omega)
          refine br_f (nI_nlt (by omega) (by omega)) (nm_r (pk_m1 top) ⟨hi, nm_r (sv_naA (by omega)) ⟨hi, nm_r (sv_naA (by omega)) (nm_r (nI_1 step) ?_)⟩⟩)
          have qW : xw_W (wd_tW kd ag wt) (tx_cP t) (tx_cE t) (top + 1) = wd_W (wd_tW kd ag wt) (tx_cP t top) (tx_cE t top - tx_cP t top) + xw_W (wd_tW kd ag wt) (tx_cP t) (tx_cE t) top := rfl
          rw [qW] at hst hN
          exact ih _ _ top (step + 1) t I (fr top (by omega)) (fun j hj => fr j (by omega)) (by omega) (by omega) hn hne hok h
theorem xw_walk {post : SX → Prop} (hK : xq_tokKind c = sv_na kd) (hA : xq_tokArg c = ag) (hLn : xq_length c = sv_na ln) (WD : wd_ok kd ln wt ag fw cnt) {w p q : Nat} (I : xo_I t) (hw : w < cnt) (h1 : 32 * w ≤ p) (h2 : p ≤ q) (h3 : q ≤ 32 * w + ln w)
    (hW : wd_W (wd_tW kd ag wt) p (q - p) ≤ 32) (hn : tx_n t + 12 * (wd_L (wd_tL kd ag fw) p (q - p)).length ≤ 400) (hne : tx_ne t + (wd_L (wd_tL kd ag fw) p (q - p)).length ≤ 32) (hok : sv_ok (tx_ne t) (wd_L (wd_tL kd ag fw) p (q - p)))
    (h : ∀ t', xo_SL (wd_L (wd_tL kd ag fw) p (q - p)) t t' → post (gx c t')) : wpX_walk post (gx c t) (nI p) (nI q) := by
  rw [we_X_walk]
  have nil : wd_L (wd_tL kd ag fw) p (q - p) ++ xw_L (wd_tL kd ag fw) (tx_cP t) (tx_cE t) 0 = wd_L (wd_tL kd ag fw) p (q - p) := List.append_nil _
  have wc := WD.1
  refine ⟨2 * wd_W (wd_tW kd ag wt) p (q - p) + 1, ?_⟩
  refine xw_loop hK hA hLn WD _ p q 0 0 t I ⟨w, hw, by omega, h1, h2, h3⟩ (fun j hj => absurd hj (Nat.not_lt_zero j)) ?_ ?_ ?_ ?_ ?_ ?_
  · show 0 + 2 * (_ + 0) + 0 ≤ 64; omega
  · show 2 * (_ + 0) + 0 < _; omega
  · rw [nil]; exact hn
  · rw [nil]; exact hne
  · rw [nil]; exact hok
  · rw [nil]; exact h
end
end
section
/-! the component: the search for cycles -/
section
def sv_sm (f : Nat → Nat) : Nat → Nat
  | 0 => 0
  | n + 1 => sv_sm f n + f n
theorem sv_sm_un {f : Nat → Nat} {k x : Nat} : ∀ {n : Nat}, k < n → sv_sm (sv_un f k x) n + f k = sv_sm f n + x
  | 0, h => absurd h (Nat.not_lt_zero _)
  | n + 1, h => by
    show sv_sm (sv_un f k x) n + sv_un f k x n + f k = sv_sm f n + f n + x
    by_cases e : k = n
    · subst e
      have : ∀ m, m ≤ k → sv_sm (sv_un f k x) m = sv_sm f m := by
        intro m
        induction m with
        | zero => intro _; rfl
        | succ m ih => intro hm; show sv_sm (sv_un f k x) m + sv_un f k x m = sv_sm f m + f m; rw [ih (by omega), sv_uo (by omega)]
      rw [this k (Nat.le_refl k), sv_us]; omega
    · have := sv_sm_un (f := f) (k := k) (x := x) (n := n) (by omega)
      rw [sv_uo (by omega)]; omega
theorem sv_sm_le {f : Nat → Nat} {b : Nat} : ∀ {n : Nat}, (∀ i, i < n → f i ≤ b) → sv_sm f n ≤ b * n
  | 0, _ => Nat.le_refl 0
  | n + 1, h => by
    have := sv_sm_le (f := f) (b := b) (n := n) (fun i hi => h i (by omega))
    have := h n (by omega)
    show sv_sm f n + f n ≤ b * (n + 1)
    rw [Nat.mul_add]; omega
def xe_12 (M : Nat → Nat) : Nat → Bool := fun i => decide (M i = 1 ∨ M i = 2)
/-- at the head of the search: top nodes on the path -/
def xe_I (n : Nat) (K A B R : Nat → Nat) (root : Nat) (M0 M Q : Nat → Nat) (top : Nat) : Prop :=
  (∀ k, k < top → Q k < n ∧ R (Q k) = Q k) ∧ (∀ j k, j < k → k < top → Q j ≠ Q k) ∧ (∀ i, i < n → M i ≤ 3) ∧ (∀ i, i < n → M i = 3 → sv_c1 K A B R i) ∧
  (∀ i, i < n → M i = 1 ∨ M i = 2 → ∃ k, k < top ∧ Q k = i) ∧
  (∀ k, k + 1 < top → (K (Q k) = 2 ∨ K (Q k) = 5) ∧ ((M (Q k) = 1 ∧ Q (k + 1) = R (A (Q k))) ∨ (M (Q k) = 2 ∧ Q (k + 1) = R (B (Q k)) ∧ sv_c1 K A B R (A (Q k))))) ∧
  (∀ k, k + 1 = top → (M (Q k) = 0 ∧ top ≤ sv_cn (xe_12 M) n + 1) ∨ (top ≤ sv_cn (xe_12 M) n ∧ (K (Q k) = 2 ∨ K (Q k) = 5) ∧ sv_c1 K A B R (A (Q k)) ∧ (M (Q k) = 1 ∨ (M (Q k) = 2 ∧ sv_c1 K A B R (B (Q k)))))) ∧
  (0 < top → Q 0 = root) ∧ (top = 0 → M root = 3) ∧ (∀ i, i < n → M0 i = 3 → M i = 3)
variable {n : Nat} {K A B R : Nat → Nat} {root : Nat} {M0 M Q : Nat → Nat} {top : Nat}
theorem xe_12_un {x v : Nat} (hx : x < n) : (M x = 1 ∨ M x = 2 → v = 1 ∨ v = 2 → sv_cn (xe_12 (sv_un M x v)) n = sv_cn (xe_12 M) n) ∧ (¬ (M x = 1 ∨ M x = 2) → (v = 1 ∨ v = 2) → sv_cn (xe_12 (sv_un M x v)) n = sv_cn (xe_12 M) n + 1) ∧ ((M x = 1 ∨ M x = 2) → ¬ (v = 1 ∨ v = 2) → sv_cn (xe_12 M) n = sv_cn (xe_12 (sv_un M x v)) n + 1) ∧ (¬ (M x = 1 ∨ M x = 2) → ¬ (v = 1 ∨ v = 2) → sv_cn (xe_12 (sv_un M x v)) n = sv_cn (xe_12 M) n) := by
  have o : ∀ i, i ≠ x → xe_12 (sv_un M x v) i = xe_12 M i := fun i hi => by unfold xe_12; rw [sv_uo hi]
  have s : xe_12 (sv_un M x v) x = decide (v = 1 ∨ v = 2) := by unfold xe_12; rw [sv_us]
  refine ⟨fun a b => ?_, fun a b => ?_, fun a b => ?_, fun a b => ?_⟩
  · refine sv_cn_congr (fun i _ => ?_)
    by_cases e : i = x
    · rw [e, s]; show decide _ = decide _; rw [decide_eq_true a, decide_eq_true b]
    · exact o i e
  · exact sv_cn_one (k := x) (decide_eq_false a) (by rw [s]; exact decide_eq_true b) hx (fun i _ hi => (o i hi).symm)
  · exact sv_cn_one (k := x) (by rw [s]; exact decide_eq_false b) (decide_eq_true a) hx (fun i _ hi => o i hi)
  · refine sv_cn_congr (fun i _ => ?_)
    by_cases e : i = x
    · rw [e, s]; show decide _ = decide _; rw [decide_eq_false a, decide_eq_false b]
    · exact o i e
/-- the top is done -/
theorem xe_pop (hw : sv_kw n K A B) (hR : ∀ i, i < n → R i < n ∧ R (R i) = R i) (h : xe_I n K A B R root M0 M Q (top + 1)) (hd : M (Q top) = 2 ∨ (M (Q top) = 0 ∧ ¬ (K (Q top) = 2 ∨ K (Q top) = 5)) ∨ (¬ (K (Q top) = 2 ∨ K (Q top) = 5))) : xe_I n K A B R root M0 (sv_un M (Q top) 3) Q top := by
  obtain ⟨h1, h2, h3, h4, h5, h6, h7, h8, h9, h10⟩ := h
  obtain ⟨x1, x2⟩ := h1 top (by omega)
  have cx : sv_c1 K A B R (Q top) := by
    rcases h7 top rfl with z | ⟨z1, z2, z3, z4⟩
    · refine sv_c1_leaf ?_
      rw [x2]; omega
    · have hp : M (Q top) = 2 := by omega
      rcases z4 with z4 | z4
      · omega
      · exact sv_c1_node (by rw [x2]; exact z3) (by rw [x2]; exact z4.2)
  have nq : ∀ k, k < top → Q k ≠ Q top := fun k hk => h2 k top hk (by omega)
  have c12 := xe_12_un (n := n) (M := M) (x := Q top) (v := 3) x1
  refine ⟨fun k hk => h1 k (by omega), fun j k hj hk => h2 j k hj (by omega), fun i hi => ?_, fun i hi e => ?_, fun i hi e => ?_, fun k hk => ?_, fun k hk => ?_, fun hk => h8 (by omega), fun e => ?_, fun i hi e => ?_⟩
  · by_cases z : i = Q top
    · rw [z, sv_us]; omega
    · rw [sv_uo z]; exact h3 i hi
  · by_cases z : i = Q top
    · rw [z]; exact cx
    · rw [sv_uo z] at e; exact h4 i hi e
  · by_cases z : i = Q top
    · rw [z, sv_us] at e; omega
    · rw [sv_uo z] at e
      obtain ⟨k, k1, k2⟩ := h5 i hi e
      by_cases q : k = top
      · rw [q] at k2; exact absurd k2.symm z
      · exact ⟨k, by omega, k2⟩
  · rw [sv_uo (nq k (by omega))]; exact h6 k (by omega)
  · rw [sv_uo (nq k (by omega))]
    obtain ⟨g1, g2⟩ := h6 k (by omega)
    right
    have ct : top ≤ sv_cn (xe_12 (sv_un M (Q top) 3)) n := by
      rcases h7 top rfl with z | z
      · have := c12.2.2.2 (by omega) (by omega); omega
      · have := c12.2.2.1 (by omega) (by omega); omega
    have wq := hw (Q k) (h1 k (by omega)).1
    rcases g2 with ⟨g2, g3⟩ | ⟨g2, g3, g4⟩
    · rw [hk] at g3
      refine ⟨ct, g1, sv_c1_R (hR _ wq.2.1).2 ?_, Or.inl g2⟩
      rw [← g3]; exact cx
    · rw [hk] at g3
      refine ⟨ct, g1, g4, Or.inr ⟨g2, sv_c1_R (hR _ wq.2.2.1).2 ?_⟩⟩
      rw [← g3]; exact cx
  · subst e
    rw [← h8 (by omega), sv_us]
  · by_cases z : i = Q top
    · rw [z, sv_us]
    · rw [sv_uo z]; exact h10 i hi e
/-- the top's next part is done already -/
theorem xe_skip (h : xe_I n K A B R root M0 M Q (top + 1)) (hp : K (Q top) = 2 ∨ K (Q top) = 5) {v : Nat} (hv : (M (Q top) = 0 ∧ v = 1 ∧ sv_c1 K A B R (A (Q top))) ∨ (M (Q top) = 1 ∧ v = 2 ∧ sv_c1 K A B R (B (Q top)))) : xe_I n K A B R root M0 (sv_un M (Q top) v) Q (top + 1) := by
  obtain ⟨h1, h2, h3, h4, h5, h6, h7, h8, h9, h10⟩ := h
  obtain ⟨x1, x2⟩ := h1 top (by omega)
  have nq : ∀ k, k < top → Q k ≠ Q top := fun k hk => h2 k top hk (by omega)
  have c12 := xe_12_un (n := n) (M := M) (x := Q top) (v := v) x1
  refine ⟨h1, h2, fun i hi => ?_, fun i hi e => ?_, fun i hi e => ?_, fun k hk => ?_, fun k hk => ?_, h8, fun e => by omega, fun i hi e => ?_⟩
  · by_cases z : i = Q top
    · rw [z, sv_us]; omega
    · rw [sv_uo z]; exact h3 i hi
  · by_cases z : i = Q top
    · rw [z, sv_us] at e; omega
    · rw [sv_uo z] at e; exact h4 i hi e
  · by_cases z : i = Q top
    · exact ⟨top, by omega, z.symm⟩
    · rw [sv_uo z] at e; exact h5 i hi e
  · rw [sv_uo (nq k (by omega))]; exact h6 k hk
  · have e : k = top := by omega
    subst e
    rw [sv_us]
    right
    rcases hv with ⟨a1, a2, a3⟩ | ⟨a1, a2, a3⟩
    · have := c12.2.1 (by omega) (by omega)
      refine ⟨?_, hp, a3, Or.inl a2⟩
      rcases h7 k rfl with z | z <;> omega
    · have := c12.1 (by omega) (by omega)
      rcases h7 k rfl with z | ⟨z1, z2, z3, z4⟩
      · omega
      · exact ⟨by omega, hp, z3, Or.inr ⟨a2, a3⟩⟩
  · by_cases z : i = Q top
    · rw [z] at e
      have := h10 _ x1 e
      omega
    · rw [sv_uo z]; exact h10 i hi e
/-- the top's next part is new: it goes onto the path -/
theorem xe_push (h : xe_I n K A B R root M0 M Q (top + 1)) (hp : K (Q top) = 2 ∨ K (Q top) = 5) {v y : Nat} (hy : y < n) (ry : R y = y) (h0 : sv_un M (Q top) v y = 0) (hv : (M (Q top) = 0 ∧ v = 1 ∧ y = R (A (Q top))) ∨ (M (Q top) = 1 ∧ v = 2 ∧ y = R (B (Q top)))) : xe_I n K A B R root M0 (sv_un M (Q top) v) (sv_un Q (top + 1) y) (top + 2) := by
  obtain ⟨h1, h2, h3, h4, h5, h6, h7, h8, h9, h10⟩ := h
  obtain ⟨x1, x2⟩ := h1 top (by omega)
  have nq : ∀ k, k < top → Q k ≠ Q top := fun k hk => h2 k top hk (by omega)
  have c12 := xe_12_un (n := n) (M := M) (x := Q top) (v := v) x1
  have yx : y ≠ Q top := fun z => by rw [z, sv_us] at h0; omega
  have m0 : M y = 0 := by rw [sv_uo yx] at h0; exact h0
  have old : ∀ k, k < top + 1 → sv_un Q (top + 1) y k = Q k := fun k hk => sv_uo (by omega)
  have new : sv_un Q (top + 1) y (top + 1) = y := sv_us
  have mk : ∀ k, k < top + 1 → y ≠ Q k := fun k hk z => by
    by_cases q : k = top
    · rw [q] at z; exact yx z
    · have := (h6 k (by omega)).2
      rw [← z, m0] at this
      omega
  have ct : top + 1 ≤ sv_cn (xe_12 (sv_un M (Q top) v)) n := by
    rcases hv with ⟨a1, a2, a3⟩ | ⟨a1, a2, a3⟩
    · have := c12.2.1 (by omega) (by omega)
      rcases h7 top rfl with z | z <;> omega
    · have := c12.1 (by omega) (by omega)
      rcases h7 top rfl with z | z <;> omega
  refine ⟨fun k hk => ?_, fun j k hj hk => ?_, fun i hi => ?_, fun i hi e => ?_, fun i hi e => ?_, fun k hk => ?_, fun k hk => ?_, fun _ => ?_, fun e => by omega, fun i hi e => ?_⟩
  · by_cases q : k = top + 1
    · rw [q, new]; exact ⟨hy, ry⟩
    · rw [old k (by omega)]; exact h1 k (by omega)
  · rw [old j (by omega)]
    by_cases q : k = top + 1
    · rw [q, new]; exact fun z => mk j (by omega) z.symm
    · rw [old k (by omega)]; exact h2 j k hj (by omega)
  · by_cases z : i = Q top
    · rw [z, sv_us]; omega
    · rw [sv_uo z]; exact h3 i hi
  · by_cases z : i = Q top
    · rw [z, sv_us] at e; omega
    · rw [sv_uo z] at e; exact h4 i hi e
  · by_cases z : i = Q top
    · exact ⟨top, by omega, by rw [old top (by omega)]; exact z.symm⟩
    · rw [sv_uo z] at e
      obtain ⟨k, k1, k2⟩ := h5 i hi e
      exact ⟨k, by omega, by rw [old k k1]; exact k2⟩
  · rw [old k (by omega)]
    by_cases q : k = top
    · rw [q, new, sv_us]
      refine ⟨hp, ?_⟩
      rcases hv with ⟨a1, a2, a3⟩ | ⟨a1, a2, a3⟩
      · exact Or.inl ⟨a2, a3⟩
      · rcases h7 top rfl with z | ⟨z1, z2, z3, z4⟩
        · omega
        · exact Or.inr ⟨a2, a3, z3⟩
    · rw [old (k + 1) (by omega), sv_uo (nq k (by omega))]; exact h6 k (by omega)
  · have e : k = top + 1 := by omega
    left
    rw [e, new, sv_uo yx]
    exact ⟨m0, by omega⟩
  · rw [old 0 (by omega)]; exact h8 (by omega)
  · by_cases z : i = Q top
    · rw [z] at e
      have := h10 _ x1 e
      omega
    · rw [sv_uo z]; exact h10 i hi e
/-- a part on the path: no valuation -/
theorem xe_cyc (hw : sv_kw n K A B) (hR : ∀ i, i < n → R i < n ∧ R (R i) = R i) (h : xe_I n K A B R root M0 M Q (top + 1)) (hp : K (Q top) = 2 ∨ K (Q top) = 5) {y : Nat} (hy : y < n) (e : y = R (A (Q top)) ∨ y = R (B (Q top))) (hm : M y = 1 ∨ M y = 2 ∨ y = Q top) (m : Nat → Nat) (g : sv_gv n K A B R m) : False := by
  obtain ⟨h1, h2, h3, h4, h5, h6, h7, h8, h9, h10⟩ := h
  have dec : ∀ i, i < n → (K i = 2 ∨ K i = 5) → m (R (A i)) < m i ∧ m (R (B i)) < m i := by
    intro i hi hk
    have w := hw i hi
    have := sv_gv_lt g hi hk
    rw [← (g _ w.2.1).1, ← (g _ w.2.2.1).1]
    exact this
  have mono : ∀ d j, j + d = top → m (Q top) ≤ m (Q j) := by
    intro d
    induction d with
    | zero => intro j hj; rw [show j = top by omega]; exact Nat.le_refl _
    | succ d ih =>
      intro j hj
      have a := ih (j + 1) (by omega)
      obtain ⟨g1, g2⟩ := h6 j (by omega)
      have b := dec _ (h1 j (by omega)).1 g1
      rcases g2 with ⟨_, z⟩ | ⟨_, z, _⟩ <;> rw [← z] at b <;> omega
  have dx := dec _ (h1 top (by omega)).1 hp
  have yl : m y < m (Q top) := by rcases e with e | e <;> rw [e] <;> omega
  rcases hm with hm | hm | hm
  · obtain ⟨k, k1, k2⟩ := h5 y hy (Or.inl hm)
    have := mono (top - k) k (by omega)
    rw [k2] at this; omega
  · obtain ⟨k, k1, k2⟩ := h5 y hy (Or.inr hm)
    have := mono (top - k) k (by omega)
    rw [k2] at this; omega
  · rw [hm] at yl; omega
end
end
section
/-! the component: explore and finishTyping -/
section
variable {c : SX} {t : sv_TX} {s : Nat} {M Q : Nat → Nat}
def xo_mq (t : sv_TX) (s : Nat) (M Q : Nat → Nat) : sv_TX := (tx_n t, s, tx_st t, tx_rw t, tx_ne t, tx_K t, tx_A t, tx_B t, tx_P t, tx_R t, tx_D t, M, Q, tx_L t, tx_G t, tx_oR t, tx_oS t, tx_cP t, tx_cE t)
theorem xo_mq_M : xq_mark (gx c (xo_mq t s M Q)) = sv_na M := rfl
theorem xo_mq_Q : xq_path (gx c (xo_mq t s M Q)) = sv_na Q := rfl
theorem xo_mq_A : xq_partA (gx c (xo_mq t s M Q)) = sv_na (tx_A t) := rfl
theorem xo_mq_B : xq_partB (gx c (xo_mq t s M Q)) = sv_na (tx_B t) := rfl
theorem xo_mq_P : xq_parent (gx c (xo_mq t s M Q)) = sv_na (tx_P t) := rfl
theorem xo_mq_s : xq_sound (gx c (xo_mq t s M Q)) = nI s := rfl
theorem xo_mq_n : xq_nodes (gx c (xo_mq t s M Q)) = nI (tx_n t) := rfl
theorem xo_mq_sM {M' : Nat → Nat} : xs_mark (gx c (xo_mq t s M Q)) (sv_na M') = gx c (xo_mq t s M' Q) := rfl
theorem xo_mq_sQ {Q' : Nat → Nat} : xs_path (gx c (xo_mq t s M Q)) (sv_na Q') = gx c (xo_mq t s M Q') := rfl
theorem xo_mq_sMQ {M' Q' : Nat → Nat} : xs_mark_path (gx c (xo_mq t s M Q)) (sv_na M') (sv_na Q') = gx c (xo_mq t s M' Q') := rfl
theorem xo_mq_ss {s' : Nat} : xs_sound (gx c (xo_mq t s M Q)) (nI s') = gx c (xo_mq t s' M Q) := rfl
theorem xo_mq_0 : gx c t = gx c (xo_mq t (tx_s t) (tx_M t) (tx_Q t)) := rfl
theorem xo_find_mq {post : Int32 → Prop} {i : Nat} (hn : tx_n t ≤ 400) (U : sv_uf (tx_n t) (tx_P t) (tx_R t) (tx_D t)) (hi : i < tx_n t) (h : post (nI (tx_R t i))) : wpX_find post (gx c (xo_mq t s M Q)) (nI i) :=
  xo_find (t := xo_mq t s M Q) hn U hi h
section
variable {root : Nat} {M0 : Nat → Nat} {post : Int32 → SX → Prop}
theorem xf_step (hn : tx_n t ≤ 400) (U : sv_uf (tx_n t) (tx_P t) (tx_R t) (tx_D t)) (hw : sv_kw (tx_n t) (tx_K t) (tx_A t) (tx_B t))
    (hF : ∀ M Q, (∀ m, sv_gv (tx_n t) (tx_K t) (tx_A t) (tx_B t) (tx_R t) m → False) → post 0 (gx c (xo_mq t s M Q)))
    {N top step v a : Nat} (I : xe_I (tx_n t) (tx_K t) (tx_A t) (tx_B t) (tx_R t) root M0 M Q (top + 1)) (hp : tx_K t (Q top) = 2 ∨ tx_K t (Q top) = 5) (hst : step < 2 ^ 30)
    (hv : (M (Q top) = 0 ∧ v = 1 ∧ a = tx_A t (Q top)) ∨ (M (Q top) = 1 ∧ v = 2 ∧ a = tx_B t (Q top)))
    (ih : ∀ M' Q' top', xe_I (tx_n t) (tx_K t) (tx_A t) (tx_B t) (tx_R t) root M0 M' Q' top' → M' = sv_un M (Q top) v → lqX_explore_11 post N (nI top') (nI (step + 1)) (gx c (xo_mq t s M' Q'))) :
    pqX_explore_97 post (lqX_explore_11 post N) (nI (top + 1)) (nI step) (nI (Q top)) (nI a) (gx c (xo_mq t s M Q)) := by
  obtain ⟨x1, x2⟩ := I.1 top (by omega)
  have hR : ∀ i, i < tx_n t → tx_R t i < tx_n t ∧ tx_R t (tx_R t i) = tx_R t i := fun i hi => ⟨(U i hi).2.1, sv_uf_rr U hi⟩
  have ha : a < tx_n t := by
    rcases hv with ⟨_, _, e⟩ | ⟨_, _, e⟩ <;> rw [e]
    · exact (hw _ x1).2.1
    · exact (hw _ x1).2.2.1
  have rl := hR a ha
  have ht : top + 1 ≤ 401 := by
    have := sv_cn_le (xe_12 M) (tx_n t)
    rcases I.2.2.2.2.2.2.1 top rfl with z | z <;> omega
  have hx : vp_in (nI (Q top)) 512 := vp_in_nI (by omega) (by omega)
  have hy : vp_in (nI (tx_R t a)) 512 := vp_in_nI (by omega) (by omega)
  have em : sv_na M (nI (Q top)).toNatClampNeg + 1 = nI v := by
    rw [sv_naA (by omega), nI_1]
    congr 1
    omega
  rw [pqX_explore_97_e, xo_mq_M, xo_mq_Q, em, sv_naU (by omega)]
  refine ⟨hx, hx, nm_e ?_⟩
  rw [xo_mq_sM]
  refine xo_find_mq hn U ha ⟨hy, ?_⟩
  rw [sv_naA (by omega)]
  have ml : sv_un M (Q top) v (tx_R t a) ≤ 3 := by
    by_cases z : tx_R t a = Q top
    · rw [z, sv_us]; omega
    · rw [sv_uo z]; exact I.2.2.1 _ rl.1
  refine pk_eq (sv_un M (Q top) v (tx_R t a)) 0 (fun e0 => ?_) (fun e0 => ⟨hy, ?_⟩) rfl rfl (by omega) (by omega)
  · refine ⟨vp_in_nI (by omega) (by omega), nm_r (sv_naU (by omega)) (nm_r (nI_1 (top + 1)) (nm_r (nI_1 step) ?_))⟩
    rw [xo_mq_sMQ]
    refine ih _ _ _ (xe_push I hp (v := v) rl.1 rl.2 e0 ?_) rfl
    rcases hv with ⟨e1, e2, e3⟩ | ⟨e1, e2, e3⟩ <;> rw [e3]
    · exact Or.inl ⟨e1, e2, rfl⟩
    · exact Or.inr ⟨e1, e2, rfl⟩
  · refine pk_eq (sv_un M (Q top) v (tx_R t a)) 3 (fun e3 => ?_) (fun e3 => ?_) rfl rfl (by omega) (by omega)
    · refine nm_r (nI_1 step) (ih _ _ _ (xe_skip I hp (v := v) ?_) rfl)
      have nx : tx_R t a ≠ Q top := fun z => by rw [z, sv_us] at e3; omega
      rw [sv_uo nx] at e3
      have ca := sv_c1_R (hR a ha).2 (I.2.2.2.1 _ rl.1 e3)
      rcases hv with ⟨q1, q2, q3⟩ | ⟨q1, q2, q3⟩ <;> rw [q3] at ca
      · exact Or.inl ⟨q1, q2, ca⟩
      · exact Or.inr ⟨q1, q2, ca⟩
    · refine hF _ _ (fun m hm => xe_cyc hw hR I hp rl.1 ?_ ?_ m hm)
      · rcases hv with ⟨q1, q2, q3⟩ | ⟨q1, q2, q3⟩ <;> rw [q3]
        · exact Or.inl rfl
        · exact Or.inr rfl
      · by_cases z : tx_R t a = Q top
        · exact Or.inr (Or.inr z)
        · rw [sv_uo z] at e0 e3 ml; omega
theorem xf_pop {N top step : Nat} (hx : Q top < 512)
    (ih : lqX_explore_11 post N (nI top) (nI (step + 1)) (gx c (xo_mq t s (sv_un M (Q top) 3) Q))) :
    pqX_explore_56 post (lqX_explore_11 post N) (nI (top + 1)) (nI step) (nI (Q top)) (gx c (xo_mq t s M Q)) := by
  have em : upd (sv_na M) (nI (Q top)).toNatClampNeg 3 = sv_na (sv_un M (Q top) 3) := sv_naU (x := 3) (by omega)
  rw [pqX_explore_56_e, xo_mq_M, em]
  refine ⟨vp_in_nI hx (by omega), nm_e (nm_r (pk_m1 top) (nm_r (nI_1 step) ?_))⟩
  rw [xo_mq_sM]
  exact ih
theorem xf_loop (hn : tx_n t ≤ 400) (U : sv_uf (tx_n t) (tx_P t) (tx_R t) (tx_D t)) (hw : sv_kw (tx_n t) (tx_K t) (tx_A t) (tx_B t))
    (hF : ∀ M Q, (∀ m, sv_gv (tx_n t) (tx_K t) (tx_A t) (tx_B t) (tx_R t) m → False) → post 0 (gx c (xo_mq t s M Q)))
    (hT : ∀ M Q, xe_I (tx_n t) (tx_K t) (tx_A t) (tx_B t) (tx_R t) root M0 M Q 0 → post 1 (gx c (xo_mq t s M Q))) :
    ∀ N M Q top step, xe_I (tx_n t) (tx_K t) (tx_A t) (tx_B t) (tx_R t) root M0 M Q top → step ≤ sv_sm M (tx_n t) → 3 * tx_n t - sv_sm M (tx_n t) < N → lqX_explore_11 post N (nI top) (nI step) (gx c (xo_mq t s M Q)) := by
  intro N
  induction N with
  | zero => intro M Q top step _ _ hN; omega
  | succ N ih =>
    intro M Q top step I hs hN
    have hR : ∀ i, i < tx_n t → tx_R t i < tx_n t ∧ tx_R t (tx_R t i) = tx_R t i := fun i hi => ⟨(U i hi).2.1, sv_uf_rr U hi⟩
    have m3 := sv_sm_le (f := M) (b := 3) (n := tx_n t) I.2.2.1
    rw [lqX_explore_11_s, xo_mq_M, xo_mq_Q, xo_mq_A, xo_mq_B]
    refine br_f (show ¬ nI 1536 ≤ nI step from nI_ge (by omega) (by omega)) ?_
    cases top with
    | zero => exact br_t (by decide) (hT M Q I)
    | succ top =>
      obtain ⟨x1, x2⟩ := I.1 top (by omega)
      have ht : top + 1 ≤ 401 := by
        have := sv_cn_le (xe_12 M) (tx_n t)
        rcases I.2.2.2.2.2.2.1 top rfl with z | z <;> omega
      have hx : vp_in (nI (Q top)) 512 := vp_in_nI (by omega) (by omega)
      have kl := xo_kd_le (hw _ x1).1
      have m1 : M (Q top) ≤ 3 := I.2.2.1 _ x1
      have mn3 : M (Q top) ≠ 3 := by rcases I.2.2.2.2.2.2.1 top rfl with z | z <;> omega
      have ep : sv_na Q (nI (top + 1) - 1).toNatClampNeg = nI (Q top) := by rw [nI_pred, sv_naA (by omega)]
      have hi : vp_in (nI (top + 1) - 1) 512 := by rw [nI_pred]; exact vp_in_nI (by omega) (by omega)
      have em : sv_na M (nI (Q top)).toNatClampNeg = nI (M (Q top)) := sv_naA (by omega)
      have s3 := sv_sm_un (f := M) (x := 3) x1
      have popc : (M (Q top) = 2 ∨ ¬ (tx_K t (Q top) = 2 ∨ tx_K t (Q top) = 5)) → pqX_explore_56 post (lqX_explore_11 post N) (nI (top + 1)) (nI step) (nI (Q top)) (gx c (xo_mq t s M Q)) := fun hd => by
        have J := xe_pop hw hR I (by omega)
        have j3 := sv_sm_le (f := sv_un M (Q top) 3) (b := 3) (n := tx_n t) J.2.2.1
        exact xf_pop (by omega) (ih _ Q top (step + 1) J (by omega) (by omega))
      refine br_f (nI_nle (by omega) (by omega)) ⟨hi, nm_r ep ⟨hx, ?_⟩⟩
      rw [em]
      refine pk_eq (M (Q top)) 2 (fun e2 => popc (Or.inl e2)) (fun e2 => ?_) rfl rfl (by omega) (by omega)
      by_cases hp : tx_K t (Q top) = 2 ∨ tx_K t (Q top) = 5
      · refine xo_parts1 (t := xo_mq t s M Q) (by omega) kl hp (br_f (by decide) ⟨hx, ?_⟩)
        refine pk_eq (M (Q top)) 0 (fun e0 => ⟨hx, ?_⟩) (fun e0 => ⟨hx, ?_⟩) rfl rfl (by omega) (by omega)
        · rw [sv_naA (f := tx_A t) (by omega)]
          refine xf_step hn U hw hF I hp (by omega) (Or.inl ⟨e0, rfl, rfl⟩) (fun M' Q' top' J e => ?_)
          have s1 := sv_sm_un (f := M) (x := 1) x1
          have j3 := sv_sm_le (f := M') (b := 3) (n := tx_n t) J.2.2.1
          subst e
          exact ih _ Q' top' (step + 1) J (by omega) (by omega)
        · rw [sv_naA (f := tx_B t) (by omega)]
          refine xf_step hn U hw hF I hp (by omega) (Or.inr ⟨by omega, rfl, rfl⟩) (fun M' Q' top' J e => ?_)
          have s1 := sv_sm_un (f := M) (x := 2) x1
          have j3 := sv_sm_le (f := M') (b := 3) (n := tx_n t) J.2.2.1
          subst e
          exact ih _ Q' top' (step + 1) J (by omega) (by omega)
      · exact xo_parts0 (t := xo_mq t s M Q) (by omega) kl hp (br_t rfl (popc (Or.inr hp)))
theorem xf_explore (hn : tx_n t ≤ 400) (U : sv_uf (tx_n t) (tx_P t) (tx_R t) (tx_D t)) (hw : sv_kw (tx_n t) (tx_K t) (tx_A t) (tx_B t))
    (hr : root < tx_n t) (er : tx_P t root = root) (h0 : M root = 0) (hM : ∀ i, i < tx_n t → (M i = 0 ∨ M i = 3) ∧ (M i = 3 → sv_c1 (tx_K t) (tx_A t) (tx_B t) (tx_R t) i))
    (hF : ∀ M Q, (∀ m, sv_gv (tx_n t) (tx_K t) (tx_A t) (tx_B t) (tx_R t) m → False) → post 0 (gx c (xo_mq t s M Q)))
    (hT : ∀ M' Q', (∀ i, i < tx_n t → (M' i = 0 ∨ M' i = 3) ∧ (M' i = 3 → sv_c1 (tx_K t) (tx_A t) (tx_B t) (tx_R t) i) ∧ (M i = 3 → M' i = 3)) → M' root = 3 → post 1 (gx c (xo_mq t s M' Q'))) :
    wpX_explore post (gx c (xo_mq t s M Q)) (nI root) := by
  rw [we_X_explore, xo_mq_Q, sv_naU0]
  refine nm_e ⟨3 * tx_n t + 1, ?_⟩
  rw [xo_mq_sQ]
  refine xf_loop (root := root) (M0 := M) hn U hw hF (fun M' Q' J => ?_) _ M (sv_un Q 0 root) 1 0 ?_ (Nat.zero_le _) (by omega)
  · obtain ⟨h1, h2, h3, h4, h5, h6, h7, h8, h9, h10⟩ := J
    refine hT M' Q' (fun i hi => ⟨?_, h4 i hi, h10 i hi⟩) (h9 rfl)
    have := h3 i hi
    by_cases z : M' i = 1 ∨ M' i = 2
    · obtain ⟨k, k1, _⟩ := h5 i hi z; omega
    · omega
  · have e0 : sv_un Q 0 root 0 = root := sv_us
    have z0 : ∀ k, k < 1 → k = 0 := fun k hk => by omega
    refine ⟨fun k hk => ?_, fun j k hj hk => by omega, fun i hi => by have := (hM i hi).1; omega, fun i hi => (hM i hi).2, fun i hi z => by have := (hM i hi).1; omega, fun k hk => by omega, fun k hk => ?_, fun _ => e0, fun z => by omega, fun i hi z => z⟩
    · rw [z0 k hk, e0]; exact ⟨hr, ((U root hr).2.2.2.2.1 er).1⟩
    · rw [z0 k (by omega), e0]; exact Or.inl ⟨h0, by omega⟩
end
/-- finishTyping -/
def xf_end (t : sv_TX) (s' : Nat) : Prop := (s' = 0 ∨ s' = 1) ∧ (s' = 1 → tx_s t = 1 ∧ ∃ d, sv_cv (tx_n t) (tx_K t) (tx_A t) (tx_B t) (tx_R t) d) ∧ (tx_s t = 1 → ∀ m, sv_gv (tx_n t) (tx_K t) (tx_A t) (tx_B t) (tx_R t) m → s' = 1)
theorem xf_fin1 {post : SX → Prop} (I : xo_G t) (h1 : tx_s t = 1) (h : ∀ s' M' Q', xf_end t s' → post (gx c (xo_mq t s' M' Q'))) :
    ∀ N i M Q, i ≤ tx_n t → tx_n t - i < N → (∀ j, j < tx_n t → (M j = 0 ∨ M j = 3) ∧ (M j = 3 → sv_c1 (tx_K t) (tx_A t) (tx_B t) (tx_R t) j)) → (∀ j, j < i → tx_P t j = j → M j = 3) → lqX_finishTyping_25 post N (nI i) (gx c (xo_mq t 1 M Q)) := by
  obtain ⟨g1, g2, g3, g4, g5, g6⟩ := I
  intro N
  induction N with
  | zero => intro i M Q _ hN; omega
  | succ N ih =>
    intro i M Q hi hN hM hD
    rw [lqX_finishTyping_25_s, xo_mq_M, xo_mq_P, xo_mq_s, xo_mq_n]
    refine pk_le (tx_n t) i (fun hge => ?_) (fun hlt => ?_) rfl rfl (by omega) (by omega)
    · refine h 1 M Q ⟨Or.inr rfl, fun _ => ⟨h1, sv_cv_of _ (fun j hj => ?_)⟩, fun _ _ _ => rfl⟩
      obtain ⟨u1, u2, u3, u4, u5, u6, u7⟩ := g2 j hj
      exact sv_c1_R (sv_uf_rr g2 hj) ((hM _ u2).2 (hD _ (by omega) u4))
    · have hb : vp_in (nI i) 512 := vp_in_nI (by omega) (by omega)
      refine br_f (by decide) ⟨hb, ?_⟩
      rw [sv_naA (f := tx_P t) (by omega), sv_naA (f := M) (by omega)]
      have pl := (g2 i hlt).1
      refine pk_eq (tx_P t i) i (fun ep => ⟨hb, ?_⟩) (fun ep => nm_r (nI_1 i) (ih (i + 1) M Q (by omega) (by omega) hM (fun j hj e => ?_))) rfl rfl (by omega) (by omega)
      · have mi := (hM i hlt).1
        refine pk_eq (M i) 0 (fun e0 => ?_) (fun e0 => nm_r (nI_1 i) (ih (i + 1) M Q (by omega) (by omega) hM (fun j hj e => ?_))) rfl rfl (by omega) (by omega)
        · refine xf_explore g1 g2 g3 hlt ep e0 hM (fun M' Q' no => ⟨rfl, rfl, nm_r (nI_1 i) ?_⟩) (fun M' Q' hM' hr => ⟨rfl, rfl, nm_r (nI_1 i) ?_⟩)
          · have q : xs_sound (gx c (xo_mq t 1 M' Q')) 0 = gx c (xo_mq t 0 M' Q') := xo_mq_ss (s' := 0)
            rw [q]
            have E : xf_end t 0 := ⟨Or.inl rfl, fun z => by omega, fun _ m hm => (no m hm).elim⟩
            cases N with
            | zero => omega
            | succ N =>
              rw [lqX_finishTyping_25_s, xo_mq_s]
              exact br_c (fun _ => h 0 M' Q' E) (fun _ => br_t rfl (h 0 M' Q' E))
          · have q : xs_sound (gx c (xo_mq t 1 M' Q')) 1 = gx c (xo_mq t 1 M' Q') := xo_mq_ss (s' := 1)
            rw [q]
            refine ih (i + 1) M' Q' (by omega) (by omega) (fun j hj => ⟨(hM' j hj).1, (hM' j hj).2.1⟩) (fun j hj e => ?_)
            by_cases z : j = i
            · rw [z]; exact hr
            · exact (hM' j (by omega)).2.2 (hD j (by omega) e)
        · by_cases z : j = i
          · rw [z]; omega
          · exact hD j (by omega) e
      · by_cases z : j = i
        · rw [z] at e; exact absurd e ep
        · exact hD j (by omega) e
theorem xf_fin0 {post : SX → Prop} (hn : tx_n t ≤ 400) (h : ∀ M', (∀ j, j < tx_n t → M' j = 0) → ∃ N, lqX_finishTyping_25 post N 0 (gx c (xo_mq t s M' Q))) :
    ∀ N i M, i ≤ tx_n t → tx_n t - i < N → (∀ j, j < i → M j = 0) → lqX_finishTyping_2 post N (nI i) (gx c (xo_mq t s M Q)) := by
  intro N
  induction N with
  | zero => intro i M _ hN; omega
  | succ N ih =>
    intro i M hi hN hD
    rw [lqX_finishTyping_2_s, xo_mq_M, xo_mq_n]
    refine pk_le (tx_n t) i (fun hge => h M (fun j hj => hD j (by omega))) (fun hlt => ⟨vp_in_nI (by omega) (by omega), ?_⟩) rfl rfl (by omega) (by omega)
    have em : upd (sv_na M) (nI i).toNatClampNeg 0 = sv_na (sv_un M i 0) := sv_naU (x := 0) (by omega)
    rw [em]
    refine nm_e (nm_r (nI_1 i) ?_)
    rw [xo_mq_sM]
    refine ih (i + 1) _ (by omega) (by omega) (fun j hj => ?_)
    by_cases z : j = i
    · rw [z, sv_us]
    · rw [sv_uo z]; exact hD j (by omega)
theorem xf_finish {post : SX → Prop} (I : xo_G t) (h : ∀ s' M' Q', xf_end t s' → post (gx c (xo_mq t s' M' Q'))) : wpX_finishTyping post (gx c t) := by
  rw [we_X_finishTyping, xo_mq_0]
  refine ⟨tx_n t + 1, ?_⟩
  refine xf_fin0 I.1 (fun M' hM' => ?_) _ 0 _ (Nat.zero_le _) (by omega) (fun j hj => absurd hj (Nat.not_lt_zero j))
  have nc := I.1
  rcases I.2.2.2.2.1 with e | e
  · refine ⟨1, ?_⟩
    rw [lqX_finishTyping_25_s, xo_mq_s, e]
    have E : xf_end t 0 := ⟨Or.inl rfl, fun z => by omega, fun z => by omega⟩
    exact br_c (fun _ => h 0 M' _ E) (fun _ => br_t rfl (h 0 M' _ E))
  · refine ⟨tx_n t + 1, ?_⟩
    rw [e]
    exact xf_fin1 I e h _ 0 M' _ (Nat.zero_le _) (by omega) (fun j hj => ⟨Or.inl (hM' j hj), fun z => by rw [hM' j hj] at z; omega⟩) (fun j hj => absurd hj (Nat.not_lt_zero j))
end
end
section
/-! the component: the beginning of a typing; a principal graph at its end -/
section
variable {c : SX} {t : sv_TX}
/-- the start of the present brackets' outermost body -/
def sv_bot : Nat → List (Nat × Nat) → Nat
  | s, [] => s
  | _, (_, s) :: l => sv_bot s l
theorem sv_St_bot {k : Nat} {v w : Nat × Nat × List (Nat × Nat)} (h : sv_St k v w) : sv_bot w.2.1 w.2.2 = sv_bot v.2.1 v.2.2 := by
  by_cases h3 : k = 3
  · subst h3
    rw [sv_St3] at h
    rw [h.2]; rfl
  · by_cases h4 : k = 4
    · subst h4
      rw [sv_St4] at h
      obtain ⟨r0, e, _⟩ := h
      rw [e]; rfl
    · rw [sv_StE h3 h4] at h
      rw [h.1, h.2.1]
theorem sv_rn_bot : ∀ (L : List Nat) (v w : Nat × Nat × List (Nat × Nat)), sv_rn L v w → sv_bot w.2.1 w.2.2 = sv_bot v.2.1 v.2.2
  | [], v, w, h => by have h : v = w := h; rw [h]
  | k :: l, v, w, h => by
    obtain ⟨m, h1, h2⟩ := h
    rw [sv_rn_bot l m w h2, sv_St_bot h1]
def xg_t0 (u : SX) : sv_TX := (0, 1, sv_tn (xq_startRow u), sv_tn (xq_row u), 0, sv_tna (xq_nodeKind u), sv_tna (xq_partA u), sv_tna (xq_partB u), sv_tna (xq_parent u), fun _ => 0, fun _ => 0, sv_tna (xq_mark u), sv_tna (xq_path u), sv_tna (xq_left u), sv_tna (xq_right u), sv_tna (xq_outerRow u), sv_tna (xq_outerStart u), sv_tna (xq_callPos u), sv_tna (xq_callEnd u))
theorem xg_t0e (u : SX) : xs_nodes_sound_nested u 0 1 0 = gx u (xg_t0 u) := by
  obtain ⟨a1, a2, a3, a4, a5, a6, a7, a8, a9, a10, a11, a12, a13, a14, a15, a16, a17, a18, a19, a20, a21, a22, a23, a24, a25, a26, a27, a28, a29, a30, a31, a32, a33, a34, a35, a36, a37, a38, a39, a40, a41, a42, a43, a44, a45, a46⟩ := u
  simp only [xs_nodes_sound_nested, gx, xg_t0, xq_startRow, xq_row, xq_nodeKind, xq_partA, xq_partB, xq_parent, xq_mark, xq_path, xq_left, xq_right, xq_outerRow, xq_outerStart, xq_callPos, xq_callEnd, sv_tnI, sv_tnaI]
  rfl
/-- the state at the beginning: one row -/
def xg_0 (k : Nat) (t : sv_TX) : Prop := xo_I t ∧ tx_n t = 1 ∧ tx_s t = 1 ∧ tx_ne t = 0 ∧ tx_rw t = 0 ∧ tx_st t = 0 ∧ tx_K t 0 = k ∧ (∀ m, sv_ns k 0 0 (m 0) → xo_V t m) ∧ (∀ m, xo_V t m → sv_ns k 0 0 (m 0))
theorem xg_begin {post : SX → Prop} {u : SX} {k : Nat} (hk : k = 200 ∨ k = 4) (h : ∀ t, xg_0 k t → post (gx u t)) : wpX_beginTyping post u (nI k) := by
  rw [we_X_beginTyping, xg_t0e]
  have G0 : xo_G (xg_t0 u) := ⟨by show 0 ≤ 400; omega, sv_uf_0, fun i hi => absurd hi (Nat.not_lt_zero i), fun i hi => absurd hi (Nat.not_lt_zero i), Or.inr rfl, fun _ i hi => absurd hi (Nat.not_lt_zero i)⟩
  have ok : xo_mkok (xg_t0 u) k 0 0 := by
    refine ⟨?_, fun _ => Or.inl rfl, Nat.le_refl _, Nat.le_refl _, fun z => by omega, fun z => by omega⟩
    unfold sv_kd; omega
  have G1 := xo_mk_G G0 (by show 0 < 400; omega) ok
  have k0 : tx_K (xo_mk (xg_t0 u) k 0 0) 0 = k := by
    show sv_un (tx_K (xg_t0 u)) 0 k 0 = k
    exact sv_us
  have rb : sv_rb k = true := by rcases hk with rfl | rfl <;> rfl
  refine xo_make (t := xg_t0 u) (k := k) (a := 0) (b := 0) (by show 0 < 512; omega) ?_
  refine h (tx_n (xo_mk (xg_t0 u) k 0 0), tx_s (xo_mk (xg_t0 u) k 0 0), 0, 0, tx_ne (xo_mk (xg_t0 u) k 0 0), tx_K (xo_mk (xg_t0 u) k 0 0), tx_A (xo_mk (xg_t0 u) k 0 0), tx_B (xo_mk (xg_t0 u) k 0 0), tx_P (xo_mk (xg_t0 u) k 0 0), tx_R (xo_mk (xg_t0 u) k 0 0), tx_D (xo_mk (xg_t0 u) k 0 0), tx_M (xo_mk (xg_t0 u) k 0 0), tx_Q (xo_mk (xg_t0 u) k 0 0), tx_L (xo_mk (xg_t0 u) k 0 0), tx_G (xo_mk (xg_t0 u) k 0 0), tx_oR (xo_mk (xg_t0 u) k 0 0), tx_oS (xo_mk (xg_t0 u) k 0 0), tx_cP (xo_mk (xg_t0 u) k 0 0), tx_cE (xo_mk (xg_t0 u) k 0 0)) ⟨⟨G1, ⟨by show 0 < 1; omega, (congrArg sv_rb k0).trans rb⟩, ⟨by show 0 < 1; omega, (congrArg sv_rb k0).trans rb⟩, by show 0 ≤ 32; omega, fun j hj => absurd hj (Nat.not_lt_zero j)⟩, rfl, rfl, rfl, rfl, rfl, k0, fun m hm => ?_, fun m hm => ?_⟩
  · intro i hi
    have hi : i < 1 := hi
    have e : i = 0 := by omega
    subst e
    refine ⟨?_, ?_⟩
    · show m 0 = m (sv_un (tx_P (xg_t0 u)) 0 0 0)
      rw [sv_us]
    · show sv_ns (sv_un (tx_K (xg_t0 u)) 0 k 0) _ _ (m 0)
      rw [sv_us]
      exact xo_ns_any hm (fun z => by omega) (fun z => by omega)
  · have := (hm 0 (by show 0 < 1; omega)).2
    change sv_ns (sv_un (tx_K (xg_t0 u)) 0 k 0) _ _ (m 0) at this
    rw [sv_us] at this
    exact xo_ns_any this (fun z => by omega) (fun z => by omega)
/-- the end: a principal graph, or no solution -/
theorem xg_prin {L : List Nat} {z : Prop} {k : Nat} {t t1 : sv_TX} {s' : Nat} (hk : (k = 4 ∧ z) ∨ (k = 200 ∧ ¬ z)) (h0 : xg_0 k t) (hL : xo_SL L t t1) (hd : sv_dp 0 L = 0) (hf : xf_end t1 s') :
    (s' = 1 → sv_PG L z (tx_n t1) (tx_K t1) (tx_A t1) (tx_B t1) (tx_R t1) (tx_st t1) (tx_rw t1)) ∧ (s' ≠ 1 → ∀ s e, ¬ sv_Sol L z s e) := by
  obtain ⟨i0, n0, s0, ne0, rw0, st0, k0, v0, v0'⟩ := h0
  obtain ⟨a1, a2, a3, a4, a5, a6, a7⟩ := hL
  obtain ⟨f1, f2, f3⟩ := hf
  obtain ⟨g1, g2, g3, g4, g5, g6⟩ := a1.1
  have vw0 : ∀ m : Nat → Nat, xo_vw m t = (m 0, m 0, []) := fun m => by unfold xo_vw; rw [rw0, st0, ne0]; rfl
  have two : ∀ s e, sv_Sol L z s e → tx_s t1 = 1 ∧ ∃ m, xo_V t1 m ∧ m (tx_st t1) = s ∧ m (tx_rw t1) = e := by
    intro s e hS
    obtain ⟨q1, q2⟩ := hS
    have vm : xo_V t (fun _ => s) := v0 _ (by
      rcases hk with ⟨hk, hz⟩ | ⟨hk, hz⟩
      · rw [hk, q1 hz]
        exact ⟨fun z => by omega, fun _ => rfl, fun z => by omega, fun z => by omega⟩
      · exact xo_nsv (Or.inr hk))
    obtain ⟨z1, m', v', ag, q⟩ := a7 s0 (fun _ => s) (e, s, []) vm (by rw [vw0]; exact q2)
    unfold xo_vw at q
    injection q with q3 q4
    injection q4 with q4 q5
    exact ⟨z1, m', v', q4, q3⟩
  refine ⟨fun hs => ?_, fun hs s e hS => ?_⟩
  · obtain ⟨s1, d, cv⟩ := f2 hs
    have ne1 : tx_ne t1 = 0 := by rw [a5 s1, ne0]; exact hd
    refine ⟨fun i hi => ⟨(g2 i hi).2.1, sv_uf_rr g2 hi, g4 i hi⟩, g3, g6 s1, ⟨d, cv⟩, a1.2.1.1, a1.2.2.1.1, a1.2.1.2, a1.2.2.1.2, fun hz => ?_, fun m hm => ?_, fun s e hS => ?_⟩
    · rw [a4, k0]; rcases hk with ⟨_, hz'⟩ | ⟨hk, _⟩
      · exact absurd hz' hz
      · omega
    · obtain ⟨u0, q⟩ := (a6 s1).2 m (sv_gv_P g2 hm)
      have b := sv_rn_bot _ _ _ q
      rw [vw0] at q b
      have vw1 : xo_vw m t1 = (m (tx_rw t1), m (tx_st t1), []) := by unfold xo_vw; rw [ne1]; rfl
      rw [vw1] at q b
      have b : m (tx_st t1) = m 0 := b
      refine ⟨fun hz => ?_, by rw [b] at q ⊢; exact q⟩
      rw [b]
      rcases hk with ⟨hk, _⟩ | ⟨_, hz'⟩
      · exact (v0' m u0).2.1 hk
      · exact absurd hz hz'
    · obtain ⟨_, m, v, q1, q2⟩ := two s e hS
      exact ⟨m, sv_gv_R g2 v, q1, q2⟩
  · obtain ⟨s1, m, v, _, _⟩ := two s e hS
    exact hs (f3 s1 m (sv_gv_R g2 v))
end
end
section
/-! the text of a closed graph, symbol by symbol; two principal graphs of one list agree -/
section
/-- where the next symbol is met, and what is left below it -/
def tv_y (K B R : Nat → Nat) (x : Nat) : Nat := if K (R x) = 5 then B (R x) else x
def tv_s (K A R : Nat → Nat) (x : Nat) (l : List Nat) : List Nat := if K (R x) = 5 then A (R x) :: l else l
def tv_c (K R m : Nat → Nat) (v r y : Nat) : Nat := if K (R y) = 100 then (if m (R y) = 0 then 100 + v else m (R y)) else if K (R y) = 200 then (if m (R y) = 0 then 200 + r else m (R y)) else K (R y)
def tv_l (K A B R : Nat → Nat) (y : Nat) (l : List Nat) : List Nat := if K (R y) = 2 then A (R y) :: B (R y) :: l else l
def tv_m (K R m : Nat → Nat) (v r y : Nat) : Nat → Nat := if K (R y) = 100 ∨ K (R y) = 200 then sv_un m (R y) (tv_c K R m v r y) else m
def tv_v (K R m : Nat → Nat) (v y : Nat) : Nat := if K (R y) = 100 ∧ m (R y) = 0 then v + 1 else v
def tv_r (K R m : Nat → Nat) (r y : Nat) : Nat := if K (R y) = 200 ∧ m (R y) = 0 then r + 1 else r
def tv_at (K A B R : Nat → Nat) : Nat → List Nat → (Nat → Nat) → Nat → Nat → Nat
  | _, [], _, _, _ => 0
  | 0, x :: _, m, v, r => tv_c K R m v r (tv_y K B R x)
  | k + 1, x :: l, m, v, r => tv_at K A B R k (tv_l K A B R (tv_y K B R x) (tv_s K A R x l)) (tv_m K R m v r (tv_y K B R x)) (tv_v K R m v (tv_y K B R x)) (tv_r K R m r (tv_y K B R x))
theorem tv_at_nil {K A B R m : Nat → Nat} {v r : Nat} : ∀ k, tv_at K A B R k [] m v r = 0
  | 0 => rfl
  | _ + 1 => rfl
/-- a cons is passed without a symbol -/
theorem tv_at_cons {K A B R m : Nat → Nat} {v r x : Nat} {l : List Nat} (h : K (R x) = 5) (h' : K (R (B (R x))) ≠ 5) (k : Nat) : tv_at K A B R k (x :: l) m v r = tv_at K A B R k (B (R x) :: A (R x) :: l) m v r := by
  have e1 : tv_y K B R x = B (R x) := if_pos h
  have e2 : tv_y K B R (B (R x)) = B (R x) := if_neg h'
  have e3 : tv_s K A R x l = A (R x) :: l := if_pos h
  have e4 : tv_s K A R (B (R x)) (A (R x) :: l) = A (R x) :: l := if_neg h'
  cases k with
  | zero => show tv_c K R m v r (tv_y K B R x) = tv_c K R m v r (tv_y K B R (B (R x))); rw [e1, e2]
  | succ k =>
    show tv_at K A B R k (tv_l K A B R (tv_y K B R x) (tv_s K A R x l)) (tv_m K R m v r (tv_y K B R x)) (tv_v K R m v (tv_y K B R x)) (tv_r K R m r (tv_y K B R x)) = tv_at K A B R k (tv_l K A B R (tv_y K B R (B (R x))) (tv_s K A R (B (R x)) (A (R x) :: l))) (tv_m K R m v r (tv_y K B R (B (R x)))) (tv_v K R m v (tv_y K B R (B (R x)))) (tv_r K R m r (tv_y K B R (B (R x))))
    rw [e1, e2, e3, e4]
theorem tv_at_0 {K A B R m : Nat → Nat} {v r x : Nat} {l : List Nat} (h : K (R x) ≠ 5) : tv_at K A B R 0 (x :: l) m v r = tv_c K R m v r x := by
  have e1 : tv_y K B R x = x := if_neg h
  show tv_c K R m v r (tv_y K B R x) = _
  rw [e1]
theorem tv_at_s {K A B R m : Nat → Nat} {v r x k : Nat} {l : List Nat} (h : K (R x) ≠ 5) : tv_at K A B R (k + 1) (x :: l) m v r = tv_at K A B R k (tv_l K A B R x l) (tv_m K R m v r x) (tv_v K R m v x) (tv_r K R m r x) := by
  have e1 : tv_y K B R x = x := if_neg h
  have e3 : tv_s K A R x l = l := if_neg h
  show tv_at K A B R k (tv_l K A B R (tv_y K B R x) (tv_s K A R x l)) (tv_m K R m v r (tv_y K B R x)) (tv_v K R m v (tv_y K B R x)) (tv_r K R m r (tv_y K B R x)) = _
  rw [e1, e3]
/-- a closed graph and its values -/
def tv_G (n : Nat) (K A B R : Nat → Nat) (d : Nat) : Prop := (∀ i, i < n → R i < n ∧ R (R i) = R i ∧ sv_rb (K (R i)) = sv_rb (K i)) ∧ sv_kw n K A B ∧ sv_cl n K A B R ∧ sv_cv n K A B R d
theorem tv_val {n : Nat} {K A B R : Nat → Nat} {d : Nat} (G : tv_G n K A B R d) : sv_gv n K A B R (sv_tc K A B R d) :=
  sv_tc_ns (fun i hi => ⟨(G.1 i hi).1, (G.1 i hi).2.1⟩) G.2.1 G.2.2.1 G.2.2.2
theorem tv_rt {n : Nat} {K A B R m : Nat → Nat} (hR : ∀ i, i < n → R i < n) (g : sv_gv n K A B R m) {i : Nat} (hi : i < n) : sv_ns (K (R i)) (m (A (R i))) (m (B (R i))) (m i) := by
  have := (g (R i) (hR i hi)).2
  rw [← (g i hi).1] at this
  exact this
/-- the value of a variable: a leaf that names its class -/
theorem tv_var {n : Nat} {K A B R : Nat → Nat} {d : Nat} (G : tv_G n K A B R d) {i : Nat} (hi : i < n) (h : K (R i) = 100 ∨ K (R i) = 200) : sv_tc K A B R d i = sv_lf (1000 + R i) := by
  rw [← G.2.2.2 i hi (d + 1) (by omega), sv_tc_s, if_neg (by omega), if_neg (by omega)]
/-- nodes of two graphs that stand for each other -/
def tv_J (n n' : Nat) (K A B R K' A' B' R' : Nat → Nat) (d d' : Nat) (p q : Nat → Nat) (x x' : Nat) : Prop := x < n ∧ x' < n' ∧ p x = sv_tc K' A' B' R' d' x' ∧ q x' = sv_tc K A B R d x ∧ sv_rb (K x) = sv_rb (K' x')
section
variable {n n' : Nat} {K A B R K' A' B' R' : Nat → Nat} {d d' : Nat} {p q : Nat → Nat}
theorem tv_kind (G : tv_G n K A B R d) (G' : tv_G n' K' A' B' R' d') (hp : sv_gv n K A B R p) (hq : sv_gv n' K' A' B' R' q) {x x' : Nat} (J : tv_J n n' K A B R K' A' B' R' d d' p q x x') : K (R x) = K' (R' x') := by
  obtain ⟨h1, h2, h3, h4, h5⟩ := J
  have hR := fun i hi => (G.1 i hi).1
  have hR' := fun i hi => (G'.1 i hi).1
  have a := tv_rt hR hp h1
  have b := tv_rt hR' (tv_val G') h2
  have a' := tv_rt hR (tv_val G) h1
  have b' := tv_rt hR' hq h2
  rw [h3] at a
  rw [h4] at b'
  have k1 := (G.2.1 _ (hR x h1)).1
  have k2 := (G'.2.1 _ (hR' x' h2)).1
  by_cases v : K (R x) = 100 ∨ K (R x) = 200
  · by_cases v' : K' (R' x') = 100 ∨ K' (R' x') = 200
    · have s1 := (G.1 x h1).2.2
      have s2 := (G'.1 x' h2).2.2
      rw [h5, ← s2] at s1
      rcases v with v | v <;> rcases v' with v' | v' <;> rw [v, v'] at s1 ⊢ <;> exact absurd s1 (by decide)
    · have e := tv_var G h1 v
      rw [e] at b'
      obtain ⟨b1, b2, b3, b4⟩ := b'
      rcases k2 with k | k | k | k | k | k
      · have := sv_lf_inj (b1 k); omega
      · exact absurd (b3 k) sv_lf_nd
      · have := sv_lf_inj (b2 k); omega
      · exact absurd (b4 k) sv_lf_nd
      · omega
      · omega
  · by_cases v' : K' (R' x') = 100 ∨ K' (R' x') = 200
    · have e := tv_var G' h2 v'
      rw [e] at a
      obtain ⟨b1, b2, b3, b4⟩ := a
      rcases k1 with k | k | k | k | k | k
      · have := sv_lf_inj (b1 k); omega
      · exact absurd (b3 k) sv_lf_nd
      · have := sv_lf_inj (b2 k); omega
      · exact absurd (b4 k) sv_lf_nd
      · omega
      · omega
    · exact (sv_ns_eq a b k1 k2 (by omega) (by omega)).1
theorem tv_part (G : tv_G n K A B R d) (G' : tv_G n' K' A' B' R' d') (hp : sv_gv n K A B R p) (hq : sv_gv n' K' A' B' R' q) {x x' : Nat} (J : tv_J n n' K A B R K' A' B' R' d d' p q x x') (hk : K (R x) = 2 ∨ K (R x) = 5) :
    tv_J n n' K A B R K' A' B' R' d d' p q (A (R x)) (A' (R' x')) ∧ tv_J n n' K A B R K' A' B' R' d d' p q (B (R x)) (B' (R' x')) := by
  have e := tv_kind G G' hp hq J
  obtain ⟨h1, h2, h3, h4, h5⟩ := J
  have hR := fun i hi => (G.1 i hi).1
  have hR' := fun i hi => (G'.1 i hi).1
  have a := tv_rt hR hp h1
  have b := tv_rt hR' (tv_val G') h2
  have a' := tv_rt hR (tv_val G) h1
  have b' := tv_rt hR' hq h2
  rw [h3] at a
  rw [h4] at b'
  have w := G.2.1 _ (hR x h1)
  have w' := G'.2.1 _ (hR' x' h2)
  have u := (sv_ns_eq a b w.1 w'.1 (by omega) (by omega)).2 hk
  have u' := (sv_ns_eq b' a' w'.1 w.1 (by omega) (by omega)).2 (by omega)
  refine ⟨⟨w.2.1, w'.2.1, u.1, u'.1, ?_⟩, ⟨w.2.2.1, w'.2.2.1, u.2, u'.2, ?_⟩⟩
  · rcases hk with k | k
    · rw [(w.2.2.2.1 k).1, (w'.2.2.2.1 (by omega)).1]
    · rw [(w.2.2.2.2.1 k).1, (w'.2.2.2.2.1 (by omega)).1]
  · rcases hk with k | k
    · rw [(w.2.2.2.1 k).2, (w'.2.2.2.1 (by omega)).2]
    · rw [(w.2.2.2.2.1 k).2, (w'.2.2.2.2.1 (by omega)).2]
theorem tv_inj (G : tv_G n K A B R d) (G' : tv_G n' K' A' B' R' d') (hp : sv_gv n K A B R p) (hq : sv_gv n' K' A' B' R' q) {x x' y y' : Nat} (J : tv_J n n' K A B R K' A' B' R' d d' p q x x') (J' : tv_J n n' K A B R K' A' B' R' d d' p q y y') (v : K (R x) = 100 ∨ K (R x) = 200) (v' : K (R y) = 100 ∨ K (R y) = 200) : R x = R y ↔ R' x' = R' y' := by
  have e := tv_kind G G' hp hq J
  have e' := tv_kind G G' hp hq J'
  obtain ⟨h1, h2, h3, h4, h5⟩ := J
  obtain ⟨g1, g2, g3, g4, g5⟩ := J'
  constructor
  · intro z
    have : p x = p y := by rw [(hp x h1).1, (hp y g1).1, z]
    rw [h3, g3, tv_var G' h2 (by omega), tv_var G' g2 (by omega)] at this
    have := sv_lf_inj this; omega
  · intro z
    have : q x' = q y' := by rw [(hq x' h2).1, (hq y' g2).1, z]
    rw [h4, g4, tv_var G h1 v, tv_var G g1 v'] at this
    have := sv_lf_inj this; omega
/-- the marks of the two walks agree -/
def tv_M (n n' : Nat) (K A B R K' A' B' R' : Nat → Nat) (d d' : Nat) (p q m m' : Nat → Nat) : Prop := ∀ x x', tv_J n n' K A B R K' A' B' R' d d' p q x x' → (K (R x) = 100 ∨ K (R x) = 200) → m (R x) = m' (R' x')
def tv_Ls (P : Nat → Nat → Prop) : List Nat → List Nat → Prop
  | [], [] => True
  | x :: l, x' :: l' => P x x' ∧ tv_Ls P l l'
  | _, _ => False
theorem tv_same (G : tv_G n K A B R d) (G' : tv_G n' K' A' B' R' d') (hp : sv_gv n K A B R p) (hq : sv_gv n' K' A' B' R' q) :
    ∀ (k : Nat) (l l' : List Nat) (m m' : Nat → Nat) (v r : Nat), tv_Ls (tv_J n n' K A B R K' A' B' R' d d' p q) l l' → tv_M n n' K A B R K' A' B' R' d d' p q m m' → tv_at K A B R k l m v r = tv_at K' A' B' R' k l' m' v r := by
  have yy : ∀ x x', tv_J n n' K A B R K' A' B' R' d d' p q x x' → tv_J n n' K A B R K' A' B' R' d d' p q (tv_y K B R x) (tv_y K' B' R' x') := by
    intro x x' J
    have e := tv_kind G G' hp hq J
    by_cases h : K (R x) = 5
    · have e1 : tv_y K B R x = B (R x) := if_pos h
      have e2 : tv_y K' B' R' x' = B' (R' x') := if_pos (by omega)
      rw [e1, e2]; exact (tv_part G G' hp hq J (Or.inr h)).2
    · have e1 : tv_y K B R x = x := if_neg h
      have e2 : tv_y K' B' R' x' = x' := if_neg (by omega)
      rw [e1, e2]; exact J
  have cc : ∀ y y' m m' v r, tv_J n n' K A B R K' A' B' R' d d' p q y y' → tv_M n n' K A B R K' A' B' R' d d' p q m m' → tv_c K R m v r y = tv_c K' R' m' v r y' := by
    intro y y' m m' v r J hM
    have e := tv_kind G G' hp hq J
    unfold tv_c
    rw [← e]
    by_cases h1 : K (R y) = 100
    · rw [if_pos h1, if_pos h1, hM y y' J (Or.inl h1)]
    · by_cases h2 : K (R y) = 200
      · rw [if_neg h1, if_neg h1, if_pos h2, if_pos h2, hM y y' J (Or.inr h2)]
      · rw [if_neg h1, if_neg h1, if_neg h2, if_neg h2]
  intro k
  induction k with
  | zero =>
    intro l l' m m' v r hl hM
    cases l with
    | nil => cases l' with
      | nil => rfl
      | cons x' l' => exact hl.elim
    | cons x l => cases l' with
      | nil => exact hl.elim
      | cons x' l' => exact cc _ _ m m' v r (yy x x' hl.1) hM
  | succ k ih =>
    intro l l' m m' v r hl hM
    cases l with
    | nil => cases l' with
      | nil => rfl
      | cons x' l' => exact hl.elim
    | cons x l => cases l' with
      | nil => exact hl.elim
      | cons x' l' =>
        obtain ⟨J, hl⟩ := hl
        have ex := tv_kind G G' hp hq J
        have Jy := yy x x' J
        have e := tv_kind G G' hp hq Jy
        have c := cc _ _ m m' v r Jy hM
        show tv_at K A B R k (tv_l K A B R (tv_y K B R x) (tv_s K A R x l)) (tv_m K R m v r (tv_y K B R x)) (tv_v K R m v (tv_y K B R x)) (tv_r K R m r (tv_y K B R x)) = tv_at K' A' B' R' k (tv_l K' A' B' R' (tv_y K' B' R' x') (tv_s K' A' R' x' l')) (tv_m K' R' m' v r (tv_y K' B' R' x')) (tv_v K' R' m' v (tv_y K' B' R' x')) (tv_r K' R' m' r (tv_y K' B' R' x'))
        have ev : tv_v K R m v (tv_y K B R x) = tv_v K' R' m' v (tv_y K' B' R' x') := by
          unfold tv_v
          rw [← e]
          by_cases h : K (R (tv_y K B R x)) = 100
          · rw [hM _ _ Jy (Or.inl h)]
          · rw [if_neg (fun z => h z.1), if_neg (fun z => h z.1)]
        have er : tv_r K R m r (tv_y K B R x) = tv_r K' R' m' r (tv_y K' B' R' x') := by
          unfold tv_r
          rw [← e]
          by_cases h : K (R (tv_y K B R x)) = 200
          · rw [hM _ _ Jy (Or.inr h)]
          · rw [if_neg (fun z => h z.1), if_neg (fun z => h z.1)]
        rw [ev, er]
        refine ih _ _ _ _ _ _ ?_ ?_
        · have hs : tv_Ls (tv_J n n' K A B R K' A' B' R' d d' p q) (tv_s K A R x l) (tv_s K' A' R' x' l') := by
            by_cases h : K (R x) = 5
            · have e1 : tv_s K A R x l = A (R x) :: l := if_pos h
              have e2 : tv_s K' A' R' x' l' = A' (R' x') :: l' := if_pos (by omega)
              rw [e1, e2]; exact ⟨(tv_part G G' hp hq J (Or.inr h)).1, hl⟩
            · have e1 : tv_s K A R x l = l := if_neg h
              have e2 : tv_s K' A' R' x' l' = l' := if_neg (by omega)
              rw [e1, e2]; exact hl
          by_cases h : K (R (tv_y K B R x)) = 2
          · have e1 : ∀ l, tv_l K A B R (tv_y K B R x) l = A (R (tv_y K B R x)) :: B (R (tv_y K B R x)) :: l := fun l => if_pos h
            have e2 : ∀ l, tv_l K' A' B' R' (tv_y K' B' R' x') l = A' (R' (tv_y K' B' R' x')) :: B' (R' (tv_y K' B' R' x')) :: l := fun l => if_pos (by omega)
            rw [e1, e2]
            have pt := tv_part G G' hp hq Jy (Or.inl h)
            exact ⟨pt.1, pt.2, hs⟩
          · have e1 : ∀ l, tv_l K A B R (tv_y K B R x) l = l := fun l => if_neg h
            have e2 : ∀ l, tv_l K' A' B' R' (tv_y K' B' R' x') l = l := fun l => if_neg (by omega)
            rw [e1, e2]; exact hs
        · by_cases h : K (R (tv_y K B R x)) = 100 ∨ K (R (tv_y K B R x)) = 200
          · have e1 : tv_m K R m v r (tv_y K B R x) = sv_un m (R (tv_y K B R x)) (tv_c K R m v r (tv_y K B R x)) := if_pos h
            have e2 : tv_m K' R' m' v r (tv_y K' B' R' x') = sv_un m' (R' (tv_y K' B' R' x')) (tv_c K' R' m' v r (tv_y K' B' R' x')) := if_pos (by omega)
            rw [e1, e2]
            intro z z' Jz hz
            by_cases q1 : R z = R (tv_y K B R x)
            · have q2 := (tv_inj G G' hp hq Jz Jy hz h).mp q1
              rw [q1, q2, sv_us, sv_us, c]
            · have q2 : R' z' ≠ R' (tv_y K' B' R' x') := fun w => q1 ((tv_inj G G' hp hq Jz Jy hz h).mpr w)
              rw [sv_uo q1, sv_uo q2]; exact hM z z' Jz hz
          · have e1 : tv_m K R m v r (tv_y K B R x) = m := if_neg h
            have e2 : tv_m K' R' m' v r (tv_y K' B' R' x') = m' := if_neg (by omega)
            rw [e1, e2]; exact hM
end
/-- the whole text -/
def tv_txt (K A B R : Nat → Nat) (a b k : Nat) : Nat := tv_at K A B R k [a, b] (fun _ => 0) 0 0
/-- two principal graphs: nodes that stand for each other -/
theorem tv_two {L : List Nat} {z : Prop} {n n' : Nat} {K A B R K' A' B' R' : Nat → Nat} {a b a' b' : Nat} (h : sv_PG L z n K A B R a b) (h' : sv_PG L z n' K' A' B' R' a' b') :
    ∃ d d' p q, tv_G n K A B R d ∧ tv_G n' K' A' B' R' d' ∧ sv_gv n K A B R p ∧ sv_gv n' K' A' B' R' q ∧ tv_J n n' K A B R K' A' B' R' d d' p q a a' ∧ tv_J n n' K A B R K' A' B' R' d d' p q b b' := by
  obtain ⟨h1, h2, h3, ⟨d, h4⟩, h5, h6, h7, h8, h9, h10, h11⟩ := h
  obtain ⟨g1, g2, g3, ⟨d', g4⟩, g5, g6, g7, g8, g9, g10, g11⟩ := h'
  have G : tv_G n K A B R d := ⟨h1, h2, h3, h4⟩
  have G' : tv_G n' K' A' B' R' d' := ⟨g1, g2, g3, g4⟩
  obtain ⟨p, p1, p2, p3⟩ := h11 _ _ (g10 _ (tv_val G'))
  obtain ⟨q, q1, q2, q3⟩ := g11 _ _ (h10 _ (tv_val G))
  exact ⟨d, d', p, q, G, G', p1, q1, ⟨h5, g5, p2, q2, h7.trans g7.symm⟩, ⟨h6, g6, p3, q3, h8.trans g8.symm⟩⟩
theorem tv_txt_two {L : List Nat} {z : Prop} {n n' : Nat} {K A B R K' A' B' R' : Nat → Nat} {a b a' b' : Nat} (h : sv_PG L z n K A B R a b) (h' : sv_PG L z n' K' A' B' R' a' b') (k : Nat) : tv_txt K A B R a b k = tv_txt K' A' B' R' a' b' k := by
  obtain ⟨d, d', p, q, G, G', hp, hq, Ja, Jb⟩ := tv_two h h'
  exact tv_same G G' hp hq k [a, b] [a', b'] _ _ 0 0 ⟨Ja, Jb, trivial⟩ (fun _ _ _ _ => rfl)
/-- the i-th type of the resulting row -/
def tv_dn (K A R : Nat → Nat) : Nat → Nat → Nat
  | 0, x => R x
  | i + 1, x => if K (R x) = 5 then tv_dn K A R i (A (R x)) else R x
def tv_res (K A B R : Nat → Nat) (b i : Nat) : Nat := if K (tv_dn K A R i b) = 5 then (if K (R (B (tv_dn K A R i b))) = 100 then 3 else K (R (B (tv_dn K A R i b)))) else 0
theorem tv_res_two {L : List Nat} {z : Prop} {n n' : Nat} {K A B R K' A' B' R' : Nat → Nat} {a b a' b' : Nat} (h : sv_PG L z n K A B R a b) (h' : sv_PG L z n' K' A' B' R' a' b') (i : Nat) : tv_res K A B R b i = tv_res K' A' B' R' b' i := by
  obtain ⟨d, d', p, q, G, G', hp, hq, Ja, Jb⟩ := tv_two h h'
  have key : ∀ i x x', tv_J n n' K A B R K' A' B' R' d d' p q x x' → ∃ y y', tv_J n n' K A B R K' A' B' R' d d' p q y y' ∧ tv_dn K A R i x = R y ∧ tv_dn K' A' R' i x' = R' y' := by
    intro i
    induction i with
    | zero => exact fun x x' J => ⟨x, x', J, rfl, rfl⟩
    | succ i ih =>
      intro x x' J
      have e := tv_kind G G' hp hq J
      by_cases hk : K (R x) = 5
      · obtain ⟨y, y', Jy, e1, e2⟩ := ih _ _ (tv_part G G' hp hq J (Or.inr hk)).1
        refine ⟨y, y', Jy, ?_, ?_⟩
        · show (if K (R x) = 5 then tv_dn K A R i (A (R x)) else R x) = _
          rw [if_pos hk, e1]
        · show (if K' (R' x') = 5 then tv_dn K' A' R' i (A' (R' x')) else R' x') = _
          rw [if_pos (by omega), e2]
      · refine ⟨x, x', J, ?_, ?_⟩
        · show (if K (R x) = 5 then tv_dn K A R i (A (R x)) else R x) = _
          rw [if_neg hk]
        · show (if K' (R' x') = 5 then tv_dn K' A' R' i (A' (R' x')) else R' x') = _
          rw [if_neg (by omega)]
  obtain ⟨y, y', Jy, e1, e2⟩ := key i b b' Jb
  have e := tv_kind G G' hp hq Jy
  unfold tv_res
  rw [e1, e2, ← e]
  by_cases hk : K (R y) = 5
  · rw [if_pos hk, if_pos hk, tv_kind G G' hp hq (tv_part G G' hp hq Jy (Or.inr hk)).2]
  · rw [if_neg hk, if_neg hk]
end
end
section
/-! the component: writeText -/
section
variable {c : SX} {t : sv_TX} {s v r : Nat} {T M Q : Nat → Nat}
def xt_g (c : SX) (t : sv_TX) (s v r : Nat) (T M Q : Nat → Nat) : SX := gx (xs_valueNames_rowNames_text c (nI v) (nI r) (sv_na T)) (xo_mq t s M Q)
theorem xt_qv : xq_valueNames (xt_g c t s v r T M Q) = nI v := rfl
theorem xt_qr : xq_rowNames (xt_g c t s v r T M Q) = nI r := rfl
theorem xt_qT : xq_text (xt_g c t s v r T M Q) = sv_na T := rfl
theorem xt_qM : xq_mark (xt_g c t s v r T M Q) = sv_na M := rfl
theorem xt_qQ : xq_path (xt_g c t s v r T M Q) = sv_na Q := rfl
theorem xt_qK : xq_nodeKind (xt_g c t s v r T M Q) = sv_na (tx_K t) := rfl
theorem xt_qA : xq_partA (xt_g c t s v r T M Q) = sv_na (tx_A t) := rfl
theorem xt_qB : xq_partB (xt_g c t s v r T M Q) = sv_na (tx_B t) := rfl
theorem xt_sv {v' : Nat} {M' : Nat → Nat} : xs_valueNames_mark (xt_g c t s v r T M Q) (nI v') (sv_na M') = xt_g c t s v' r T M' Q := rfl
theorem xt_sr {r' : Nat} {M' : Nat → Nat} : xs_rowNames_mark (xt_g c t s v r T M Q) (nI r') (sv_na M') = xt_g c t s v r' T M' Q := rfl
theorem xt_sT {T' : Nat → Nat} : xs_text (xt_g c t s v r T M Q) (sv_na T') = xt_g c t s v r T' M Q := rfl
theorem xt_sQ {Q' : Nat → Nat} : xs_path (xt_g c t s v r T M Q) (sv_na Q') = xt_g c t s v r T M Q' := rfl
theorem xt_sym {post : Int32 → SX → Prop} {x : Nat} (hx : tx_R t x < 512) (hr : tx_R t (tx_R t x) = tx_R t x) (hk : tx_K t (tx_R t x) ≤ 200) (hm : M (tx_R t x) ≤ 400) (hv : v ≤ 200) (hrr : r ≤ 200)
    (h : post (nI (tv_c (tx_K t) (tx_R t) M v r x)) (xt_g c t s (tv_v (tx_K t) (tx_R t) M v x) (tv_r (tx_K t) (tx_R t) M r x) T (tv_m (tx_K t) (tx_R t) M v r x) Q)) : wpX_symbol post (xt_g c t s v r T M Q) (nI (tx_R t x)) := by
  rw [we_X_symbol, xt_qM, xt_qK, xt_qv]
  have hb : vp_in (nI (tx_R t x)) 512 := vp_in_nI hx (by omega)
  have ek : sv_na (tx_K t) (nI (tx_R t x)).toNatClampNeg = nI (tx_K t (tx_R t x)) := sv_naA (by omega)
  have em : sv_na M (nI (tx_R t x)).toNatClampNeg = nI (M (tx_R t x)) := sv_naA (by omega)
  rw [ek, em]
  by_cases v1 : tx_K t (tx_R t x) = 100
  · have em2 : tv_m (tx_K t) (tx_R t) M v r x = sv_un M (tx_R t x) (tv_c (tx_K t) (tx_R t) M v r x) := if_pos (Or.inl v1)
    have er : tv_r (tx_K t) (tx_R t) M r x = r := if_neg (fun z => by omega)
    refine xo_isVar1 (t := xo_mq t s M Q) hx hk (Or.inl v1) (br_f (by decide) ⟨hb, ?_⟩)
    refine pk_eq (M (tx_R t x)) 0 (fun e0 => ⟨hb, br_t (by rw [v1]; rfl) ⟨hb, ?_⟩⟩) (fun e0 => ?_) rfl rfl (by omega) (by omega)
    · have ec : tv_c (tx_K t) (tx_R t) M v r x = 100 + v := by unfold tv_c; rw [if_pos v1, if_pos e0]
      have ev : tv_v (tx_K t) (tx_R t) M v x = v + 1 := if_pos ⟨v1, e0⟩
      have q : upd (sv_na M) (nI (tx_R t x)).toNatClampNeg (100 + nI v) = sv_na (sv_un M (tx_R t x) (100 + v)) := by
        rw [show (100 : Int32) + nI v = nI (100 + v) from nI_add 100 v, sv_naU (by omega)]
      rw [q]
      refine nm_e (nm_r (nI_1 v) ⟨hb, ?_⟩)
      rw [sv_naA (by omega), sv_us, xt_sv]
      rw [em2, er, ec, ev] at h
      exact h
    · have ec : tv_c (tx_K t) (tx_R t) M v r x = M (tx_R t x) := by unfold tv_c; rw [if_pos v1, if_neg e0]
      have ev : tv_v (tx_K t) (tx_R t) M v x = v := if_neg (fun z => e0 z.2)
      have eM : sv_un M (tx_R t x) (M (tx_R t x)) = M := by
        funext j
        by_cases z : j = tx_R t x
        · rw [z, sv_us]
        · rw [sv_uo z]
      rw [em2, er, ec, ev, eM] at h
      rw [pqX_symbol_61_e, xt_qM, em]
      exact ⟨hb, pk_eq (M (tx_R t x)) 0 (fun z => absurd z e0) (fun _ => ⟨hb, h⟩) rfl rfl (by omega) (by omega)⟩
  · by_cases v2 : tx_K t (tx_R t x) = 200
    · have em2 : tv_m (tx_K t) (tx_R t) M v r x = sv_un M (tx_R t x) (tv_c (tx_K t) (tx_R t) M v r x) := if_pos (Or.inr v2)
      have ev : tv_v (tx_K t) (tx_R t) M v x = v := if_neg (fun z => by omega)
      refine xo_isVar1 (t := xo_mq t s M Q) hx hk (Or.inr v2) (br_f (by decide) ⟨hb, ?_⟩)
      have fin : pqX_symbol_61 post (nI (tx_R t x)) (xt_g c t s v r T M Q) := by
        rw [pqX_symbol_61_e, xt_qM, xt_qr, em]
        refine ⟨hb, pk_eq (M (tx_R t x)) 0 (fun e0 => ⟨hb, ?_⟩) (fun e0 => ⟨hb, ?_⟩) rfl rfl (by omega) (by omega)⟩
        · have ec : tv_c (tx_K t) (tx_R t) M v r x = 200 + r := by unfold tv_c; rw [if_neg v1, if_pos v2, if_pos e0]
          have er : tv_r (tx_K t) (tx_R t) M r x = r + 1 := if_pos ⟨v2, e0⟩
          have q : upd (sv_na M) (nI (tx_R t x)).toNatClampNeg (200 + nI r) = sv_na (sv_un M (tx_R t x) (200 + r)) := by
            rw [show (200 : Int32) + nI r = nI (200 + r) from nI_add 200 r, sv_naU (by omega)]
          rw [q]
          refine nm_e (nm_r (nI_1 r) ⟨hb, ?_⟩)
          rw [sv_naA (by omega), sv_us, xt_sr]
          rw [em2, er, ec, ev] at h
          exact h
        · have ec : tv_c (tx_K t) (tx_R t) M v r x = M (tx_R t x) := by unfold tv_c; rw [if_neg v1, if_pos v2, if_neg e0]
          have er : tv_r (tx_K t) (tx_R t) M r x = r := if_neg (fun z => e0 z.2)
          have eM : sv_un M (tx_R t x) (M (tx_R t x)) = M := by
            funext j
            by_cases z : j = tx_R t x
            · rw [z, sv_us]
            · rw [sv_uo z]
          rw [em2, er, ec, ev, eM] at h
          exact h
      exact br_c (fun _ => ⟨hb, br_f (by rw [v2]; decide) fin⟩) (fun _ => fin)
    · have ec : tv_c (tx_K t) (tx_R t) M v r x = tx_K t (tx_R t x) := by unfold tv_c; rw [if_neg v1, if_neg v2]
      have em2 : tv_m (tx_K t) (tx_R t) M v r x = M := if_neg (fun z => by omega)
      have ev : tv_v (tx_K t) (tx_R t) M v x = v := if_neg (fun z => by omega)
      have er : tv_r (tx_K t) (tx_R t) M r x = r := if_neg (fun z => by omega)
      rw [em2, er, ec, ev] at h
      exact xo_isVar0 (t := xo_mq t s M Q) hx hk ⟨v1, v2⟩ (br_t rfl ⟨hb, h⟩)
def xt_tk (Q : Nat → Nat) : Nat → List Nat
  | 0 => []
  | k + 1 => Q k :: xt_tk Q k
theorem xt_tk_congr {Q Q' : Nat → Nat} : ∀ k, (∀ j, j < k → Q' j = Q j) → xt_tk Q' k = xt_tk Q k
  | 0, _ => rfl
  | k + 1, h => by show Q' k :: xt_tk Q' k = Q k :: xt_tk Q k; rw [h k (by omega), xt_tk_congr k (fun j hj => h j (by omega))]
theorem xt_tk2 {Q : Nat → Nat} {k a b : Nat} : xt_tk (sv_un (sv_un Q k a) (k + 1) b) (k + 2) = b :: a :: xt_tk Q k := by
  show sv_un (sv_un Q k a) (k + 1) b (k + 1) :: sv_un (sv_un Q k a) (k + 1) b k :: xt_tk (sv_un (sv_un Q k a) (k + 1) b) k = _
  rw [sv_us, sv_uo (by omega), sv_us, xt_tk_congr k (fun j hj => by rw [sv_uo (by omega), sv_uo (by omega)])]
/-- behind the symbol: the parts go onto the path -/
theorem xt_124 {post : SX → Prop} {J : Int32 → Int32 → Int32 → SX → Prop} {w top out step y : Nat} (hy : y < 512) (hk : tx_K t y ≤ 200) (ht : top + 1 < 512)
    (h5 : tx_K t y = 5 → J (nI (top + 2)) (nI out) (nI (step + 1)) (xt_g c t s v r T M (sv_un (sv_un Q top (tx_A t y)) (top + 1) (tx_B t y))))
    (h2 : tx_K t y = 2 → J (nI (top + 2)) (nI out) (nI (step + 1)) (xt_g c t s v r T M (sv_un (sv_un Q top (tx_B t y)) (top + 1) (tx_A t y))))
    (h0 : ¬ (tx_K t y = 2 ∨ tx_K t y = 5) → J (nI top) (nI out) (nI (step + 1)) (xt_g c t s v r T M Q)) :
    pqX_writeText_124 post J (nI w) (nI top) (nI out) (nI step) (nI y) (xt_g c t s v r T M Q) := by
  rw [pqX_writeText_124_e, xt_qK]
  have hb : vp_in (nI y) 512 := vp_in_nI hy (by omega)
  have hi : vp_in (nI top) 512 := vp_in_nI (by omega) (by omega)
  have hi1 : vp_in (nI top + 1) 512 := by rw [nI_1]; exact vp_in_nI (by omega) (by omega)
  have ek : sv_na (tx_K t) (nI y).toNatClampNeg = nI (tx_K t y) := sv_naA (by omega)
  have ea : sv_na (tx_A t) (nI y).toNatClampNeg = nI (tx_A t y) := sv_naA (by omega)
  have eb : sv_na (tx_B t) (nI y).toNatClampNeg = nI (tx_B t y) := sv_naA (by omega)
  rw [ek]
  by_cases hp : tx_K t y = 2 ∨ tx_K t y = 5
  · refine xo_parts1 (t := xo_mq t s M Q) hy hk hp (br_f (by decide) ⟨hb, ?_⟩)
    refine pk_eq (tx_K t y) 5 (fun e5 => ?_) (fun e5 => ?_) rfl rfl (by omega) (by omega)
    · rw [pqX_writeText_149_e, xt_qA, ea]
      refine br_f (by decide) ⟨hb, ?_⟩
      rw [pqX_writeText_178_e, xt_qQ, xt_qA, xt_qB, eb, sv_naU (by omega)]
      refine ⟨hi, nm_e (br_f (by decide) ⟨hb, hi1, ?_⟩)⟩
      rw [nI_1, sv_naU (by omega)]
      refine nm_e (nm_r (nI_add top 2) (nm_r (nI_1 step) ?_))
      rw [xt_sQ]
      exact h5 e5
    · rw [pqX_writeText_149_e, xt_qB, eb]
      refine br_t rfl ⟨hb, ?_⟩
      rw [pqX_writeText_178_e, xt_qQ, xt_qA, xt_qB, ea, sv_naU (by omega)]
      refine ⟨hi, nm_e (br_t rfl ⟨hb, hi1, ?_⟩)⟩
      rw [nI_1, sv_naU (by omega)]
      refine nm_e (nm_r (nI_add top 2) (nm_r (nI_1 step) ?_))
      rw [xt_sQ]
      exact h2 (by omega)
  · exact xo_parts0 (t := xo_mq t s M Q) hy hk hp (br_t rfl (nm_r (nI_1 step) (h0 hp)))
def xt_hd (K R Q : Nat → Nat) (top : Nat) : Prop := ∃ k, top = k + 1 ∧ K (R (Q k)) ≠ 5
theorem xt_loop {post : SX → Prop} {w : Nat} (hw7 : w < 7) (hn : tx_n t ≤ 400) (U : sv_uf (tx_n t) (tx_P t) (tx_R t) (tx_D t)) (hw : sv_kw (tx_n t) (tx_K t) (tx_A t) (tx_B t)) (hso : ∀ i, i < tx_n t → sv_rb (tx_K t (tx_R t i)) = sv_rb (tx_K t i)) :
    ∀ N top out step v r T M Q, out ≤ 64 → (∀ k, k < top → Q k < tx_n t) → top ≤ 2 + step → (step ≤ 2 * out ∨ (step ≤ 2 * out + 1 ∧ xt_hd (tx_K t) (tx_R t) Q top)) → (∀ i, i < tx_n t → M i ≤ 400) → v ≤ out → r ≤ out → (∀ p, out ≤ p → p < 64 → T (64 * w + p) = 0) → 130 - step < N →
      (∀ v' r' T' M' Q', (∀ p, out ≤ p → p < 64 → T' (64 * w + p) = tv_at (tx_K t) (tx_A t) (tx_B t) (tx_R t) (p - out) (xt_tk Q top) M v r) → (∀ j, j < 64 * w + out ∨ 64 * w + 64 ≤ j → T' j = T j) → post (xt_g c t s v' r' T' M' Q')) →
      lqX_writeText_60 post (nI w) N (nI top) (nI out) (nI step) (xt_g c t s v r T M Q) := by
  intro N
  induction N with
  | zero => intro top out step v r T M Q _ _ _ _ _ _ _ _ hN; omega
  | succ N ih =>
    intro top out step v r T M Q ho hQ ht hst hM hv hr hT hN h
    rw [lqX_writeText_60_s, xt_qQ, xt_qK]
    refine br_f (show ¬ nI 130 ≤ nI step from nI_ge (by omega) (by omega)) ?_
    cases top with
    | zero =>
      refine br_t (by decide) (h v r T M Q (fun p p1 p2 => ?_) (fun _ _ => rfl))
      rw [hT p p1 p2]; exact (tv_at_nil _).symm
    | succ top =>
      refine br_f (nI_nle (by omega) (by omega)) ?_
      refine pk_le 64 out (fun h64 => h v r T M Q (fun p p1 p2 => by omega) (fun _ _ => rfl)) (fun h64 => nm_r (pk_m1 top) ⟨vp_in_nI (by omega) (by omega), ?_⟩) rfl rfl (by omega) (by omega)
      have hq := hQ top (by omega)
      rw [sv_naA (f := Q) (by omega)]
      refine xo_find_mq hn U hq ?_
      have rl := (U _ hq).2.1
      have rr := sv_uf_rr U hq
      have kr := hw _ rl
      have kl := xo_kd_le kr.1
      have hb : vp_in (nI (tx_R t (Q top))) 512 := vp_in_nI (by omega) (by omega)
      refine ⟨hb, ?_⟩
      rw [sv_naA (f := tx_K t) (by omega)]
      refine pk_eq (tx_K t (tx_R t (Q top))) 5 (fun e5 => ?_) (fun e5 => ?_) rfl rfl (by omega) (by omega)
      · refine xt_124 (by omega) kl (by omega) (fun _ => ?_) (fun z => by omega) (fun z => absurd (Or.inr e5) z)
        have w5 := kr.2.2.2.2.1 e5
        have nb : tx_K t (tx_R t (tx_B t (tx_R t (Q top)))) ≠ 5 := fun z => by
          have := hso _ kr.2.2.1
          rw [w5.2, z] at this; exact absurd this (by decide)
        refine ih (top + 2) out (step + 1) v r T M _ ho (fun k hk => ?_) (by omega) (Or.inr ⟨?_, top + 1, rfl, by rw [sv_us]; exact nb⟩) hM hv hr hT (by omega) (fun v' r' T' M' Q' a1 a2 => h v' r' T' M' Q' (fun p p1 p2 => ?_) a2)
        · by_cases z : k = top + 1
          · rw [z, sv_us]; exact kr.2.2.1
          · rw [sv_uo z]
            by_cases z2 : k = top
            · rw [z2, sv_us]; exact kr.2.1
            · rw [sv_uo z2]; exact hQ k (by omega)
        · rcases hst with z | ⟨z1, k, z2, z3⟩
          · omega
          · have : k = top := by omega
            rw [this] at z3; exact absurd e5 z3
        · rw [a1 p p1 p2, xt_tk2]
          exact (tv_at_cons e5 nb _).symm
      · refine xt_sym (by omega) rr kl (hM _ rl) (by omega) (by omega) ?_
        have hi : vp_in (64 * nI w + nI out) 448 := by
          rw [show (64 : Int32) * nI w = nI (64 * w) from pk_mul 64 w, nI_add]; exact vp_in_nI (by omega) (by omega)
        refine ⟨hi, ?_⟩
        rw [xt_qT, show (64 : Int32) * nI w = nI (64 * w) from pk_mul 64 w, nI_add, sv_naU (by omega)]
        refine nm_e (nm_r (nI_1 out) ?_)
        rw [xt_sT]
        have cb : tv_c (tx_K t) (tx_R t) M v r (Q top) ≤ 400 := by
          have := hM _ rl
          unfold tv_c
          split
          · split <;> omega
          · split
            · split <;> omega
            · omega
        have M' : ∀ i, i < tx_n t → tv_m (tx_K t) (tx_R t) M v r (Q top) i ≤ 400 := fun i hi => by
          unfold tv_m
          split
          · by_cases z : i = tx_R t (Q top)
            · rw [z, sv_us]; exact cb
            · rw [sv_uo z]; exact hM i hi
          · exact hM i hi
        have v' : tv_v (tx_K t) (tx_R t) M v (Q top) ≤ out + 1 := by unfold tv_v; split <;> omega
        have r' : tv_r (tx_K t) (tx_R t) M r (Q top) ≤ out + 1 := by unfold tv_r; split <;> omega
        have T1 : ∀ p, out + 1 ≤ p → p < 64 → sv_un T (64 * w + out) (tv_c (tx_K t) (tx_R t) M v r (Q top)) (64 * w + p) = 0 := fun p p1 p2 => by
          rw [sv_uo (by omega)]; exact hT p (by omega) p2
        have fin : ∀ l, tv_l (tx_K t) (tx_A t) (tx_B t) (tx_R t) (Q top) (xt_tk Q top) = l → ∀ v'' r'' T' M'' Q', (∀ p, out + 1 ≤ p → p < 64 → T' (64 * w + p) = tv_at (tx_K t) (tx_A t) (tx_B t) (tx_R t) (p - (out + 1)) l (tv_m (tx_K t) (tx_R t) M v r (Q top)) (tv_v (tx_K t) (tx_R t) M v (Q top)) (tv_r (tx_K t) (tx_R t) M r (Q top))) → (∀ j, j < 64 * w + (out + 1) ∨ 64 * w + 64 ≤ j → T' j = sv_un T (64 * w + out) (tv_c (tx_K t) (tx_R t) M v r (Q top)) j) → post (xt_g c t s v'' r'' T' M'' Q') := by
          intro l el v'' r'' T' M'' Q' a1 a2
          refine h v'' r'' T' M'' Q' (fun p p1 p2 => ?_) (fun j hj => ?_)
          · by_cases z : p = out
            · rw [z, Nat.sub_self, a2 _ (Or.inl (by omega)), sv_us]
              exact (tv_at_0 e5).symm
            · rw [a1 p (by omega) p2, show p - out = (p - (out + 1)) + 1 by omega, ← el]
              exact (tv_at_s e5).symm
          · rw [a2 j (by omega), sv_uo (by omega)]
        refine xt_124 (by omega) kl (by omega) (fun z => absurd z e5) (fun e2 => ?_) (fun e0 => ?_)
        · refine ih (top + 2) (out + 1) (step + 1) _ _ _ _ _ (by omega) (fun k hk => ?_) (by omega) (Or.inl (by omega)) M' v' r' T1 (by omega) (fin _ ?_)
          · by_cases z : k = top + 1
            · rw [z, sv_us]; exact kr.2.1
            · rw [sv_uo z]
              by_cases z2 : k = top
              · rw [z2, sv_us]; exact kr.2.2.1
              · rw [sv_uo z2]; exact hQ k (by omega)
          · rw [xt_tk2]; exact if_pos e2
        · exact ih top (out + 1) (step + 1) _ _ _ _ _ (by omega) (fun k hk => hQ k (by omega)) (by omega) (Or.inl (by omega)) M' v' r' T1 (by omega) (fin _ (if_neg (fun z => e0 (Or.inl z))))
theorem xt_begin {Q' : Nat → Nat} {T : Nat → Nat} (hT : xq_text c = sv_na T) : xs_valueNames_rowNames_path (gx c (xo_mq t s M Q)) 0 0 (sv_na Q') = xt_g c t s 0 0 T M Q' := by
  have : xs_valueNames_rowNames_path (gx c (xo_mq t s M Q)) 0 0 (sv_na Q') = gx (xs_valueNames_rowNames_text c (nI 0) (nI 0) (xq_text c)) (xo_mq t s M Q') := rfl
  rw [this, hT]; rfl
theorem xt_write0 {post : SX → Prop} {w : Nat} (hn : tx_n t ≤ 400) (hT : xq_text c = sv_na T)
    (h : ∀ M', (∀ j, j < tx_n t → M' j = 0) → ∃ N, lqX_writeText_60 post (nI w) N 2 0 0 (xt_g c t s 0 0 T M' (sv_un (sv_un Q 0 (tx_rw t)) 1 (tx_st t)))) :
    ∀ N i M, i ≤ tx_n t → tx_n t - i < N → (∀ j, j < i → M j = 0) → lqX_writeText_2 post (nI w) N (nI i) (gx c (xo_mq t s M Q)) := by
  intro N
  induction N with
  | zero => intro i M _ hN; omega
  | succ N ih =>
    intro i M hi hN hD
    rw [lqX_writeText_2_s, xo_mq_M, xo_mq_Q, xo_mq_n]
    refine pk_le (tx_n t) i (fun hge => ?_) (fun hlt => ⟨vp_in_nI (by omega) (by omega), ?_⟩) rfl rfl (by omega) (by omega)
    · have e1 : upd (sv_na Q) 0 (xq_row (gx c (xo_mq t s M Q))) = sv_na (sv_un Q 0 (tx_rw t)) := sv_naU0
      rw [e1]
      refine nm_e ?_
      have e2 : upd (sv_na (sv_un Q 0 (tx_rw t))) 1 (xq_startRow (gx c (xo_mq t s M Q))) = sv_na (sv_un (sv_un Q 0 (tx_rw t)) 1 (tx_st t)) := sv_naU0
      rw [e2]
      refine nm_e ?_
      rw [xt_begin hT]
      exact h M (fun j hj => hD j (by omega))
    · have em : upd (sv_na M) (nI i).toNatClampNeg 0 = sv_na (sv_un M i 0) := sv_naU (x := 0) (by omega)
      rw [em]
      refine nm_e (nm_r (nI_1 i) ?_)
      rw [xo_mq_sM]
      refine ih (i + 1) _ (by omega) (by omega) (fun j hj => ?_)
      by_cases z : j = i
      · rw [z, sv_us]
      · rw [sv_uo z]; exact hD j (by omega)
theorem tv_at_m0 {K A B R : Nat → Nat} : ∀ (k : Nat) (n : Nat) (l : List Nat) (m m' : Nat → Nat) (v r : Nat), (∀ x, x ∈ l → x < n) → (∀ i, i < n → R i < n ∧ A i < n ∧ B i < n) → (∀ i, i < n → m i = m' i) → tv_at K A B R k l m v r = tv_at K A B R k l m' v r := by
  have cc : ∀ (n y v r : Nat) (m m' : Nat → Nat), y < n → (∀ i, i < n → R i < n ∧ A i < n ∧ B i < n) → (∀ i, i < n → m i = m' i) → tv_c K R m v r y = tv_c K R m' v r y := by
    intro n y v r m m' hy hR hm
    unfold tv_c; rw [hm _ (hR y hy).1]
  have yy : ∀ (n x : Nat), x < n → (∀ i, i < n → R i < n ∧ A i < n ∧ B i < n) → tv_y K B R x < n := by
    intro n x hx hR
    unfold tv_y; split
    · exact (hR _ (hR x hx).1).2.2
    · exact hx
  intro k
  induction k with
  | zero =>
    intro n l m m' v r hl hR hm
    cases l with
    | nil => rfl
    | cons x l => exact cc n _ v r m m' (yy n x (hl x (by simp)) hR) hR hm
  | succ k ih =>
    intro n l m m' v r hl hR hm
    cases l with
    | nil => rfl
    | cons x l =>
      have hx := hl x (by simp)
      have hy := yy n x hx hR
      show tv_at K A B R k (tv_l K A B R (tv_y K B R x) (tv_s K A R x l)) (tv_m K R m v r (tv_y K B R x)) (tv_v K R m v (tv_y K B R x)) (tv_r K R m r (tv_y K B R x)) = tv_at K A B R k (tv_l K A B R (tv_y K B R x) (tv_s K A R x l)) (tv_m K R m' v r (tv_y K B R x)) (tv_v K R m' v (tv_y K B R x)) (tv_r K R m' r (tv_y K B R x))
      have ev : tv_v K R m v (tv_y K B R x) = tv_v K R m' v (tv_y K B R x) := by unfold tv_v; rw [hm _ (hR _ hy).1]
      have er : tv_r K R m r (tv_y K B R x) = tv_r K R m' r (tv_y K B R x) := by unfold tv_r; rw [hm _ (hR _ hy).1]
      rw [ev, er]
      have hs : ∀ z, z ∈ tv_s K A R x l → z < n := by
        intro z hz
        unfold tv_s at hz
        split at hz
        · rcases List.mem_cons.mp hz with e | e
          · rw [e]; exact (hR _ (hR x hx).1).2.1
          · exact hl z (List.mem_cons_of_mem _ e)
        · exact hl z (List.mem_cons_of_mem _ hz)
      refine ih n _ _ _ _ _ (fun z hz => ?_) hR (fun i hi => ?_)
      · unfold tv_l at hz
        split at hz
        · rcases List.mem_cons.mp hz with e | e
          · rw [e]; exact (hR _ (hR _ hy).1).2.1
          · rcases List.mem_cons.mp e with e | e
            · rw [e]; exact (hR _ (hR _ hy).1).2.2
            · exact hs z e
        · exact hs z hz
      · unfold tv_m
        split
        · rw [cc n _ v r m m' hy hR hm]
          by_cases z : i = R (tv_y K B R x)
          · rw [z, sv_us, sv_us]
          · rw [sv_uo z, sv_uo z]; exact hm i hi
        · exact hm i hi
theorem xt_write {post : SX → Prop} {w : Nat} (hw7 : w < 7) (I : xo_I t) (hT : xq_text c = sv_na T) (h0 : ∀ p, p < 64 → T (64 * w + p) = 0)
    (h : ∀ v' r' T' M' Q', (∀ p, p < 64 → T' (64 * w + p) = tv_txt (tx_K t) (tx_A t) (tx_B t) (tx_R t) (tx_st t) (tx_rw t) p) → (∀ j, j < 64 * w ∨ 64 * w + 64 ≤ j → T' j = T j) → post (xt_g c t s v' r' T' M' Q')) : wpX_writeText post (gx c (xo_mq t s M Q)) (nI w) := by
  rw [we_X_writeText]
  obtain ⟨g1, g2, g3, g4, g5, g6⟩ := I.1
  refine ⟨tx_n t + 1, ?_⟩
  refine xt_write0 g1 hT (fun M' hM' => ?_) _ 0 _ (Nat.zero_le _) (by omega) (fun j hj => absurd hj (Nat.not_lt_zero j))
  refine ⟨131, ?_⟩
  refine xt_loop hw7 g1 g2 g3 g4 131 2 0 0 0 0 T M' _ (by omega) (fun k hk => ?_) (by omega) (Or.inl (by omega)) (fun i hi => by rw [hM' i hi]; omega) (by omega) (by omega) (fun p _ p2 => h0 p p2) (by omega) (fun v' r' T' M'' Q' a1 a2 => h v' r' T' M'' Q' (fun p p2 => ?_) (fun j hj => a2 j (by omega)))
  · by_cases z : k = 1
    · rw [z, sv_us]; exact I.2.1.1
    · rw [sv_uo z, show k = 0 by omega, sv_us]; exact I.2.2.1.1
  · rw [a1 p (by omega) p2]
    have e : xt_tk (sv_un (sv_un Q 0 (tx_rw t)) 1 (tx_st t)) 2 = [tx_st t, tx_rw t] := xt_tk2 (k := 0)
    rw [e]
    refine tv_at_m0 p (tx_n t) _ M' (fun _ => 0) 0 0 (fun x hx => ?_) (fun i hi => ⟨(g2 i hi).2.1, (g3 i hi).2.1, (g3 i hi).2.2.1⟩) hM'
    rcases List.mem_cons.mp hx with e | e
    · rw [e]; exact I.2.1.1
    · rw [List.mem_singleton.mp e]; exact I.2.2.1.1
end
end
section
/-! the reference's type graph: nodes and equations -/
section
theorem sv_kw_make {n : Nat} {K A B : Nat → Nat} {k a b : Nat} (h : sv_kw n K A B) (o1 : sv_kd k) (o2 : k = 4 → n = 0) (o3 : a ≤ n) (o4 : b ≤ n) (o5 : k = 2 → a < n ∧ b < n ∧ sv_rb (K a) = true ∧ sv_rb (K b) = true) (o6 : k = 5 → a < n ∧ b < n ∧ sv_rb (K a) = true ∧ sv_rb (K b) = false) : sv_kw (n + 1) (sv_un K n k) (sv_un A n a) (sv_un B n b) := by
  intro i hi
  by_cases e : i = n
  · subst e
    rw [sv_us, sv_us, sv_us]
    refine ⟨o1, by omega, by omega, fun z => ?_, fun z => ?_, fun z => ?_⟩
    · obtain ⟨p1, p2, p3, p4⟩ := o5 z
      rw [sv_uo (by omega), sv_uo (by omega)]; exact ⟨p3, p4⟩
    · obtain ⟨p1, p2, p3, p4⟩ := o6 z
      rw [sv_uo (by omega), sv_uo (by omega)]; exact ⟨p3, p4⟩
    · have q := o2 z
      rw [q, sv_us]; exact z
  · obtain ⟨w1, w2, w3, w4, w5, w6⟩ := h i (by omega)
    rw [sv_uo e, sv_uo e, sv_uo e, sv_uo (j := A i) (by omega), sv_uo (j := B i) (by omega), sv_uo (j := 0) (by omega)]
    exact ⟨w1, by omega, by omega, w4, w5, w6⟩
theorem sv_gv_make1 {n : Nat} {K A B P m : Nat → Nat} {k a b : Nat} (h : sv_gv (n + 1) (sv_un K n k) (sv_un A n a) (sv_un B n b) (sv_un P n n) m) : sv_gv n K A B P m ∧ sv_ns k (m a) (m b) (m n) := by
  constructor
  · intro i hi
    have := h i (by omega)
    have e : i ≠ n := by omega
    rw [sv_uo e, sv_uo e, sv_uo e, sv_uo e] at this
    exact this
  · have := h n (by omega)
    rw [sv_us, sv_us, sv_us, sv_us] at this
    exact this.2
theorem sv_gv_make2 {n : Nat} {K A B P m : Nat → Nat} {k a b T : Nat} (hP : ∀ i, i < n → P i < n) (hw : sv_kw n K A B) (h : sv_gv n K A B P m) (hT : sv_ns k (m a) (m b) T) (o5 : k = 2 → a < n ∧ b < n) (o6 : k = 5 → a < n ∧ b < n) : sv_gv (n + 1) (sv_un K n k) (sv_un A n a) (sv_un B n b) (sv_un P n n) (sv_un m n T) := by
  intro i hi
  by_cases e : i = n
  · subst e
    rw [sv_us (f := P), sv_us (f := K), sv_us (f := A), sv_us (f := B), sv_us (f := m)]
    refine ⟨rfl, xo_ns_any hT (fun z => ?_) (fun z => ?_)⟩
    · obtain ⟨p1, p2⟩ := o5 z
      rw [sv_uo (by omega), sv_uo (by omega)]; exact ⟨rfl, rfl⟩
    · obtain ⟨p1, p2⟩ := o6 z
      rw [sv_uo (by omega), sv_uo (by omega)]; exact ⟨rfl, rfl⟩
  · obtain ⟨w1, w2, w3, w4, w5, w6⟩ := hw i (by omega)
    have hp := hP i (by omega)
    rw [sv_uo e, sv_uo e, sv_uo e, sv_uo e, sv_uo e, sv_uo (j := P i) (by omega), sv_uo (j := A i) (by omega), sv_uo (j := B i) (by omega)]
    exact h i (by omega)
variable {c : SY} {t : sv_TY}
def yn_k (k : Nat) : Nat := if k = 1 then 1 else if k = 2 then 2 else if k = 3 then 100 else if k = 4 then 5 else if k = 5 then 4 else 200
def yn_K (t : sv_TY) : Nat → Nat := fun i => yn_k (ty_K t i)
def yn_A (t : sv_TY) : Nat → Nat := fun i => if ty_K t i = 4 then ty_R t i else ty_L t i
def yn_B (t : sv_TY) : Nat → Nat := fun i => if ty_K t i = 4 then ty_L t i else ty_R t i
def yo_V (t : sv_TY) (m : Nat → Nat) : Prop := sv_gv (ty_n t) (yn_K t) (yn_A t) (yn_B t) (ty_C t) m
def yo_G (t : sv_TY) : Prop := ty_n t ≤ 320 ∧ (∀ i, i < ty_n t → 1 ≤ ty_K t i ∧ ty_K t i ≤ 6 ∧ ty_L t i < ty_n t ∧ ty_R t i < ty_n t ∧ (ty_K t i ≠ 2 → ty_K t i ≠ 4 → ty_L t i = 0 ∧ ty_R t i = 0)) ∧ sv_kw (ty_n t) (yn_K t) (yn_A t) (yn_B t) ∧ (∀ i, i < ty_n t → ty_C t i < ty_n t ∧ ty_C t (ty_C t i) = ty_C t i ∧ sv_rb (yn_K t (ty_C t i)) = sv_rb (yn_K t i)) ∧ (∀ i, i < ty_n t → ty_E t i = i ∧ ty_S t i = 0 ∧ ty_F t i = 0)
def yo_mk (t : sv_TY) (k l r : Nat) : sv_TY := (ty_n t + 1, ty_fi t, ty_la t, sv_un (ty_K t) (ty_n t) k, sv_un (ty_L t) (ty_n t) l, sv_un (ty_R t) (ty_n t) r, sv_un (ty_C t) (ty_n t) (ty_n t), sv_un (ty_E t) (ty_n t) (ty_n t), sv_un (ty_S t) (ty_n t) 0, sv_un (ty_F t) (ty_n t) 0, ty_o t, ty_b t)
theorem yn_K_mk {k l r : Nat} : yn_K (yo_mk t k l r) = sv_un (yn_K t) (ty_n t) (yn_k k) := by
  funext j
  show yn_k (sv_un (ty_K t) (ty_n t) k j) = sv_un (yn_K t) (ty_n t) (yn_k k) j
  by_cases e : j = ty_n t
  · rw [e, sv_us, sv_us]
  · rw [sv_uo e, sv_uo e]; rfl
theorem yn_A_mk {k l r : Nat} : yn_A (yo_mk t k l r) = sv_un (yn_A t) (ty_n t) (if k = 4 then r else l) := by
  funext j
  show (if sv_un (ty_K t) (ty_n t) k j = 4 then sv_un (ty_R t) (ty_n t) r j else sv_un (ty_L t) (ty_n t) l j) = sv_un (yn_A t) (ty_n t) (if k = 4 then r else l) j
  by_cases e : j = ty_n t
  · rw [e, sv_us, sv_us, sv_us, sv_us]
  · rw [sv_uo e, sv_uo e, sv_uo e, sv_uo e]; rfl
theorem yn_B_mk {k l r : Nat} : yn_B (yo_mk t k l r) = sv_un (yn_B t) (ty_n t) (if k = 4 then l else r) := by
  funext j
  show (if sv_un (ty_K t) (ty_n t) k j = 4 then sv_un (ty_L t) (ty_n t) l j else sv_un (ty_R t) (ty_n t) r j) = sv_un (yn_B t) (ty_n t) (if k = 4 then l else r) j
  by_cases e : j = ty_n t
  · rw [e, sv_us, sv_us, sv_us, sv_us]
  · rw [sv_uo e, sv_uo e, sv_uo e, sv_uo e]; rfl
theorem yo_mk_st {k l r : Nat} : ys_nodes_nodeKind_left_right_cls_def_symbol_finite (gy c t) (nI (ty_n t + 1)) (sv_na (sv_un (ty_K t) (ty_n t) k)) (sv_na (sv_un (ty_L t) (ty_n t) l)) (sv_na (sv_un (ty_R t) (ty_n t) r)) (sv_na (sv_un (ty_C t) (ty_n t) (ty_n t))) (sv_na (sv_un (ty_E t) (ty_n t) (ty_n t))) (sv_na (sv_un (ty_S t) (ty_n t) 0)) (sv_na (sv_un (ty_F t) (ty_n t) 0)) = gy c (yo_mk t k l r) := rfl
theorem yo_node {post : Int32 → SY → Prop} {k l r : Nat} (hn : ty_n t < 320) (h : post (nI (ty_n t)) (gy c (yo_mk t k l r))) : wpY_node post (gy c t) (nI k) (nI l) (nI r) := by
  rw [we_Y_node, gy_nodes, gy_nodeKind, gy_left, gy_right, gy_symbol, gy_cls, gy_def, gy_finite]
  have hi : vp_in (nI (ty_n t)) 320 := vp_in_nI hn (by omega)
  have hb : ty_n t < 2 ^ 31 := by omega
  have z0 : (0 : Int32) = nI 0 := rfl
  have z1 : vp_nar .boolean 0 = nI 0 := rfl
  rw [z1, sv_naU hb, sv_naU hb, sv_naU hb, z0, sv_naU hb, sv_naU hb, sv_naU hb, sv_naU hb]
  refine ⟨hi, nm_e ⟨hi, nm_e ⟨hi, nm_e ⟨hi, nm_e ⟨hi, nm_e ⟨hi, nm_e ⟨hi, nm_e (nm_r (nI_1 (ty_n t)) ?_)⟩⟩⟩⟩⟩⟩⟩
  rw [yo_mk_st]
  exact h
/-- what a new node may be -/
def yo_ok (t : sv_TY) (k l r : Nat) : Prop := (1 ≤ k ∧ k ≤ 6) ∧ (k = 5 → ty_n t = 0) ∧ (l ≤ ty_n t ∧ (k ≠ 2 → k ≠ 4 → l = 0 ∧ r = 0)) ∧ r ≤ ty_n t ∧ (k = 2 → l < ty_n t ∧ r < ty_n t ∧ sv_rb (yn_K t l) = true ∧ sv_rb (yn_K t r) = true) ∧ (k = 4 → l < ty_n t ∧ r < ty_n t ∧ sv_rb (yn_K t l) = false ∧ sv_rb (yn_K t r) = true)
theorem yn_kd {k : Nat} (h : 1 ≤ k ∧ k ≤ 6) : sv_kd (yn_k k) ∧ (yn_k k = 2 ↔ k = 2) ∧ (yn_k k = 5 ↔ k = 4) ∧ (yn_k k = 4 ↔ k = 5) ∧ (yn_k k = 1 ↔ k = 1) := by
  rcases (show k = 1 ∨ k = 2 ∨ k = 3 ∨ k = 4 ∨ k = 5 ∨ k = 6 by omega) with rfl | rfl | rfl | rfl | rfl | rfl <;> unfold sv_kd yn_k <;> decide
theorem yo_mk_G {k l r : Nat} (G : yo_G t) (hn : ty_n t < 320) (ok : yo_ok t k l r) : yo_G (yo_mk t k l r) := by
  obtain ⟨g1, g2, g3, g4, g5⟩ := G
  obtain ⟨o1, o2, o3, o4, o5, o6⟩ := ok
  obtain ⟨y1, y2, y3, y4, y5⟩ := yn_kd o1
  refine ⟨by show ty_n t + 1 ≤ 320; omega, ?_, ?_, ?_, ?_⟩
  · intro i hi
    have hi : i < ty_n t + 1 := hi
    show 1 ≤ sv_un (ty_K t) (ty_n t) k i ∧ sv_un (ty_K t) (ty_n t) k i ≤ 6 ∧ sv_un (ty_L t) (ty_n t) l i < ty_n t + 1 ∧ sv_un (ty_R t) (ty_n t) r i < ty_n t + 1 ∧ (sv_un (ty_K t) (ty_n t) k i ≠ 2 → sv_un (ty_K t) (ty_n t) k i ≠ 4 → sv_un (ty_L t) (ty_n t) l i = 0 ∧ sv_un (ty_R t) (ty_n t) r i = 0)
    by_cases e : i = ty_n t
    · rw [e, sv_us, sv_us, sv_us]; exact ⟨o1.1, o1.2, by omega, by omega, o3.2⟩
    · rw [sv_uo e, sv_uo e, sv_uo e]
      obtain ⟨q1, q2, q3, q4, q5⟩ := g2 i (by omega)
      exact ⟨q1, q2, by omega, by omega, q5⟩
  · rw [yn_K_mk, yn_A_mk, yn_B_mk]
    refine sv_kw_make g3 y1 (fun z => o2 (y4.mp z)) ?_ ?_ (fun z => ?_) (fun z => ?_)
    · split <;> omega
    · split <;> omega
    · have k2 := y2.mp z
      rw [if_neg (by omega), if_neg (by omega)]; exact o5 k2
    · have k4 := y3.mp z
      rw [if_pos k4, if_pos k4]
      obtain ⟨p1, p2, p3, p4⟩ := o6 k4
      exact ⟨p2, p1, p4, p3⟩
  · rw [yn_K_mk]
    intro i hi
    have hi : i < ty_n t + 1 := hi
    show sv_un (ty_C t) (ty_n t) (ty_n t) i < ty_n t + 1 ∧ sv_un (ty_C t) (ty_n t) (ty_n t) (sv_un (ty_C t) (ty_n t) (ty_n t) i) = sv_un (ty_C t) (ty_n t) (ty_n t) i ∧ sv_rb (sv_un (yn_K t) (ty_n t) (yn_k k) (sv_un (ty_C t) (ty_n t) (ty_n t) i)) = sv_rb (sv_un (yn_K t) (ty_n t) (yn_k k) i)
    by_cases e : i = ty_n t
    · subst e
      rw [sv_us, sv_us]; exact ⟨by omega, rfl, rfl⟩
    · obtain ⟨q1, q2, q3⟩ := g4 i (by omega)
      rw [sv_uo e, sv_uo (j := ty_C t i) (by omega), sv_uo (j := ty_C t i) (by omega), sv_uo e]
      exact ⟨by omega, q2, q3⟩
  · intro i hi
    have hi : i < ty_n t + 1 := hi
    show sv_un (ty_E t) (ty_n t) (ty_n t) i = i ∧ sv_un (ty_S t) (ty_n t) 0 i = 0 ∧ sv_un (ty_F t) (ty_n t) 0 i = 0
    by_cases e : i = ty_n t
    · rw [e, sv_us, sv_us, sv_us]; exact ⟨rfl, rfl, rfl⟩
    · rw [sv_uo e, sv_uo e, sv_uo e]; exact g5 i (by omega)
theorem yo_mk_V1 {k l r : Nat} {m : Nat → Nat} (h : yo_V (yo_mk t k l r) m) : yo_V t m ∧ sv_ns (yn_k k) (m (if k = 4 then r else l)) (m (if k = 4 then l else r)) (m (ty_n t)) := by
  unfold yo_V at h
  rw [yn_K_mk, yn_A_mk, yn_B_mk] at h
  exact sv_gv_make1 h
theorem yo_mk_V2 {k l r T : Nat} {m : Nat → Nat} (G : yo_G t) (ok : yo_ok t k l r) (h : yo_V t m) (hT : sv_ns (yn_k k) (m (if k = 4 then r else l)) (m (if k = 4 then l else r)) T) : yo_V (yo_mk t k l r) (sv_un m (ty_n t) T) := by
  obtain ⟨y1, y2, y3, y4, y5⟩ := yn_kd ok.1
  unfold yo_V
  rw [yn_K_mk, yn_A_mk, yn_B_mk]
  refine sv_gv_make2 (fun i hi => (G.2.2.2.1 i hi).1) G.2.2.1 h hT (fun z => ?_) (fun z => ?_)
  · have k2 := y2.mp z
    rw [if_neg (by omega), if_neg (by omega)]
    exact ⟨(ok.2.2.2.2.1 k2).1, (ok.2.2.2.2.1 k2).2.1⟩
  · have k4 := y3.mp z
    rw [if_pos k4, if_pos k4]
    exact ⟨(ok.2.2.2.2.2 k4).2.1, (ok.2.2.2.2.2 k4).1⟩
/-- what stays when a node is made -/
def yo_F (t t' : sv_TY) : Prop := ty_n t ≤ ty_n t' ∧ (∀ i, i < ty_n t → yn_K t' i = yn_K t i) ∧ ty_fi t' = ty_fi t ∧ ty_la t' = ty_la t ∧ ty_o t' = ty_o t ∧ ty_b t' = ty_b t
theorem yo_F_tr {t t' t'' : sv_TY} (h : yo_F t t') (h' : yo_F t' t'') : yo_F t t'' := by
  obtain ⟨a1, a2, a3, a4, a5, a6⟩ := h
  obtain ⟨b1, b2, b3, b4, b5, b6⟩ := h'
  exact ⟨by omega, fun i hi => (b2 i (by omega)).trans (a2 i hi), b3.trans a3, b4.trans a4, b5.trans a5, b6.trans a6⟩
theorem yo_F_mk {k l r : Nat} : yo_F t (yo_mk t k l r) := ⟨Nat.le_succ _, fun i hi => by rw [yn_K_mk]; exact sv_uo (by omega), rfl, rfl, rfl, rfl⟩
/-- a variable; z: of a row -/
theorem yo_var {post : Int32 → SY → Prop} {k : Nat} (hk : k = 3 ∨ k = 6) (G : yo_G t) (hn : ty_n t < 320) (h : ∀ t', yo_G t' → yo_F t t' → ty_n t' = ty_n t + 1 → sv_rb (yn_K t' (ty_n t)) = sv_rb (yn_k k) → (∀ m, yo_V t' m → yo_V t m) → (∀ m T, yo_V t m → yo_V t' (sv_un m (ty_n t) T)) → post (nI (ty_n t)) (gy c t')) : wpY_node post (gy c t) (nI k) 0 0 := by
  have ok : yo_ok t k 0 0 := ⟨by omega, fun z => by omega, ⟨Nat.zero_le _, fun _ _ => ⟨rfl, rfl⟩⟩, Nat.zero_le _, fun z => by omega, fun z => by omega⟩
  refine yo_node (k := k) (l := 0) (r := 0) hn (h _ (yo_mk_G G hn ok) yo_F_mk rfl (by rw [yn_K_mk, sv_us]) (fun m hm => (yo_mk_V1 hm).1) (fun m T hm => yo_mk_V2 G ok hm (xo_nsv ?_)))
  rcases hk with rfl | rfl
  · exact Or.inl rfl
  · exact Or.inr rfl
theorem yo_quot {post : Int32 → SY → Prop} {l r : Nat} (G : yo_G t) (hn : ty_n t < 320) (hl : l < ty_n t) (hr : r < ty_n t) (sl : sv_rb (yn_K t l) = true) (sr : sv_rb (yn_K t r) = true) (h : ∀ t', yo_G t' → yo_F t t' → ty_n t' = ty_n t + 1 → sv_rb (yn_K t' (ty_n t)) = false → (∀ m, yo_V t' m → yo_V t m ∧ m (ty_n t) = sv_nd 2 (m l) (m r)) → (∀ m, yo_V t m → yo_V t' (sv_un m (ty_n t) (sv_nd 2 (m l) (m r)))) → post (nI (ty_n t)) (gy c t')) : wpY_node post (gy c t) 2 (nI l) (nI r) := by
  have ok : yo_ok t 2 l r := ⟨by omega, fun z => by omega, ⟨by omega, fun z => absurd rfl z⟩, by omega, fun _ => ⟨hl, hr, sl, sr⟩, fun z => by omega⟩
  exact yo_node (k := 2) (l := l) (r := r) hn (h _ (yo_mk_G G hn ok) yo_F_mk rfl (by rw [yn_K_mk, sv_us]; rfl) (fun m hm => ⟨(yo_mk_V1 hm).1, (yo_mk_V1 hm).2.2.2.1 rfl⟩) (fun m hm => yo_mk_V2 G ok hm xo_ns2))
theorem yo_cons {post : Int32 → SY → Prop} {l r : Nat} (G : yo_G t) (hn : ty_n t < 320) (hl : l < ty_n t) (hr : r < ty_n t) (sl : sv_rb (yn_K t l) = false) (sr : sv_rb (yn_K t r) = true) (h : ∀ t', yo_G t' → yo_F t t' → ty_n t' = ty_n t + 1 → sv_rb (yn_K t' (ty_n t)) = true → (∀ m, yo_V t' m → yo_V t m ∧ m (ty_n t) = sv_nd 5 (m r) (m l)) → (∀ m, yo_V t m → yo_V t' (sv_un m (ty_n t) (sv_nd 5 (m r) (m l)))) → post (nI (ty_n t)) (gy c t')) : wpY_node post (gy c t) 4 (nI l) (nI r) := by
  have ok : yo_ok t 4 l r := ⟨by omega, fun z => by omega, ⟨by omega, fun _ z => absurd rfl z⟩, by omega, fun z => by omega, fun _ => ⟨hl, hr, sl, sr⟩⟩
  exact yo_node (k := 4) (l := l) (r := r) hn (h _ (yo_mk_G G hn ok) yo_F_mk rfl (by rw [yn_K_mk, sv_us]; rfl) (fun m hm => ⟨(yo_mk_V1 hm).1, (yo_mk_V1 hm).2.2.2.2 rfl⟩) (fun m hm => yo_mk_V2 G ok hm xo_ns5))
/-- equate -/
def yo_c (t : sv_TY) (C : Nat → Nat) : sv_TY := (ty_n t, ty_fi t, ty_la t, ty_K t, ty_L t, ty_R t, C, ty_E t, ty_S t, ty_F t, ty_o t, ty_b t)
def yo_eq (n : Nat) (C : Nat → Nat) (x y : Nat) : Nat → Nat := fun i => if i < n then (if C i = x then y else C i) else C i
theorem yo_c_C {C : Nat → Nat} : yq_cls (gy c (yo_c t C)) = sv_na C := rfl
theorem yo_c_n {C : Nat → Nat} : yq_nodes (gy c (yo_c t C)) = nI (ty_n t) := rfl
theorem yo_c_st {C C' : Nat → Nat} : ys_cls (gy c (yo_c t C)) (sv_na C') = gy c (yo_c t C') := rfl
theorem yo_c_0 : gy c t = gy c (yo_c t (ty_C t)) := rfl
theorem yo_eq_l {post : Int32 → SY → Prop} {C : Nat → Nat} {x y : Nat} (hn : ty_n t ≤ 320) (hx : x < ty_n t) (hy : y < ty_n t) (hC : ∀ i, i < ty_n t → C i < ty_n t) (hxy : x ≠ y) (h : post 1 (gy c (yo_c t (yo_eq (ty_n t) C x y)))) :
    ∀ N i, i ≤ ty_n t → ty_n t - i < N → lqY_equate_18 post (nI x) (nI y) N (nI i) (gy c (yo_c t (yo_eq i C x y))) := by
  intro N
  induction N with
  | zero => intro i _ hN; omega
  | succ N ih =>
    intro i hi hN
    rw [lqY_equate_18_s, yo_c_C, yo_c_n]
    refine pk_le (ty_n t) i (fun hge => ?_) (fun hlt => ?_) rfl rfl (by omega) (by omega)
    · rw [pqY_equate_59_e]
      have e : i = ty_n t := by omega
      rw [e]
      exact pk_eq x y (fun z => absurd z hxy) (fun _ => h) rfl rfl (by omega) (by omega)
    · have hb : vp_in (nI i) 320 := vp_in_nI (by omega) (by omega)
      have ei : yo_eq i C x y i = C i := if_neg (by omega)
      have cl := hC i hlt
      refine pk_eq x y (fun z => absurd z hxy) (fun _ => ⟨hb, ?_⟩) rfl rfl (by omega) (by omega)
      rw [sv_naA (by omega), ei]
      refine pk_eq (C i) x (fun e => ⟨hb, ?_⟩) (fun e => nm_r (nI_1 i) ?_) rfl rfl (by omega) (by omega)
      · rw [sv_naU (by omega)]
        refine nm_e (nm_r (nI_1 i) ?_)
        rw [yo_c_st]
        have q : sv_un (yo_eq i C x y) i y = yo_eq (i + 1) C x y := by
          funext j
          by_cases z : j = i
          · rw [z, sv_us]
            show y = (if i < i + 1 then (if C i = x then y else C i) else C i)
            rw [if_pos (by omega), if_pos e]
          · rw [sv_uo z]
            show (if j < i then (if C j = x then y else C j) else C j) = (if j < i + 1 then (if C j = x then y else C j) else C j)
            by_cases z2 : j < i
            · rw [if_pos z2, if_pos (show j < i + 1 by omega)]
            · rw [if_neg z2, if_neg (by omega)]
        rw [q]
        exact ih (i + 1) (by omega) (by omega)
      · have q : yo_eq i C x y = yo_eq (i + 1) C x y := by
          funext j
          show (if j < i then (if C j = x then y else C j) else C j) = (if j < i + 1 then (if C j = x then y else C j) else C j)
          by_cases z2 : j < i
          · rw [if_pos z2, if_pos (show j < i + 1 by omega)]
          · by_cases z3 : j = i
            · rw [z3, if_neg (by omega), if_pos (by omega), if_neg e]
            · rw [if_neg z2, if_neg (by omega)]
        rw [q]
        exact ih (i + 1) (by omega) (by omega)
theorem yo_eq_same {n : Nat} {C : Nat → Nat} {x : Nat} : yo_eq n C x x = C := by
  funext j
  show (if j < n then (if C j = x then x else C j) else C j) = C j
  by_cases z : j < n
  · rw [if_pos z]
    by_cases e : C j = x
    · rw [if_pos e, e]
    · rw [if_neg e]
  · rw [if_neg z]
theorem yo_eq_0 {C : Nat → Nat} {x y : Nat} : yo_eq 0 C x y = C := by
  funext j
  show (if j < 0 then (if C j = x then y else C j) else C j) = C j
  rw [if_neg (by omega)]
theorem yo_equate {post : Int32 → SY → Prop} {C : Nat → Nat} {a b : Nat} (hn : ty_n t ≤ 320) (ha : a < ty_n t) (hb : b < ty_n t) (hC : ∀ i, i < ty_n t → C i < ty_n t)
    (h0 : C a = C b → post 0 (gy c (yo_c t C))) (h1 : C a ≠ C b → post 1 (gy c (yo_c t (yo_eq (ty_n t) C (C b) (C a))))) : wpY_equate post (gy c (yo_c t C)) (nI a) (nI b) := by
  rw [we_Y_equate, yo_c_C]
  have ca := hC a ha
  have cb := hC b hb
  refine ⟨vp_in_nI (by omega) (by omega), nm_r (sv_naA (by omega)) ⟨vp_in_nI (by omega) (by omega), nm_r (sv_naA (by omega)) ⟨ty_n t + 1, ?_⟩⟩⟩
  by_cases e : C b = C a
  · rw [lqY_equate_18_s, pqY_equate_59_e, e]
    exact br_c (fun _ => br_t rfl (h0 e.symm)) (fun _ => br_t rfl (br_t rfl (h0 e.symm)))
  · have := yo_eq_l (c := c) (t := t) (C := C) (post := post) hn cb ca hC e (h1 (fun z => e z.symm)) (ty_n t + 1) 0 (Nat.zero_le _) (by omega)
    rw [yo_eq_0] at this
    exact this
/-- what an equation does to the classes -/
theorem yo_eq_ff {n : Nat} {C : Nat → Nat} {a b : Nat} (ha : a < n) (hb : b < n) (hC : ∀ i, i < n → C i < n ∧ C (C i) = C i) (f : Nat → Nat) : sv_ff n (yo_eq n C (C b) (C a)) f ↔ (sv_ff n C f ∧ f a = f b) := by
  have at' : ∀ i, i < n → yo_eq n C (C b) (C a) i = if C i = C b then C a else C i := fun i hi => if_pos hi
  constructor
  · intro h
    have hfa : f a = f (C a) := by
      have := h a ha
      rw [at' a ha] at this
      by_cases z : C a = C b
      · rw [if_pos z] at this; exact this
      · rw [if_neg z] at this; exact this
    have hfb : f b = f (C a) := by
      have := h b hb
      rw [at' b hb, if_pos rfl] at this; exact this
    have hcb : f (C b) = f (C a) := by
      have := h (C b) (hC b hb).1
      rw [at' _ (hC b hb).1, if_pos (hC b hb).2] at this; exact this
    refine ⟨fun i hi => ?_, hfa.trans hfb.symm⟩
    have := h i hi
    rw [at' i hi] at this
    by_cases z : C i = C b
    · rw [if_pos z] at this
      rw [this, z, hcb]
    · rw [if_neg z] at this; exact this
  · intro ⟨h, e⟩ i hi
    rw [at' i hi]
    by_cases z : C i = C b
    · rw [if_pos z, h i hi, z, ← h b hb, ← e, h a ha]
    · rw [if_neg z]; exact h i hi
theorem yo_eq_C {n : Nat} {C : Nat → Nat} {a b : Nat} (ha : a < n) (hb : b < n) (hC : ∀ i, i < n → C i < n ∧ C (C i) = C i) : ∀ i, i < n → yo_eq n C (C b) (C a) i < n ∧ yo_eq n C (C b) (C a) (yo_eq n C (C b) (C a) i) = yo_eq n C (C b) (C a) i := by
  have at' : ∀ i, i < n → yo_eq n C (C b) (C a) i = if C i = C b then C a else C i := fun i hi => if_pos hi
  intro i hi
  by_cases z : C i = C b
  · rw [at' i hi, if_pos z, at' _ (hC a ha).1, (hC a ha).2]
    refine ⟨(hC a ha).1, ?_⟩
    by_cases q : C a = C b
    · rw [if_pos q]
    · rw [if_neg q]
  · rw [at' i hi, if_neg z, at' _ (hC i hi).1, (hC i hi).2, if_neg z]
    exact ⟨(hC i hi).1, rfl⟩
theorem yo_eq_mono {n : Nat} {C : Nat → Nat} {x y i j : Nat} (hi : i < n) (hj : j < n) (e : C i = C j) : yo_eq n C x y i = yo_eq n C x y j := by
  show (if i < n then (if C i = x then y else C i) else C i) = (if j < n then (if C j = x then y else C j) else C j)
  rw [if_pos hi, if_pos hj, e]
theorem yo_eq_cn {n : Nat} {C : Nat → Nat} {a b : Nat} (ha : a < n) (hb : b < n) (hC : ∀ i, i < n → C i < n ∧ C (C i) = C i) (hne : C a ≠ C b) : sv_cn (sv_nr (yo_eq n C (C b) (C a))) n = sv_cn (sv_nr C) n + 1 := by
  have at' : ∀ i, i < n → yo_eq n C (C b) (C a) i = if C i = C b then C a else C i := fun i hi => if_pos hi
  refine sv_cn_one (k := C b) ?_ ?_ (hC b hb).1 (fun i hi ne => ?_)
  · exact decide_eq_false (fun z => z (hC b hb).2)
  · refine decide_eq_true ?_
    rw [at' _ (hC b hb).1, if_pos (hC b hb).2]; exact hne
  · unfold sv_nr
    rw [at' i hi]
    by_cases z : C i = C b
    · rw [if_pos z, z]
      have h1 : C b ≠ i := fun w => ne w.symm
      have h2 : C a ≠ i := fun w => by
        rw [← w] at z
        rw [(hC a ha).2] at z
        exact hne z
      rw [decide_eq_true h1, decide_eq_true h2]
    · rw [if_neg z]
end
end
section
/-! the reference: the equations of one token -/
section
variable {c : SY} {t : sv_TY}
def yo_bg (t : sv_TY) (k : Nat) : Nat := if k = 0 then ty_fi t else ty_b t (k - 1)
def yo_vw (m : Nat → Nat) (t : sv_TY) (op : Nat) : Nat × Nat × List (Nat × Nat) := (m (ty_la t), m (yo_bg t op), sv_stk m (ty_o t) (yo_bg t) op)
def yo_I (t : sv_TY) (op : Nat) : Prop := yo_G t ∧ (ty_la t < ty_n t ∧ sv_rb (yn_K t (ty_la t)) = true) ∧ (ty_fi t < ty_n t ∧ sv_rb (yn_K t (ty_fi t)) = true) ∧ op ≤ 32 ∧ (∀ k, k < op → ty_o t k < ty_n t ∧ sv_rb (yn_K t (ty_o t k)) = true ∧ ty_b t k < ty_n t ∧ sv_rb (yn_K t (ty_b t k)) = true)
theorem yo_bg_ok {op k : Nat} (I : yo_I t op) (h : k ≤ op) : yo_bg t k < ty_n t ∧ sv_rb (yn_K t (yo_bg t k)) = true := by
  unfold yo_bg
  by_cases e : k = 0
  · rw [if_pos e]; exact I.2.2.1
  · rw [if_neg e]
    obtain ⟨a1, a2, a3, a4⟩ := I.2.2.2.2 (k - 1) (by omega)
    exact ⟨a3, a4⟩
/-- what the equations of token k do -/
def yo_S (k : Nat) (t : sv_TY) (op : Nat) (t' : sv_TY) (op' : Nat) : Prop := yo_I t' op' ∧ ty_n t ≤ ty_n t' ∧ ty_n t' ≤ ty_n t + 9 ∧ (∀ i, i < ty_n t → yn_K t' i = yn_K t i) ∧ ty_fi t' = ty_fi t ∧
  (∀ m, yo_V t' m → yo_V t m ∧ sv_St k (yo_vw m t op) (yo_vw m t' op')) ∧
  (∀ m w, yo_V t m → sv_St k (yo_vw m t op) w → ∃ m', yo_V t' m' ∧ (∀ i, i < ty_n t → m' i = m i) ∧ yo_vw m' t' op' = w)
/-- the five nodes that every token makes: r, s rows, x, y values, q a quotation -/
def yo_5 (t t' : sv_TY) : Prop := yo_G t' ∧ yo_F t t' ∧ ty_n t' = ty_n t + 5 ∧ sv_rb (yn_K t' (ty_n t)) = true ∧ sv_rb (yn_K t' (ty_n t + 1)) = true ∧ sv_rb (yn_K t' (ty_n t + 2)) = false ∧ sv_rb (yn_K t' (ty_n t + 3)) = false ∧ sv_rb (yn_K t' (ty_n t + 4)) = false ∧
  (∀ m, yo_V t' m → yo_V t m ∧ m (ty_n t + 4) = sv_nd 2 (m (ty_n t)) (m (ty_n t + 1))) ∧
  (∀ m a b x y, yo_V t m → ∃ m', yo_V t' m' ∧ (∀ i, i < ty_n t → m' i = m i) ∧ m' (ty_n t) = a ∧ m' (ty_n t + 1) = b ∧ m' (ty_n t + 2) = x ∧ m' (ty_n t + 3) = y ∧ m' (ty_n t + 4) = sv_nd 2 a b)
theorem yo_five {post : Int32 → Int32 → Int32 → Int32 → Int32 → SY → Prop} (G : yo_G t) (hn : ty_n t + 5 ≤ 320) (h : ∀ t', yo_5 t t' → post (nI (ty_n t)) (nI (ty_n t + 1)) (nI (ty_n t + 2)) (nI (ty_n t + 3)) (nI (ty_n t + 4)) (gy c t')) :
    wpY_node (fun r u1 => wpY_node (fun s u2 => wpY_node (fun x u3 => wpY_node (fun y u4 => wpY_node (fun q u5 => post r s x y q u5) u4 2 r s) u3 3 0 0) u2 3 0 0) u1 6 0 0) (gy c t) 6 0 0 := by
  refine yo_var (k := 6) (Or.inr rfl) G (by omega) (fun t1 G1 F1 n1 s1 e1 f1 => ?_)
  refine yo_var (t := t1) (k := 6) (Or.inr rfl) G1 (by omega) (fun t2 G2 F2 n2 s2 e2 f2 => ?_)
  rw [n1] at s2 f2 ⊢
  refine yo_var (t := t2) (k := 3) (Or.inl rfl) G2 (by omega) (fun t3 G3 F3 n3 s3 e3 f3 => ?_)
  rw [n2, n1] at s3 f3 ⊢
  refine yo_var (t := t3) (k := 3) (Or.inl rfl) G3 (by omega) (fun t4 G4 F4 n4 s4 e4 f4 => ?_)
  rw [n3, n2, n1] at s4 f4 ⊢
  have k41 : ∀ i, i < ty_n t + 1 → yn_K t4 i = yn_K t1 i := fun i hi => (F4.2.1 i (by omega)).trans ((F3.2.1 i (by omega)).trans (F2.2.1 i (by omega)))
  have k42 : ∀ i, i < ty_n t + 2 → yn_K t4 i = yn_K t2 i := fun i hi => (F4.2.1 i (by omega)).trans (F3.2.1 i (by omega))
  have a0 : sv_rb (yn_K t4 (ty_n t)) = true := by rw [k41 _ (by omega)]; exact s1
  have a1 : sv_rb (yn_K t4 (ty_n t + 1)) = true := by rw [k42 _ (by omega)]; exact s2
  have a2 : sv_rb (yn_K t4 (ty_n t + 2)) = false := by rw [F4.2.1 _ (by omega)]; exact s3
  refine yo_quot (t := t4) (l := ty_n t) (r := ty_n t + 1) G4 (by omega) (by omega) (by omega) a0 a1 (fun t5 G5 F5 n5 s5 e5 f5 => ?_)
  rw [n4, n3, n2, n1] at s5 e5 f5 n5 ⊢
  have k5 : ∀ i, i < ty_n t + 4 → yn_K t5 i = yn_K t4 i := fun i hi => F5.2.1 i (by omega)
  refine h t5 ⟨G5, yo_F_tr F1 (yo_F_tr F2 (yo_F_tr F3 (yo_F_tr F4 F5))), n5, by rw [k5 _ (by omega)]; exact a0, by rw [k5 _ (by omega)]; exact a1, by rw [k5 _ (by omega)]; exact a2, by rw [k5 _ (by omega)]; exact s4, s5, fun m hm => ⟨e1 m (e2 m (e3 m (e4 m (e5 m hm).1))), (e5 m hm).2⟩, fun m a b x y hm => ?_⟩
  have v4 := f4 _ y (f3 _ x (f2 _ b (f1 m a hm)))
  have v5 := f5 _ v4
  have q0 : sv_un (sv_un (sv_un (sv_un m (ty_n t) a) (ty_n t + 1) b) (ty_n t + 1 + 1) x) (ty_n t + 1 + 1 + 1) y (ty_n t) = a := by rw [sv_uo (by omega), sv_uo (by omega), sv_uo (by omega), sv_us]
  have q1 : sv_un (sv_un (sv_un (sv_un m (ty_n t) a) (ty_n t + 1) b) (ty_n t + 1 + 1) x) (ty_n t + 1 + 1 + 1) y (ty_n t + 1) = b := by rw [sv_uo (by omega), sv_uo (by omega), sv_us]
  rw [q0, q1] at v5
  refine ⟨_, v5, fun i hi => ?_, ?_, ?_, ?_, ?_, sv_us⟩
  · rw [sv_uo (by omega), sv_uo (by omega), sv_uo (by omega), sv_uo (by omega), sv_uo (by omega)]
  · rw [sv_uo (by omega)]; exact q0
  · rw [sv_uo (by omega)]; exact q1
  · rw [sv_uo (by omega), sv_uo (by omega), sv_us]
  · rw [sv_uo (by omega), sv_us]
/-- the end of a token: the equation, and the new row -/
def yo_la (t : sv_TY) (C : Nat → Nat) (r : Nat) : sv_TY := (ty_n t, ty_fi t, r, ty_K t, ty_L t, ty_R t, C, ty_E t, ty_S t, ty_F t, ty_o t, ty_b t)
theorem yo_la_st {C : Nat → Nat} {r : Nat} : ys_last (gy c (yo_c t C)) (nI r) = gy c (yo_la t C r) := rfl
theorem yo_464 {post : Int32 → SY → Prop} {J : Int32 → Int32 → SY → Prop} {x2 x3 x4 x5 : Int32} {i need give : Nat} (G : yo_G t) (hl : ty_la t < ty_n t) (hd : need < ty_n t) (hs : sv_rb (yn_K t (ty_la t)) = sv_rb (yn_K t need))
    (h : ∀ t', t' = yo_la t (yo_eq (ty_n t) (ty_C t) (ty_C t need) (ty_C t (ty_la t))) give → yo_G t' → (∀ m, yo_V t' m ↔ (yo_V t m ∧ m (ty_la t) = m need)) → J x5 (nI (i + 1)) (gy c t')) :
    pqY_solve_464 post J x2 x3 x4 x5 (nI i) (nI need) (nI give) (gy c t) := by
  rw [pqY_solve_464_e, gy_last, yo_c_0]
  obtain ⟨g1, g2, g3, g4, g5⟩ := G
  have hC : ∀ i, i < ty_n t → ty_C t i < ty_n t ∧ ty_C t (ty_C t i) = ty_C t i := fun i hi => ⟨(g4 i hi).1, (g4 i hi).2.1⟩
  have key : J x5 (nI (i + 1)) (gy c (yo_la t (yo_eq (ty_n t) (ty_C t) (ty_C t need) (ty_C t (ty_la t))) give)) := by
    refine h _ rfl ⟨g1, g2, g3, ?_, g5⟩ (fun m => ?_)
    · intro j hj
      obtain ⟨c1, c2⟩ := yo_eq_C hl hd hC j hj
      refine ⟨c1, c2, ?_⟩
      show sv_rb (yn_K t (yo_eq (ty_n t) (ty_C t) (ty_C t need) (ty_C t (ty_la t)) j)) = sv_rb (yn_K t j)
      have e : yo_eq (ty_n t) (ty_C t) (ty_C t need) (ty_C t (ty_la t)) j = if ty_C t j = ty_C t need then ty_C t (ty_la t) else ty_C t j := if_pos hj
      rw [e]
      by_cases z : ty_C t j = ty_C t need
      · rw [if_pos z, (g4 _ hl).2.2, hs, ← (g4 _ hd).2.2, ← z, (g4 _ hj).2.2]
      · rw [if_neg z]; exact (g4 j hj).2.2
    · have ff := yo_eq_ff hl hd hC m
      constructor
      · intro hm
        have q := ff.mp (sv_gv_ff (show sv_gv (ty_n t) (yn_K t) (yn_A t) (yn_B t) (yo_eq (ty_n t) (ty_C t) (ty_C t need) (ty_C t (ty_la t))) m from hm))
        exact ⟨sv_gv_of (P := yo_eq (ty_n t) (ty_C t) (ty_C t need) (ty_C t (ty_la t))) hm q.1, q.2⟩
      · intro ⟨hm, e⟩
        exact sv_gv_of (P := ty_C t) hm (ff.mpr ⟨sv_gv_ff (P := ty_C t) hm, e⟩)
  refine yo_equate (t := t) g1 hl hd (fun i hi => (g4 i hi).1) (fun e => nm_r (nI_1 i) ?_) (fun e => nm_r (nI_1 i) ?_)
  · rw [yo_la_st]
    have q : yo_eq (ty_n t) (ty_C t) (ty_C t need) (ty_C t (ty_la t)) = ty_C t := by rw [e]; exact yo_eq_same
    rw [q] at key
    exact key
  · rw [yo_la_st]; exact key
/-- tokens that move the row alone: from the state tk behind their nodes -/
theorem yo_lift {k op : Nat} {tk t' : sv_TY} {give need : Nat} (h3 : k ≠ 3) (h4 : k ≠ 4) (I : yo_I t op) (F : yo_F t tk) (hn : ty_n tk ≤ ty_n t + 9) (hg : give < ty_n tk) (sg : sv_rb (yn_K tk give) = true)
    (et : t' = yo_la tk (yo_eq (ty_n tk) (ty_C tk) (ty_C tk need) (ty_C tk (ty_la tk))) give) (G' : yo_G t') (V' : ∀ m, yo_V t' m ↔ (yo_V tk m ∧ m (ty_la tk) = m need))
    (e : ∀ m, yo_V tk m → m (ty_la t) = m need → yo_V t m ∧ sv_SR k (m (ty_la t)) (m give))
    (f : ∀ m r, yo_V t m → sv_SR k (m (ty_la t)) r → ∃ m', yo_V tk m' ∧ (∀ i, i < ty_n t → m' i = m i) ∧ m' need = m (ty_la t) ∧ m' give = r) : yo_S k t op t' op := by
  obtain ⟨a1, a2, a3, a4, a5, a6⟩ := F
  have n' : ty_n t' = ty_n tk := by rw [et]; rfl
  have K' : yn_K t' = yn_K tk := by rw [et]; rfl
  have la' : ty_la t' = give := by rw [et]; rfl
  have fi' : ty_fi t' = ty_fi t := by rw [et]; exact a3
  have o' : ty_o t' = ty_o t := by rw [et]; exact a5
  have b' : ty_b t' = ty_b t := by rw [et]; exact a6
  have bg' : ∀ k, yo_bg t' k = yo_bg t k := fun k => by unfold yo_bg; rw [fi', b']
  have i2 := I.2.1
  have i3 := I.2.2.1
  have i5 := I.2.2.2.2
  have stk : ∀ m m' : Nat → Nat, (∀ i, i < ty_n t → m' i = m i) → sv_stk m' (ty_o t') (yo_bg t') op = sv_stk m (ty_o t) (yo_bg t) op := by
    intro m m' ag
    refine sv_stk_congr _ (fun j hj => ?_)
    rw [o', bg']
    exact ⟨ag _ (i5 j hj).1, ag _ (yo_bg_ok I (by omega)).1⟩
  have bo := yo_bg_ok I (Nat.le_refl op)
  refine ⟨⟨G', ?_, ?_, I.2.2.2.1, fun j hj => ?_⟩, by omega, by omega, fun i hi => by rw [K']; exact a2 i hi, fi', fun m hm => ?_, fun m w hm hS => ?_⟩
  · rw [la', n', K']; exact ⟨hg, sg⟩
  · rw [fi', n', K', a2 _ i3.1]; exact ⟨by omega, i3.2⟩
  · obtain ⟨q1, q2, q3, q4⟩ := i5 j hj
    rw [o', b', n', K', a2 _ q1, a2 _ q3]; exact ⟨by omega, q2, by omega, q4⟩
  · obtain ⟨vk, q⟩ := (V' m).mp hm
    rw [a4] at q
    obtain ⟨v0, s⟩ := e m vk q
    refine ⟨v0, ?_⟩
    rw [sv_StE h3 h4]
    refine ⟨?_, stk m m (fun _ _ => rfl), ?_⟩
    · show m (yo_bg t' op) = m (yo_bg t op)
      rw [bg']
    · show sv_SR k (m (ty_la t)) (m (ty_la t'))
      rw [la']; exact s
  · rw [sv_StE h3 h4] at hS
    obtain ⟨w1, w2, w3⟩ := hS
    obtain ⟨m', vk, ag, qn, qg⟩ := f m w.1 hm w3
    refine ⟨m', (V' m').mpr ⟨vk, by rw [a4, ag _ i2.1, qn]⟩, ag, ?_⟩
    show (m' (ty_la t'), m' (yo_bg t' op), sv_stk m' (ty_o t') (yo_bg t') op) = w
    rw [stk m m' ag, la', qg, bg', ag _ bo.1]
    have w1 : w.2.1 = m (yo_bg t op) := w1
    have w2 : w.2.2 = sv_stk m (ty_o t) (yo_bg t) op := w2
    rw [← w1, ← w2]
end
end
section
/-! printed by gen/ytok.py: the reference's tokens that move the row alone -/
section
variable {c : SY} {t : sv_TY} {post : Int32 → SY → Prop} {J : Int32 → Int32 → SY → Prop} {x2 x3 : Int32} {num op i : Nat}
theorem yt_1 {t5 : sv_TY} (I : yo_I t op) (hn : ty_n t + 9 ≤ 320) (N : num < ty_n t ∧ yn_K t num = 1) (H5 : yo_5 t t5) (h : ∀ t', yo_S 1 t op t' op → J (nI op) (nI (i + 1)) (gy c t')) : pqY_solve_157 post J x2 x3 (nI num) (nI op) (nI i) (nI 1) (nI (ty_n t)) (nI (ty_n t + 1)) (nI (ty_n t + 2)) (nI (ty_n t + 3)) (nI (ty_n t + 4)) (nI (ty_n t)) (nI (ty_n t + 1)) (gy c t5) := by
  obtain ⟨G5, F5, n5, sr, ss, sx, sy, sq, e5, f5⟩ := H5
  have i2 := I.2.1
  have la5 : ty_la t5 = ty_la t := F5.2.2.2.1
  have sn : sv_rb (yn_K t5 num) = false := by rw [F5.2.1 _ N.1, N.2]; rfl
  have vn : ∀ m, yo_V t m → m num = sv_lf 1 := fun m hm => (hm num N.1).2.1 N.2
  have sl5 : sv_rb (yn_K t5 (ty_la t)) = true := by rw [F5.2.1 _ i2.1]; exact i2.2
  rw [pqY_solve_157_e]
  refine br_f (by decide) (?_)
  rw [pqY_solve_211_e]
  refine br_t rfl (yo_cons (t := t5) (l := num) (r := ty_n t) G5 (by omega) (by omega) (by omega) sn sr (fun t6 G6 F6 n6 s6 e6 f6 => ?_))
  rw [n5] at s6 e6 f6 n6 ⊢
  rw [pqY_solve_228_e]
  refine br_f (by decide) (br_f (by decide) (br_f (by decide) (?_)))
  rw [pqY_solve_271_e]
  refine br_f (by decide) (br_f (by decide) (br_f (by decide) (br_f (by decide) (?_))))
  rw [pqY_solve_309_e]
  refine br_f (by decide) (?_)
  rw [pqY_solve_326_e]
  refine br_f (by decide) (?_)
  rw [pqY_solve_337_e]
  refine br_f (by decide) (?_)
  rw [pqY_solve_377_e]
  refine br_f (by decide) (?_)
  rw [pqY_solve_395_e]
  refine br_f (by decide) (?_)
  rw [pqY_solve_424_e]
  refine br_f (by decide) (?_)
  have k6 : ∀ i, i < ty_n t + 5 → yn_K t6 i = yn_K t5 i := fun i hi => F6.2.1 i (by omega)
  have la6 : ty_la t6 = ty_la t := F6.2.2.2.1.trans la5
  refine yo_464 (t := t6) G6 (by omega) (by omega) (by rw [la6, k6 _ (by omega), k6 _ (by omega), sl5, sr]) (fun t' et' G' V' => h t' (yo_lift (by decide) (by decide) I (yo_F_tr F5 F6) (by omega) (by omega) s6 et' G' V' (fun m hm q => ?_) (fun m r hm q => ?_)))
  · obtain ⟨v5, q6⟩ := e6 m hm
    obtain ⟨v0, _⟩ := e5 m v5
    refine ⟨v0, ?_⟩
    rw [sv_SR1, q6, vn m v0, q]
  · rw [sv_SR1] at q
    obtain ⟨m5, v5, ag, a1, a2, a3, a4, a5⟩ := f5 m (m (ty_la t)) 0 0 0 hm
    refine ⟨_, f6 m5 v5, fun i hi => ?_, ?_, ?_⟩
    · rw [sv_uo (by omega)]; exact ag i hi
    · rw [sv_uo (by omega)]; exact a1
    · rw [sv_us, a1, ag _ N.1, vn m hm, q]
theorem yt_a {t5 : sv_TY} {k : Nat} (hk : k = 8 ∨ k = 9 ∨ k = 10) (I : yo_I t op) (hn : ty_n t + 9 ≤ 320) (N : num < ty_n t ∧ yn_K t num = 1) (H5 : yo_5 t t5) (h : ∀ t', yo_S k t op t' op → J (nI op) (nI (i + 1)) (gy c t')) : pqY_solve_249 post J x2 x3 (nI num) (nI op) (nI i) (nI k) (nI (ty_n t)) (nI (ty_n t + 1)) (nI (ty_n t + 2)) (nI (ty_n t + 3)) (nI (ty_n t + 4)) (gy c t5) := by
  obtain ⟨G5, F5, n5, sr, ss, sx, sy, sq, e5, f5⟩ := H5
  have i2 := I.2.1
  have la5 : ty_la t5 = ty_la t := F5.2.2.2.1
  have sn : sv_rb (yn_K t5 num) = false := by rw [F5.2.1 _ N.1, N.2]; rfl
  have vn : ∀ m, yo_V t m → m num = sv_lf 1 := fun m hm => (hm num N.1).2.1 N.2
  have sl5 : sv_rb (yn_K t5 (ty_la t)) = true := by rw [F5.2.1 _ i2.1]; exact i2.2
  rw [pqY_solve_249_e]
  refine yo_cons (t := t5) (l := num) (r := ty_n t) G5 (by omega) (by omega) (by omega) sn sr (fun t6 G6 F6 n6 s6 e6 f6 => ?_)
  rw [n5] at s6 e6 f6 n6 ⊢
  have k6 : ∀ i, i < ty_n t + 5 → yn_K t6 i = yn_K t5 i := fun i hi => F6.2.1 i (by omega)
  refine yo_cons (t := t6) (l := num) (r := ty_n t + 5) G6 (by omega) (by omega) (by omega) (by rw [k6 _ (by omega)]; exact sn) s6 (fun t7 G7 F7 n7 s7 e7 f7 => ?_)
  rw [n6] at s7 e7 f7 n7 ⊢
  have k7 : ∀ i, i < ty_n t + 5 + 1 → yn_K t7 i = yn_K t6 i := fun i hi => F7.2.1 i (by omega)
  have la7 : ty_la t7 = ty_la t := F7.2.2.2.1.trans (F6.2.2.2.1.trans la5)
  have fin : pqY_solve_464 post J x2 x3 (nI num) (nI op) (nI i) (nI (ty_n t + 5 + 1)) (nI (ty_n t + 5)) (gy c t7) := by
    refine yo_464 (t := t7) G7 (by omega) (by omega) (by rw [la7, s7, k7 _ (by omega), k6 _ (by omega), sl5]) (fun t' et' G' V' => h t' (yo_lift (by omega) (by omega) I (yo_F_tr F5 (yo_F_tr F6 F7)) (by omega) (by omega) (by rw [k7 _ (by omega)]; exact s6) et' G' V' (fun m hm q => ?_) (fun m r hm q => ?_)))
    · obtain ⟨v6, q7⟩ := e7 m hm
      obtain ⟨v5, q6⟩ := e6 m v6
      obtain ⟨v0, _⟩ := e5 m v5
      refine ⟨v0, ?_⟩
      rw [sv_SRa hk]
      refine ⟨m (ty_n t), ?_, ?_⟩
      · rw [q, q7, q6, vn m v0]
      · rw [q6, vn m v0]
    · rw [sv_SRa hk] at q
      obtain ⟨p, q1, q2⟩ := q
      obtain ⟨m5, v5, ag, a1, a2, a3, a4, a5⟩ := f5 m p 0 0 0 hm
      have nn : m5 num = sv_lf 1 := (ag _ N.1).trans (vn m hm)
      have v6 := f6 m5 v5
      have v7 := f7 _ v6
      refine ⟨_, v7, fun i hi => ?_, ?_, ?_⟩
      · rw [sv_uo (by omega), sv_uo (by omega)]; exact ag i hi
      · rw [sv_us, sv_us, sv_uo (by omega), nn, a1, q1]
      · rw [sv_uo (by omega), sv_us, nn, a1, q2]
  rcases hk with rfl | rfl | rfl
  · rw [pqY_solve_271_e]
    refine br_f (by decide) (br_f (by decide) (br_f (by decide) (br_f (by decide) (?_))))
    rw [pqY_solve_309_e]
    refine br_f (by decide) (?_)
    rw [pqY_solve_326_e]
    refine br_f (by decide) (?_)
    rw [pqY_solve_337_e]
    refine br_f (by decide) (?_)
    rw [pqY_solve_377_e]
    refine br_f (by decide) (?_)
    rw [pqY_solve_395_e]
    refine br_f (by decide) (?_)
    rw [pqY_solve_424_e]
    refine br_f (by decide) (?_)
    exact fin
  · rw [pqY_solve_271_e]
    refine br_f (by decide) (br_f (by decide) (br_f (by decide) (br_f (by decide) (?_))))
    rw [pqY_solve_309_e]
    refine br_f (by decide) (?_)
    rw [pqY_solve_326_e]
    refine br_f (by decide) (?_)
    rw [pqY_solve_337_e]
    refine br_f (by decide) (?_)
    rw [pqY_solve_377_e]
    refine br_f (by decide) (?_)
    rw [pqY_solve_395_e]
    refine br_f (by decide) (?_)
    rw [pqY_solve_424_e]
    refine br_f (by decide) (?_)
    exact fin
  · rw [pqY_solve_271_e]
    refine br_f (by decide) (br_f (by decide) (br_f (by decide) (br_f (by decide) (?_))))
    rw [pqY_solve_309_e]
    refine br_f (by decide) (?_)
    rw [pqY_solve_326_e]
    refine br_f (by decide) (?_)
    rw [pqY_solve_337_e]
    refine br_f (by decide) (?_)
    rw [pqY_solve_377_e]
    refine br_f (by decide) (?_)
    rw [pqY_solve_395_e]
    refine br_f (by decide) (?_)
    rw [pqY_solve_424_e]
    refine br_f (by decide) (?_)
    exact fin
theorem yt_8 {t5 : sv_TY} (I : yo_I t op) (hn : ty_n t + 9 ≤ 320) (N : num < ty_n t ∧ yn_K t num = 1) (H5 : yo_5 t t5) (h : ∀ t', yo_S 8 t op t' op → J (nI op) (nI (i + 1)) (gy c t')) : pqY_solve_157 post J x2 x3 (nI num) (nI op) (nI i) (nI 8) (nI (ty_n t)) (nI (ty_n t + 1)) (nI (ty_n t + 2)) (nI (ty_n t + 3)) (nI (ty_n t + 4)) (nI (ty_n t)) (nI (ty_n t + 1)) (gy c t5) := by
  rw [pqY_solve_157_e]
  refine br_f (by decide) (?_)
  rw [pqY_solve_211_e]
  refine br_f (by decide) (?_)
  rw [pqY_solve_228_e]
  exact br_t rfl (yt_a (by decide) I hn N H5 h)
theorem yt_9 {t5 : sv_TY} (I : yo_I t op) (hn : ty_n t + 9 ≤ 320) (N : num < ty_n t ∧ yn_K t num = 1) (H5 : yo_5 t t5) (h : ∀ t', yo_S 9 t op t' op → J (nI op) (nI (i + 1)) (gy c t')) : pqY_solve_157 post J x2 x3 (nI num) (nI op) (nI i) (nI 9) (nI (ty_n t)) (nI (ty_n t + 1)) (nI (ty_n t + 2)) (nI (ty_n t + 3)) (nI (ty_n t + 4)) (nI (ty_n t)) (nI (ty_n t + 1)) (gy c t5) := by
  rw [pqY_solve_157_e]
  refine br_f (by decide) (?_)
  rw [pqY_solve_211_e]
  refine br_f (by decide) (?_)
  rw [pqY_solve_228_e]
  exact br_f (by decide) (br_t rfl (yt_a (by decide) I hn N H5 h))
theorem yt_10 {t5 : sv_TY} (I : yo_I t op) (hn : ty_n t + 9 ≤ 320) (N : num < ty_n t ∧ yn_K t num = 1) (H5 : yo_5 t t5) (h : ∀ t', yo_S 10 t op t' op → J (nI op) (nI (i + 1)) (gy c t')) : pqY_solve_157 post J x2 x3 (nI num) (nI op) (nI i) (nI 10) (nI (ty_n t)) (nI (ty_n t + 1)) (nI (ty_n t + 2)) (nI (ty_n t + 3)) (nI (ty_n t + 4)) (nI (ty_n t)) (nI (ty_n t + 1)) (gy c t5) := by
  rw [pqY_solve_157_e]
  refine br_f (by decide) (?_)
  rw [pqY_solve_211_e]
  refine br_f (by decide) (?_)
  rw [pqY_solve_228_e]
  exact br_f (by decide) (br_f (by decide) (br_t rfl (yt_a (by decide) I hn N H5 h)))
theorem yt_6 {t5 : sv_TY} (I : yo_I t op) (hn : ty_n t + 9 ≤ 320) (N : num < ty_n t ∧ yn_K t num = 1) (H5 : yo_5 t t5) (h : ∀ t', yo_S 6 t op t' op → J (nI op) (nI (i + 1)) (gy c t')) : pqY_solve_157 post J x2 x3 (nI num) (nI op) (nI i) (nI 6) (nI (ty_n t)) (nI (ty_n t + 1)) (nI (ty_n t + 2)) (nI (ty_n t + 3)) (nI (ty_n t + 4)) (nI (ty_n t)) (nI (ty_n t + 1)) (gy c t5) := by
  obtain ⟨G5, F5, n5, sr, ss, sx, sy, sq, e5, f5⟩ := H5
  have i2 := I.2.1
  have la5 : ty_la t5 = ty_la t := F5.2.2.2.1
  have sn : sv_rb (yn_K t5 num) = false := by rw [F5.2.1 _ N.1, N.2]; rfl
  have vn : ∀ m, yo_V t m → m num = sv_lf 1 := fun m hm => (hm num N.1).2.1 N.2
  have sl5 : sv_rb (yn_K t5 (ty_la t)) = true := by rw [F5.2.1 _ i2.1]; exact i2.2
  rw [pqY_solve_157_e]
  refine br_f (by decide) (?_)
  rw [pqY_solve_211_e]
  refine br_f (by decide) (?_)
  rw [pqY_solve_228_e]
  refine br_f (by decide) (br_f (by decide) (br_f (by decide) (?_)))
  rw [pqY_solve_271_e]
  refine br_f (by decide) (br_t rfl ?_)
  rw [pqY_solve_298_e]
  refine yo_cons (t := t5) (l := ty_n t + 2) (r := ty_n t) G5 (by omega) (by omega) (by omega) sx sr (fun t6 G6 F6 n6 s6 e6 f6 => ?_)
  rw [n5] at s6 e6 f6 n6 ⊢
  have k6 : ∀ i, i < ty_n t + 5 → yn_K t6 i = yn_K t5 i := fun i hi => F6.2.1 i (by omega)
  have la6 : ty_la t6 = ty_la t := F6.2.2.2.1.trans la5
  rw [pqY_solve_309_e]
  refine br_f (by decide) (?_)
  rw [pqY_solve_326_e]
  refine br_t rfl ?_
  rw [pqY_solve_337_e]
  refine br_f (by decide) (?_)
  rw [pqY_solve_377_e]
  refine br_f (by decide) (?_)
  rw [pqY_solve_395_e]
  refine br_f (by decide) (?_)
  rw [pqY_solve_424_e]
  refine br_f (by decide) (?_)
  refine yo_464 (t := t6) G6 (by omega) (by omega) (by rw [la6, k6 _ (by omega), s6, sl5]) (fun t' et' G' V' => h t' (yo_lift (by decide) (by decide) I (yo_F_tr F5 F6) (by omega) (by omega) (by rw [k6 _ (by omega)]; exact sr) et' G' V' (fun m hm q => ?_) (fun m r hm q => ?_)))
  · obtain ⟨v5, q6⟩ := e6 m hm
    obtain ⟨v0, _⟩ := e5 m v5
    refine ⟨v0, ?_⟩
    rw [sv_SR6]
    exact ⟨m (ty_n t + 2), q.trans q6⟩
  · rw [sv_SR6] at q
    obtain ⟨x, q⟩ := q
    obtain ⟨m5, v5, ag, a1, a2, a3, a4, a5⟩ := f5 m r 0 x 0 hm
    refine ⟨_, f6 m5 v5, fun i hi => ?_, ?_, ?_⟩
    · rw [sv_uo (by omega)]; exact ag i hi
    · rw [sv_us, a1, a3, q]
    · rw [sv_uo (by omega)]; exact a1
theorem yt_5 {t5 : sv_TY} (I : yo_I t op) (hn : ty_n t + 9 ≤ 320) (N : num < ty_n t ∧ yn_K t num = 1) (H5 : yo_5 t t5) (h : ∀ t', yo_S 5 t op t' op → J (nI op) (nI (i + 1)) (gy c t')) : pqY_solve_157 post J x2 x3 (nI num) (nI op) (nI i) (nI 5) (nI (ty_n t)) (nI (ty_n t + 1)) (nI (ty_n t + 2)) (nI (ty_n t + 3)) (nI (ty_n t + 4)) (nI (ty_n t)) (nI (ty_n t + 1)) (gy c t5) := by
  obtain ⟨G5, F5, n5, sr, ss, sx, sy, sq, e5, f5⟩ := H5
  have i2 := I.2.1
  have la5 : ty_la t5 = ty_la t := F5.2.2.2.1
  have sn : sv_rb (yn_K t5 num) = false := by rw [F5.2.1 _ N.1, N.2]; rfl
  have vn : ∀ m, yo_V t m → m num = sv_lf 1 := fun m hm => (hm num N.1).2.1 N.2
  have sl5 : sv_rb (yn_K t5 (ty_la t)) = true := by rw [F5.2.1 _ i2.1]; exact i2.2
  rw [pqY_solve_157_e]
  refine br_f (by decide) (?_)
  rw [pqY_solve_211_e]
  refine br_f (by decide) (?_)
  rw [pqY_solve_228_e]
  refine br_f (by decide) (br_f (by decide) (br_f (by decide) (?_)))
  rw [pqY_solve_271_e]
  refine br_t rfl ?_
  rw [pqY_solve_298_e]
  refine yo_cons (t := t5) (l := ty_n t + 2) (r := ty_n t) G5 (by omega) (by omega) (by omega) sx sr (fun t6 G6 F6 n6 s6 e6 f6 => ?_)
  rw [n5] at s6 e6 f6 n6 ⊢
  have k6 : ∀ i, i < ty_n t + 5 → yn_K t6 i = yn_K t5 i := fun i hi => F6.2.1 i (by omega)
  have la6 : ty_la t6 = ty_la t := F6.2.2.2.1.trans la5
  rw [pqY_solve_309_e]
  refine br_t rfl (yo_cons (t := t6) (l := ty_n t + 2) (r := ty_n t + 5) G6 (by omega) (by omega) (by omega) (by rw [k6 _ (by omega)]; exact sx) s6 (fun t7 G7 F7 n7 s7 e7 f7 => ?_))
  rw [n6] at s7 e7 f7 n7 ⊢
  have k7 : ∀ i, i < ty_n t + 5 + 1 → yn_K t7 i = yn_K t6 i := fun i hi => F7.2.1 i (by omega)
  have la7 : ty_la t7 = ty_la t := F7.2.2.2.1.trans la6
  rw [pqY_solve_326_e]
  refine br_f (by decide) (?_)
  rw [pqY_solve_337_e]
  refine br_f (by decide) (?_)
  rw [pqY_solve_377_e]
  refine br_f (by decide) (?_)
  rw [pqY_solve_395_e]
  refine br_f (by decide) (?_)
  rw [pqY_solve_424_e]
  refine br_f (by decide) (?_)
  refine yo_464 (t := t7) G7 (by omega) (by omega) (by rw [la7, k7 _ (by omega), k6 _ (by omega), k7 _ (by omega), s6, sl5]) (fun t' et' G' V' => h t' (yo_lift (by decide) (by decide) I (yo_F_tr F5 (yo_F_tr F6 F7)) (by omega) (by omega) s7 et' G' V' (fun m hm q => ?_) (fun m r hm q => ?_)))
  · obtain ⟨v6, q7⟩ := e7 m hm
    obtain ⟨v5, q6⟩ := e6 m v6
    obtain ⟨v0, _⟩ := e5 m v5
    refine ⟨v0, ?_⟩
    rw [sv_SR5]
    exact ⟨m (ty_n t), m (ty_n t + 2), q.trans q6, by rw [q7, q6]⟩
  · rw [sv_SR5] at q
    obtain ⟨p, x, q1, q2⟩ := q
    obtain ⟨m5, v5, ag, a1, a2, a3, a4, a5⟩ := f5 m p 0 x 0 hm
    have v7 := f7 _ (f6 m5 v5)
    refine ⟨_, v7, fun i hi => ?_, ?_, ?_⟩
    · rw [sv_uo (by omega), sv_uo (by omega)]; exact ag i hi
    · rw [sv_uo (by omega), sv_us, a1, a3, q1]
    · rw [sv_us, sv_us, sv_uo (by omega), a1, a3, q2]
theorem yt_7 {t5 : sv_TY} (I : yo_I t op) (hn : ty_n t + 9 ≤ 320) (N : num < ty_n t ∧ yn_K t num = 1) (H5 : yo_5 t t5) (h : ∀ t', yo_S 7 t op t' op → J (nI op) (nI (i + 1)) (gy c t')) : pqY_solve_157 post J x2 x3 (nI num) (nI op) (nI i) (nI 7) (nI (ty_n t)) (nI (ty_n t + 1)) (nI (ty_n t + 2)) (nI (ty_n t + 3)) (nI (ty_n t + 4)) (nI (ty_n t)) (nI (ty_n t + 1)) (gy c t5) := by
  obtain ⟨G5, F5, n5, sr, ss, sx, sy, sq, e5, f5⟩ := H5
  have i2 := I.2.1
  have la5 : ty_la t5 = ty_la t := F5.2.2.2.1
  have sn : sv_rb (yn_K t5 num) = false := by rw [F5.2.1 _ N.1, N.2]; rfl
  have vn : ∀ m, yo_V t m → m num = sv_lf 1 := fun m hm => (hm num N.1).2.1 N.2
  have sl5 : sv_rb (yn_K t5 (ty_la t)) = true := by rw [F5.2.1 _ i2.1]; exact i2.2
  rw [pqY_solve_157_e]
  refine br_f (by decide) (?_)
  rw [pqY_solve_211_e]
  refine br_f (by decide) (?_)
  rw [pqY_solve_228_e]
  refine br_f (by decide) (br_f (by decide) (br_f (by decide) (?_)))
  rw [pqY_solve_271_e]
  refine br_f (by decide) (br_f (by decide) (br_t rfl ?_))
  rw [pqY_solve_298_e]
  refine yo_cons (t := t5) (l := ty_n t + 2) (r := ty_n t) G5 (by omega) (by omega) (by omega) sx sr (fun t6 G6 F6 n6 s6 e6 f6 => ?_)
  rw [n5] at s6 e6 f6 n6 ⊢
  have k6 : ∀ i, i < ty_n t + 5 → yn_K t6 i = yn_K t5 i := fun i hi => F6.2.1 i (by omega)
  have la6 : ty_la t6 = ty_la t := F6.2.2.2.1.trans la5
  rw [pqY_solve_309_e]
  refine br_f (by decide) (?_)
  rw [pqY_solve_326_e]
  refine br_f (by decide) (?_)
  rw [pqY_solve_337_e]
  refine br_t rfl (yo_cons (t := t6) (l := ty_n t + 3) (r := ty_n t + 5) G6 (by omega) (by omega) (by omega) (by rw [k6 _ (by omega)]; exact sy) s6 (fun t7 G7 F7 n7 s7 e7 f7 => ?_))
  rw [n6] at s7 e7 f7 n7 ⊢
  have k7 : ∀ i, i < ty_n t + 5 + 1 → yn_K t7 i = yn_K t6 i := fun i hi => F7.2.1 i (by omega)
  refine yo_cons (t := t7) (l := ty_n t + 3) (r := ty_n t) G7 (by omega) (by omega) (by omega) (by rw [k7 _ (by omega), k6 _ (by omega)]; exact sy) (by rw [k7 _ (by omega), k6 _ (by omega)]; exact sr) (fun t8 G8 F8 n8 s8 e8 f8 => ?_)
  rw [n7] at s8 e8 f8 n8 ⊢
  have k8 : ∀ i, i < ty_n t + 5 + 1 + 1 → yn_K t8 i = yn_K t7 i := fun i hi => F8.2.1 i (by omega)
  refine yo_cons (t := t8) (l := ty_n t + 2) (r := ty_n t + 5 + 1 + 1) G8 (by omega) (by omega) (by omega) (by rw [k8 _ (by omega), k7 _ (by omega), k6 _ (by omega)]; exact sx) s8 (fun t9 G9 F9 n9 s9 e9 f9 => ?_)
  rw [n8] at s9 e9 f9 n9 ⊢
  have k9 : ∀ i, i < ty_n t + 5 + 1 + 1 + 1 → yn_K t9 i = yn_K t8 i := fun i hi => F9.2.1 i (by omega)
  have la9 : ty_la t9 = ty_la t := F9.2.2.2.1.trans (F8.2.2.2.1.trans (F7.2.2.2.1.trans la6))
  rw [pqY_solve_377_e]
  refine br_f (by decide) (?_)
  rw [pqY_solve_395_e]
  refine br_f (by decide) (?_)
  rw [pqY_solve_424_e]
  refine br_f (by decide) (?_)
  refine yo_464 (t := t9) G9 (by omega) (by omega) (by rw [la9, k9 _ (by omega), k8 _ (by omega), k7 _ (by omega), k6 _ (by omega), sl5, k9 _ (by omega), k8 _ (by omega), s7]) (fun t' et' G' V' => h t' (yo_lift (by decide) (by decide) I (yo_F_tr F5 (yo_F_tr F6 (yo_F_tr F7 (yo_F_tr F8 F9)))) (by omega) (by omega) s9 et' G' V' (fun m hm q => ?_) (fun m r hm q => ?_)))
  · obtain ⟨v8, q9⟩ := e9 m hm
    obtain ⟨v7, q8⟩ := e8 m v8
    obtain ⟨v6, q7⟩ := e7 m v7
    obtain ⟨v5, q6⟩ := e6 m v6
    obtain ⟨v0, _⟩ := e5 m v5
    refine ⟨v0, ?_⟩
    rw [sv_SR7]
    exact ⟨m (ty_n t), m (ty_n t + 3), m (ty_n t + 2), by rw [q, q7, q6], by rw [q9, q8]⟩
  · rw [sv_SR7] at q
    obtain ⟨p, x, y, q1, q2⟩ := q
    obtain ⟨m5, v5, ag, a1, a2, a3, a4, a5⟩ := f5 m p 0 y x hm
    have v9 := f9 _ (f8 _ (f7 _ (f6 m5 v5)))
    refine ⟨_, v9, fun i hi => ?_, ?_, ?_⟩
    · rw [sv_uo (by omega), sv_uo (by omega), sv_uo (by omega), sv_uo (by omega)]; exact ag i hi
    · rw [sv_uo (by omega), sv_uo (by omega), sv_us, sv_us, sv_uo (by omega), a1, a3, a4, q1]
    · rw [sv_us, sv_us, sv_uo (by omega), sv_uo (by omega), sv_uo (by omega), sv_uo (by omega), sv_uo (by omega), sv_uo (by omega), sv_uo (by omega), a1, a3, a4, q2]
theorem yt_11 {t5 : sv_TY} (I : yo_I t op) (hn : ty_n t + 9 ≤ 320) (N : num < ty_n t ∧ yn_K t num = 1) (H5 : yo_5 t t5) (h : ∀ t', yo_S 11 t op t' op → J (nI op) (nI (i + 1)) (gy c t')) : pqY_solve_157 post J x2 x3 (nI num) (nI op) (nI i) (nI 11) (nI (ty_n t)) (nI (ty_n t + 1)) (nI (ty_n t + 2)) (nI (ty_n t + 3)) (nI (ty_n t + 4)) (nI (ty_n t)) (nI (ty_n t + 1)) (gy c t5) := by
  obtain ⟨G5, F5, n5, sr, ss, sx, sy, sq, e5, f5⟩ := H5
  have i2 := I.2.1
  have la5 : ty_la t5 = ty_la t := F5.2.2.2.1
  have sn : sv_rb (yn_K t5 num) = false := by rw [F5.2.1 _ N.1, N.2]; rfl
  have vn : ∀ m, yo_V t m → m num = sv_lf 1 := fun m hm => (hm num N.1).2.1 N.2
  have sl5 : sv_rb (yn_K t5 (ty_la t)) = true := by rw [F5.2.1 _ i2.1]; exact i2.2
  rw [pqY_solve_157_e]
  refine br_f (by decide) (?_)
  rw [pqY_solve_211_e]
  refine br_f (by decide) (?_)
  rw [pqY_solve_228_e]
  refine br_f (by decide) (br_f (by decide) (br_f (by decide) (?_)))
  rw [pqY_solve_271_e]
  refine br_f (by decide) (br_f (by decide) (br_f (by decide) (br_f (by decide) (?_))))
  rw [pqY_solve_309_e]
  refine br_f (by decide) (?_)
  rw [pqY_solve_326_e]
  refine br_f (by decide) (?_)
  rw [pqY_solve_337_e]
  refine br_f (by decide) (?_)
  rw [pqY_solve_377_e]
  refine br_t rfl (yo_cons (t := t5) (l := ty_n t + 4) (r := ty_n t) G5 (by omega) (by omega) (by omega) sq sr (fun t6 G6 F6 n6 s6 e6 f6 => ?_))
  rw [n5] at s6 e6 f6 n6 ⊢
  have k6 : ∀ i, i < ty_n t + 5 → yn_K t6 i = yn_K t5 i := fun i hi => F6.2.1 i (by omega)
  have la6 : ty_la t6 = ty_la t := F6.2.2.2.1.trans la5
  rw [pqY_solve_395_e]
  refine br_f (by decide) (?_)
  rw [pqY_solve_424_e]
  refine br_f (by decide) (?_)
  refine yo_464 (t := t6) G6 (by omega) (by omega) (by rw [la6, k6 _ (by omega), s6, sl5]) (fun t' et' G' V' => h t' (yo_lift (by decide) (by decide) I (yo_F_tr F5 F6) (by omega) (by omega) (by rw [k6 _ (by omega)]; exact ss) et' G' V' (fun m hm q => ?_) (fun m r hm q => ?_)))
  · obtain ⟨v5, q6⟩ := e6 m hm
    obtain ⟨v0, q5⟩ := e5 m v5
    refine ⟨v0, ?_⟩
    rw [sv_SR11]
    exact ⟨m (ty_n t), by rw [q, q6, q5]⟩
  · rw [sv_SR11] at q
    obtain ⟨p, q⟩ := q
    obtain ⟨m5, v5, ag, a1, a2, a3, a4, a5⟩ := f5 m p r 0 0 hm
    refine ⟨_, f6 m5 v5, fun i hi => ?_, ?_, ?_⟩
    · rw [sv_uo (by omega)]; exact ag i hi
    · rw [sv_us, a1, a5, q]
    · rw [sv_uo (by omega)]; exact a2
theorem yt_12 {t5 : sv_TY} (I : yo_I t op) (hn : ty_n t + 9 ≤ 320) (N : num < ty_n t ∧ yn_K t num = 1) (H5 : yo_5 t t5) (h : ∀ t', yo_S 12 t op t' op → J (nI op) (nI (i + 1)) (gy c t')) : pqY_solve_157 post J x2 x3 (nI num) (nI op) (nI i) (nI 12) (nI (ty_n t)) (nI (ty_n t + 1)) (nI (ty_n t + 2)) (nI (ty_n t + 3)) (nI (ty_n t + 4)) (nI (ty_n t)) (nI (ty_n t + 1)) (gy c t5) := by
  obtain ⟨G5, F5, n5, sr, ss, sx, sy, sq, e5, f5⟩ := H5
  have i2 := I.2.1
  have la5 : ty_la t5 = ty_la t := F5.2.2.2.1
  have sn : sv_rb (yn_K t5 num) = false := by rw [F5.2.1 _ N.1, N.2]; rfl
  have vn : ∀ m, yo_V t m → m num = sv_lf 1 := fun m hm => (hm num N.1).2.1 N.2
  have sl5 : sv_rb (yn_K t5 (ty_la t)) = true := by rw [F5.2.1 _ i2.1]; exact i2.2
  rw [pqY_solve_157_e]
  refine br_f (by decide) (?_)
  rw [pqY_solve_211_e]
  refine br_f (by decide) (?_)
  rw [pqY_solve_228_e]
  refine br_f (by decide) (br_f (by decide) (br_f (by decide) (?_)))
  rw [pqY_solve_271_e]
  refine br_f (by decide) (br_f (by decide) (br_f (by decide) (br_t rfl ?_)))
  rw [pqY_solve_298_e]
  refine yo_cons (t := t5) (l := ty_n t + 2) (r := ty_n t) G5 (by omega) (by omega) (by omega) sx sr (fun t6 G6 F6 n6 s6 e6 f6 => ?_)
  rw [n5] at s6 e6 f6 n6 ⊢
  have k6 : ∀ i, i < ty_n t + 5 → yn_K t6 i = yn_K t5 i := fun i hi => F6.2.1 i (by omega)
  have la6 : ty_la t6 = ty_la t := F6.2.2.2.1.trans la5
  rw [pqY_solve_309_e]
  refine br_f (by decide) (?_)
  rw [pqY_solve_326_e]
  refine br_f (by decide) (?_)
  rw [pqY_solve_337_e]
  refine br_f (by decide) (?_)
  rw [pqY_solve_377_e]
  refine br_f (by decide) (?_)
  rw [pqY_solve_395_e]
  refine br_t rfl (yo_cons (t := t6) (l := ty_n t + 4) (r := ty_n t + 5) G6 (by omega) (by omega) (by omega) (by rw [k6 _ (by omega)]; exact sq) s6 (fun t7 G7 F7 n7 s7 e7 f7 => ?_))
  rw [n6] at s7 e7 f7 n7 ⊢
  have k7 : ∀ i, i < ty_n t + 5 + 1 → yn_K t7 i = yn_K t6 i := fun i hi => F7.2.1 i (by omega)
  refine yo_cons (t := t7) (l := ty_n t + 2) (r := ty_n t + 1) G7 (by omega) (by omega) (by omega) (by rw [k7 _ (by omega), k6 _ (by omega)]; exact sx) (by rw [k7 _ (by omega), k6 _ (by omega)]; exact ss) (fun t8 G8 F8 n8 s8 e8 f8 => ?_)
  rw [n7] at s8 e8 f8 n8 ⊢
  have k8 : ∀ i, i < ty_n t + 5 + 1 + 1 → yn_K t8 i = yn_K t7 i := fun i hi => F8.2.1 i (by omega)
  have la8 : ty_la t8 = ty_la t := F8.2.2.2.1.trans (F7.2.2.2.1.trans la6)
  rw [pqY_solve_424_e]
  refine br_f (by decide) (?_)
  refine yo_464 (t := t8) G8 (by omega) (by omega) (by rw [la8, k8 _ (by omega), k7 _ (by omega), k6 _ (by omega), sl5, k8 _ (by omega), s7]) (fun t' et' G' V' => h t' (yo_lift (by decide) (by decide) I (yo_F_tr F5 (yo_F_tr F6 (yo_F_tr F7 F8))) (by omega) (by omega) s8 et' G' V' (fun m hm q => ?_) (fun m r hm q => ?_)))
  · obtain ⟨v7, q8⟩ := e8 m hm
    obtain ⟨v6, q7⟩ := e7 m v7
    obtain ⟨v5, q6⟩ := e6 m v6
    obtain ⟨v0, q5⟩ := e5 m v5
    refine ⟨v0, ?_⟩
    rw [sv_SR12]
    exact ⟨m (ty_n t), m (ty_n t + 2), m (ty_n t + 1), by rw [q, q7, q6, q5], q8⟩
  · rw [sv_SR12] at q
    obtain ⟨p, y, z, q1, q2⟩ := q
    obtain ⟨m5, v5, ag, a1, a2, a3, a4, a5⟩ := f5 m p z y 0 hm
    have v8 := f8 _ (f7 _ (f6 m5 v5))
    refine ⟨_, v8, fun i hi => ?_, ?_, ?_⟩
    · rw [sv_uo (by omega), sv_uo (by omega), sv_uo (by omega)]; exact ag i hi
    · rw [sv_uo (by omega), sv_us, sv_us, sv_uo (by omega), a1, a3, a5, q1]
    · rw [sv_us, sv_uo (by omega), sv_uo (by omega), sv_uo (by omega), sv_uo (by omega), a2, a3, q2]
theorem yt_13 {t5 : sv_TY} (I : yo_I t op) (hn : ty_n t + 9 ≤ 320) (N : num < ty_n t ∧ yn_K t num = 1) (H5 : yo_5 t t5) (h : ∀ t', yo_S 13 t op t' op → J (nI op) (nI (i + 1)) (gy c t')) : pqY_solve_157 post J x2 x3 (nI num) (nI op) (nI i) (nI 13) (nI (ty_n t)) (nI (ty_n t + 1)) (nI (ty_n t + 2)) (nI (ty_n t + 3)) (nI (ty_n t + 4)) (nI (ty_n t)) (nI (ty_n t + 1)) (gy c t5) := by
  obtain ⟨G5, F5, n5, sr, ss, sx, sy, sq, e5, f5⟩ := H5
  have i2 := I.2.1
  have la5 : ty_la t5 = ty_la t := F5.2.2.2.1
  have sn : sv_rb (yn_K t5 num) = false := by rw [F5.2.1 _ N.1, N.2]; rfl
  have vn : ∀ m, yo_V t m → m num = sv_lf 1 := fun m hm => (hm num N.1).2.1 N.2
  have sl5 : sv_rb (yn_K t5 (ty_la t)) = true := by rw [F5.2.1 _ i2.1]; exact i2.2
  rw [pqY_solve_157_e]
  refine br_f (by decide) (?_)
  rw [pqY_solve_211_e]
  refine br_f (by decide) (?_)
  rw [pqY_solve_228_e]
  refine br_f (by decide) (br_f (by decide) (br_f (by decide) (?_)))
  rw [pqY_solve_271_e]
  refine br_f (by decide) (br_f (by decide) (br_f (by decide) (br_f (by decide) (?_))))
  rw [pqY_solve_309_e]
  refine br_f (by decide) (?_)
  rw [pqY_solve_326_e]
  refine br_f (by decide) (?_)
  rw [pqY_solve_337_e]
  refine br_f (by decide) (?_)
  rw [pqY_solve_377_e]
  refine br_f (by decide) (?_)
  rw [pqY_solve_395_e]
  refine br_f (by decide) (?_)
  rw [pqY_solve_424_e]
  refine br_t rfl (yo_cons (t := t5) (l := num) (r := ty_n t) G5 (by omega) (by omega) (by omega) sn sr (fun t6 G6 F6 n6 s6 e6 f6 => ?_))
  rw [n5] at s6 e6 f6 n6 ⊢
  have k6 : ∀ i, i < ty_n t + 5 → yn_K t6 i = yn_K t5 i := fun i hi => F6.2.1 i (by omega)
  have la6 : ty_la t6 = ty_la t := F6.2.2.2.1.trans la5
  refine yo_cons (t := t6) (l := ty_n t + 4) (r := ty_n t + 5) G6 (by omega) (by omega) (by omega) (by rw [k6 _ (by omega)]; exact sq) s6 (fun t7 G7 F7 n7 s7 e7 f7 => ?_)
  rw [n6] at s7 e7 f7 n7 ⊢
  have k7 : ∀ i, i < ty_n t + 5 + 1 → yn_K t7 i = yn_K t6 i := fun i hi => F7.2.1 i (by omega)
  refine yo_cons (t := t7) (l := ty_n t + 4) (r := ty_n t + 5 + 1) G7 (by omega) (by omega) (by omega) (by rw [k7 _ (by omega), k6 _ (by omega)]; exact sq) s7 (fun t8 G8 F8 n8 s8 e8 f8 => ?_)
  rw [n7] at s8 e8 f8 n8 ⊢
  have k8 : ∀ i, i < ty_n t + 5 + 1 + 1 → yn_K t8 i = yn_K t7 i := fun i hi => F8.2.1 i (by omega)
  have la8 : ty_la t8 = ty_la t := F8.2.2.2.1.trans (F7.2.2.2.1.trans la6)
  refine yo_464 (t := t8) G8 (by omega) (by omega) (by rw [la8, k8 _ (by omega), k7 _ (by omega), k6 _ (by omega), sl5, s8]) (fun t' et' G' V' => h t' (yo_lift (by decide) (by decide) I (yo_F_tr F5 (yo_F_tr F6 (yo_F_tr F7 F8))) (by omega) (by omega) (by rw [k8 _ (by omega), k7 _ (by omega), k6 _ (by omega)]; exact ss) et' G' V' (fun m hm q => ?_) (fun m r hm q => ?_)))
  · obtain ⟨v7, q8⟩ := e8 m hm
    obtain ⟨v6, q7⟩ := e7 m v7
    obtain ⟨v5, q6⟩ := e6 m v6
    obtain ⟨v0, q5⟩ := e5 m v5
    refine ⟨v0, ?_⟩
    rw [sv_SR13]
    exact ⟨m (ty_n t), by rw [q, q8, q7, q6, q5, vn m v0]⟩
  · rw [sv_SR13] at q
    obtain ⟨p, q⟩ := q
    obtain ⟨m5, v5, ag, a1, a2, a3, a4, a5⟩ := f5 m p r 0 0 hm
    have nn : m5 num = sv_lf 1 := (ag _ N.1).trans (vn m hm)
    have v8 := f8 _ (f7 _ (f6 m5 v5))
    refine ⟨_, v8, fun i hi => ?_, ?_, ?_⟩
    · rw [sv_uo (by omega), sv_uo (by omega), sv_uo (by omega)]; exact ag i hi
    · rw [sv_us, sv_us, sv_us, sv_uo (by omega), sv_uo (by omega), sv_uo (by omega), a1, a5, nn, q]
    · rw [sv_uo (by omega), sv_uo (by omega), sv_uo (by omega)]; exact a2
end
end
section
/-! the reference: brackets, and the list of tokens -/
section
variable {c : SY} {t : sv_TY} {post : Int32 → SY → Prop} {J : Int32 → Int32 → SY → Prop} {x2 x3 : Int32} {num op i : Nat}
def yo_ob (t : sv_TY) (o b : Nat → Nat) : sv_TY := (ty_n t, ty_fi t, ty_la t, ty_K t, ty_L t, ty_R t, ty_C t, ty_E t, ty_S t, ty_F t, o, b)
theorem yo_ob_st {o b : Nat → Nat} : ys_outer_begin (gy c t) (sv_na o) (sv_na b) = gy c (yo_ob t o b) := rfl
theorem yt_3 {t5 : sv_TY} (I : yo_I t op) (hn : ty_n t + 9 ≤ 320) (ho : op < 32) (H5 : yo_5 t t5) (h : ∀ t', yo_S 3 t op t' (op + 1) → J (nI (op + 1)) (nI (i + 1)) (gy c t')) : pqY_solve_157 post J x2 x3 (nI num) (nI (op + 1)) (nI i) (nI 3) (nI (ty_n t)) (nI (ty_n t + 1)) (nI (ty_n t + 2)) (nI (ty_n t + 3)) (nI (ty_n t + 4)) (nI (ty_la t5)) (nI (ty_n t)) (gy c (yo_ob t5 (sv_un (ty_o t5) op (ty_la t5)) (sv_un (ty_b t5) op (ty_n t)))) := by
  obtain ⟨G5, F5, n5, sr, ss, sx, sy, sq, e5, f5⟩ := H5
  obtain ⟨a1, a2, a3, a4, a5, a6⟩ := id F5
  obtain ⟨i1, i2, i3, i4, i5⟩ := id I
  rw [pqY_solve_157_e]
  refine br_f (by decide) (?_)
  rw [pqY_solve_211_e]
  refine br_f (by decide) (?_)
  rw [pqY_solve_228_e]
  refine br_f (by decide) (br_f (by decide) (br_f (by decide) (?_)))
  rw [pqY_solve_271_e]
  refine br_f (by decide) (br_f (by decide) (br_f (by decide) (br_f (by decide) (?_))))
  rw [pqY_solve_309_e]
  refine br_f (by decide) (?_)
  rw [pqY_solve_326_e]
  refine br_f (by decide) (?_)
  rw [pqY_solve_337_e]
  refine br_f (by decide) (?_)
  rw [pqY_solve_377_e]
  refine br_f (by decide) (?_)
  rw [pqY_solve_395_e]
  refine br_f (by decide) (?_)
  rw [pqY_solve_424_e]
  refine br_f (by decide) (?_)
  have la5 : ty_la (yo_ob t5 (sv_un (ty_o t5) op (ty_la t5)) (sv_un (ty_b t5) op (ty_n t))) = ty_la t := a4
  rw [← show ty_la (yo_ob t5 (sv_un (ty_o t5) op (ty_la t5)) (sv_un (ty_b t5) op (ty_n t))) = ty_la t5 from rfl]
  refine yo_464 (t := yo_ob t5 (sv_un (ty_o t5) op (ty_la t5)) (sv_un (ty_b t5) op (ty_n t))) G5 (by rw [la5]; show ty_la t < ty_n t5; omega) (by rw [la5]; show ty_la t < ty_n t5; omega) rfl (fun t' et' G' V' => h t' ?_)
  have n' : ty_n t' = ty_n t + 5 := by rw [et']; exact n5
  have K' : yn_K t' = yn_K t5 := by rw [et']; rfl
  have la' : ty_la t' = ty_n t := by rw [et']; rfl
  have fi' : ty_fi t' = ty_fi t := by rw [et']; exact a3
  have o' : ty_o t' = sv_un (ty_o t) op (ty_la t) := by rw [et']; show sv_un (ty_o t5) op (ty_la t5) = _; rw [a5, a4]
  have b' : ty_b t' = sv_un (ty_b t) op (ty_n t) := by rw [et']; show sv_un (ty_b t5) op (ty_n t) = _; rw [a6]
  have VV : ∀ m, yo_V t' m ↔ yo_V t5 m := fun m => ⟨fun z => ((V' m).mp z).1, fun z => (V' m).mpr ⟨z, rfl⟩⟩
  have bgo : ∀ k, k ≤ op → yo_bg t' k = yo_bg t k := fun k hk => by
    unfold yo_bg; rw [fi', b']
    by_cases e : k = 0
    · rw [if_pos e, if_pos e]
    · rw [if_neg e, if_neg e, sv_uo (by omega)]
  have bgn : yo_bg t' (op + 1) = ty_n t := by
    unfold yo_bg; rw [b', if_neg (by omega)]; exact sv_us
  have stk : ∀ m m' : Nat → Nat, (∀ i, i < ty_n t → m' i = m i) → sv_stk m' (ty_o t') (yo_bg t') (op + 1) = (m (ty_la t), m (yo_bg t op)) :: sv_stk m (ty_o t) (yo_bg t) op := by
    intro m m' ag
    show (m' (ty_o t' op), m' (yo_bg t' op)) :: sv_stk m' (ty_o t') (yo_bg t') op = _
    rw [bgo op (Nat.le_refl op), o', sv_us, ag _ i2.1, ag _ (yo_bg_ok I (Nat.le_refl op)).1, sv_stk_congr (m := m) (oR := ty_o t) (oS := yo_bg t) op (fun j hj => ?_)]
    rw [sv_uo (by omega), bgo j (by omega)]
    exact ⟨ag _ (i5 j hj).1, ag _ (yo_bg_ok I (by omega)).1⟩
  refine ⟨⟨G', ?_, ?_, by omega, fun k hk => ?_⟩, by omega, by omega, fun i hi => by rw [K']; exact a2 i hi, fi', fun m hm => ?_, fun m w hm hS => ?_⟩
  · rw [la', n', K']; exact ⟨by omega, sr⟩
  · rw [fi', n', K', a2 _ i3.1]; exact ⟨by omega, i3.2⟩
  · rw [o', b', n', K']
    by_cases e : k = op
    · rw [e, sv_us, sv_us, a2 _ i2.1]; exact ⟨by omega, i2.2, by omega, sr⟩
    · obtain ⟨q1, q2, q3, q4⟩ := i5 k (by omega)
      rw [sv_uo e, sv_uo e, a2 _ q1, a2 _ q3]; exact ⟨by omega, q2, by omega, q4⟩
  · refine ⟨(e5 m ((VV m).mp hm)).1, ?_⟩
    rw [sv_St3]
    refine ⟨?_, stk m m (fun _ _ => rfl)⟩
    show m (ty_la t') = m (yo_bg t' (op + 1))
    rw [la', bgn]
  · rw [sv_St3] at hS
    obtain ⟨w1, w2⟩ := hS
    obtain ⟨m5, v5, ag, b1, b2, b3, b4, b5⟩ := f5 m w.1 0 0 0 hm
    refine ⟨m5, (VV m5).mpr v5, ag, ?_⟩
    show (m5 (ty_la t'), m5 (yo_bg t' (op + 1)), sv_stk m5 (ty_o t') (yo_bg t') (op + 1)) = w
    rw [stk m m5 ag, la', bgn, b1]
    have w2 : w.2.2 = (m (ty_la t), m (yo_bg t op)) :: sv_stk m (ty_o t) (yo_bg t) op := w2
    rw [← w2]
    exact Prod.ext rfl (Prod.ext w1 rfl)
theorem yt_4 {t5 : sv_TY} (I : yo_I t (op + 1)) (hn : ty_n t + 9 ≤ 320) (H5 : yo_5 t t5) (h : ∀ t', yo_S 4 t (op + 1) t' op → J (nI op) (nI (i + 1)) (gy c t')) : pqY_solve_157 post J x2 x3 (nI num) (nI (op + 1)) (nI i) (nI 4) (nI (ty_n t)) (nI (ty_n t + 1)) (nI (ty_n t + 2)) (nI (ty_n t + 3)) (nI (ty_n t + 4)) (nI (ty_n t)) (nI (ty_n t + 1)) (gy c t5) := by
  obtain ⟨G5, F5, n5, sr, ss, sx, sy, sq, e5, f5⟩ := H5
  obtain ⟨a1, a2, a3, a4, a5, a6⟩ := id F5
  obtain ⟨i1, i2, i3, i4, i5⟩ := id I
  obtain ⟨p1, p2, p3, p4⟩ := i5 op (by omega)
  have hi : vp_in (nI op) 32 := vp_in_nI (by omega) (by omega)
  rw [pqY_solve_157_e, gy_begin, gy_last]
  refine br_t rfl (br_f (nI_nle (by omega) (by omega)) (nm_r (pk_m1 op) ⟨hi, ?_⟩))
  rw [sv_naA (by omega), a6, a4]
  refine yo_quot (t := t5) (l := ty_b t op) (r := ty_la t) G5 (by omega) (by omega) (by omega) (by rw [a2 _ p3]; exact p4) (by rw [a2 _ i2.1]; exact i2.2) (fun t6 G6 F6 n6 s6 e6 f6 => ⟨hi, ?_⟩)
  rw [n5] at s6 e6 f6 n6 ⊢
  have k6 : ∀ i, i < ty_n t + 5 → yn_K t6 i = yn_K t5 i := fun i hi => F6.2.1 i (by omega)
  have o6 : ty_o t6 = ty_o t := F6.2.2.2.2.1.trans a5
  rw [gy_outer, sv_naA (by omega), o6]
  refine yo_cons (t := t6) (l := ty_n t + 5) (r := ty_o t op) G6 (by omega) (by omega) (by omega) s6 (by rw [k6 _ (by omega), a2 _ p1]; exact p2) (fun t7 G7 F7 n7 s7 e7 f7 => ?_)
  rw [n6] at s7 e7 f7 n7 ⊢
  have k7 : ∀ i, i < ty_n t + 5 + 1 → yn_K t7 i = yn_K t6 i := fun i hi => F7.2.1 i (by omega)
  have F : yo_F t t7 := yo_F_tr F5 (yo_F_tr F6 F7)
  obtain ⟨c1, c2, c3, c4, c5, c6⟩ := id F
  rw [pqY_solve_211_e]
  refine br_f (by decide) (?_)
  rw [pqY_solve_228_e]
  refine br_f (by decide) (br_f (by decide) (br_f (by decide) (?_)))
  rw [pqY_solve_271_e]
  refine br_f (by decide) (br_f (by decide) (br_f (by decide) (br_f (by decide) (?_))))
  rw [pqY_solve_309_e]
  refine br_f (by decide) (?_)
  rw [pqY_solve_326_e]
  refine br_f (by decide) (?_)
  rw [pqY_solve_337_e]
  refine br_f (by decide) (?_)
  rw [pqY_solve_377_e]
  refine br_f (by decide) (?_)
  rw [pqY_solve_395_e]
  refine br_f (by decide) (?_)
  rw [pqY_solve_424_e]
  refine br_f (by decide) (?_)
  rw [← c4]
  refine yo_464 (t := t7) G7 (by omega) (by omega) rfl (fun t' et' G' V' => h t' ?_)
  have n' : ty_n t' = ty_n t + 7 := by rw [et']; exact n7
  have K' : yn_K t' = yn_K t7 := by rw [et']; rfl
  have la' : ty_la t' = ty_n t + 5 + 1 := by rw [et']; rfl
  have fi' : ty_fi t' = ty_fi t := by rw [et']; exact c3
  have o' : ty_o t' = ty_o t := by rw [et']; exact c5
  have b' : ty_b t' = ty_b t := by rw [et']; exact c6
  have VV : ∀ m, yo_V t' m ↔ yo_V t7 m := fun m => ⟨fun z => ((V' m).mp z).1, fun z => (V' m).mpr ⟨z, rfl⟩⟩
  have bgo : ∀ k, yo_bg t' k = yo_bg t k := fun k => by unfold yo_bg; rw [fi', b']
  have bo := yo_bg_ok I (show op ≤ op + 1 by omega)
  have bn : yo_bg t (op + 1) = ty_b t op := by unfold yo_bg; rw [if_neg (by omega)]; rfl
  have stk : ∀ m m' : Nat → Nat, (∀ i, i < ty_n t → m' i = m i) → sv_stk m' (ty_o t') (yo_bg t') op = sv_stk m (ty_o t) (yo_bg t) op := by
    intro m m' ag
    refine sv_stk_congr _ (fun j hj => ?_)
    rw [o', bgo]
    exact ⟨ag _ (i5 j (by omega)).1, ag _ (yo_bg_ok I (by omega)).1⟩
  refine ⟨⟨G', ?_, ?_, by omega, fun k hk => ?_⟩, by omega, by omega, fun i hi => by rw [K']; exact c2 i hi, fi', fun m hm => ?_, fun m w hm hS => ?_⟩
  · rw [la', n', K']; exact ⟨by omega, s7⟩
  · rw [fi', n', K', c2 _ i3.1]; exact ⟨by omega, i3.2⟩
  · obtain ⟨q1, q2, q3, q4⟩ := i5 k (by omega)
    rw [o', b', n', K', c2 _ q1, c2 _ q3]; exact ⟨by omega, q2, by omega, q4⟩
  · obtain ⟨v6, q7⟩ := e7 m ((VV m).mp hm)
    obtain ⟨v5, q6⟩ := e6 m v6
    refine ⟨(e5 m v5).1, ?_⟩
    rw [sv_St4]
    refine ⟨m (ty_o t op), ?_, ?_⟩
    · show (m (ty_o t op), m (yo_bg t op)) :: sv_stk m (ty_o t) (yo_bg t) op = (m (ty_o t op), m (yo_bg t' op)) :: sv_stk m (ty_o t') (yo_bg t') op
      rw [stk m m (fun _ _ => rfl), bgo]
    · show m (ty_la t') = sv_nd 5 (m (ty_o t op)) (sv_nd 2 (m (yo_bg t (op + 1))) (m (ty_la t)))
      rw [la', q7, q6, bn]
  · rw [sv_St4] at hS
    obtain ⟨r0, w1, w2⟩ := hS
    have w1 : (m (ty_o t op), m (yo_bg t op)) :: sv_stk m (ty_o t) (yo_bg t) op = (r0, w.2.1) :: w.2.2 := w1
    injection w1 with w3 w4
    injection w3 with w5 w6
    obtain ⟨m5, v5, ag, b1, b2, b3, b4, b5⟩ := f5 m 0 0 0 0 hm
    have v7 := f7 _ (f6 m5 v5)
    have ag' : ∀ i, i < ty_n t → sv_un (sv_un m5 (ty_n t + 5) (sv_nd 2 (m5 (ty_b t op)) (m5 (ty_la t)))) (ty_n t + 5 + 1) (sv_nd 5 (sv_un m5 (ty_n t + 5) (sv_nd 2 (m5 (ty_b t op)) (m5 (ty_la t))) (ty_o t op)) (sv_un m5 (ty_n t + 5) (sv_nd 2 (m5 (ty_b t op)) (m5 (ty_la t))) (ty_n t + 5))) i = m i := fun i hi => by
      rw [sv_uo (by omega), sv_uo (by omega)]; exact ag i hi
    refine ⟨_, (VV _).mpr v7, ag', ?_⟩
    unfold yo_vw
    rw [stk m _ ag', la', bgo, ag' _ bo.1, sv_us, sv_us, sv_uo (by omega), ag _ p1, ag _ p3, ag _ i2.1, w4, w6, w5]
    have w2 : w.1 = sv_nd 5 r0 (sv_nd 2 (m (yo_bg t (op + 1))) (m (ty_la t))) := w2
    rw [bn] at w2
    rw [← w2]
/-- the list -/
def yl_L (ls : Nat → Nat) : Nat → Nat → List Nat
  | _, 0 => []
  | i, m + 1 => ls i :: yl_L ls (i + 1) m
def yo_SL (L : List Nat) (t : sv_TY) (op : Nat) (t' : sv_TY) (op' : Nat) : Prop := yo_I t' op' ∧ ty_n t ≤ ty_n t' ∧ (∀ i, i < ty_n t → yn_K t' i = yn_K t i) ∧ ty_fi t' = ty_fi t ∧ op' = sv_dp op L ∧
  (∀ m, yo_V t' m → yo_V t m ∧ sv_rn L (yo_vw m t op) (yo_vw m t' op')) ∧
  (∀ m w, yo_V t m → sv_rn L (yo_vw m t op) w → ∃ m', yo_V t' m' ∧ (∀ i, i < ty_n t → m' i = m i) ∧ yo_vw m' t' op' = w)
theorem yo_SL_nil (I : yo_I t op) : yo_SL [] t op t op := ⟨I, Nat.le_refl _, fun _ _ => rfl, rfl, rfl, fun m hm => ⟨hm, rfl⟩, fun m w hm e => ⟨m, hm, fun _ _ => rfl, e⟩⟩
theorem yo_SL_cons {k : Nat} {l : List Nat} {t1 t' : sv_TY} {op1 op' : Nat} (h : yo_S k t op t1 op1) (e1 : op1 = (if k = 3 then op + 1 else if k = 4 then op - 1 else op)) (h' : yo_SL l t1 op1 t' op') : yo_SL (k :: l) t op t' op' := by
  obtain ⟨a1, a2, a3, a4, a5, a6, a7⟩ := h
  obtain ⟨b1, b2, b3, b4, b5, b6, b7⟩ := h'
  refine ⟨b1, by omega, fun i hi => (b3 i (by omega)).trans (a4 i hi), b4.trans a5, by rw [b5, e1]; rfl, fun m hm => ?_, fun m w hm e => ?_⟩
  · obtain ⟨v1, q1⟩ := b6 m hm
    obtain ⟨v0, q0⟩ := a6 m v1
    exact ⟨v0, _, q0, q1⟩
  · obtain ⟨x, e2, e3⟩ := e
    obtain ⟨m1, v1, ag1, q1⟩ := a7 m x hm e2
    rw [← q1] at e3
    obtain ⟨m2, v2, ag2, q2⟩ := b7 m1 w v1 e3
    exact ⟨m2, v2, fun i hi => (ag2 i (by omega)).trans (ag1 i hi), q2⟩
theorem ys_loop {ls : Nat → Nat} {len : Nat} (hls : yq_list c = sv_na ls) (hlen : yq_listSize c = nI len) (hl : len ≤ 32) :
    ∀ (m N : Nat) (t : sv_TY) (op i : Nat), i + m = len → m < N → yo_I t op → (num < ty_n t ∧ yn_K t num = 1) → ty_n t + 9 * m ≤ 320 → op + m ≤ 32 → (∀ j, i ≤ j → j < len → 1 ≤ ls j ∧ ls j ≤ 13 ∧ ls j ≠ 2) → sv_ok op (yl_L ls i m) →
      (∀ t' op', yo_SL (yl_L ls i m) t op t' op' → ∃ N', lqY_solve_490 post 0 N' 1 0 (gy c t')) → lqY_solve_43 post 1 0 (nI num) N (nI op) (nI i) (gy c t) := by
  intro m
  induction m with
  | zero =>
    intro N t op i hm hN I _ _ _ _ _ h
    cases N with
    | zero => omega
    | succ N =>
      rw [lqY_solve_43_s, gy_listSize, hlen]
      exact br_t (nI_le (by omega) (by omega)) (h t op (yo_SL_nil I))
  | succ m ih =>
    intro N t op i hm hN I hnum hn hop hk hok h
    cases N with
    | zero => omega
    | succ N =>
      rw [lqY_solve_43_s, gy_listSize, hlen, gy_list, hls]
      refine br_f (nI_ge (by omega) (by omega)) ⟨vp_in_nI (by omega) (by omega), nm_r (sv_naA (by omega)) ?_⟩
      obtain ⟨k1, k2, k3⟩ := hk i (Nat.le_refl i) (by omega)
      have go : ∀ t1 op1, yo_S (ls i) t op t1 op1 → op1 = (if ls i = 3 then op + 1 else if ls i = 4 then op - 1 else op) → lqY_solve_43 post 1 0 (nI num) N (nI op1) (nI (i + 1)) (gy c t1) := by
        intro t1 op1 S1 e1
        have S1' := S1
        obtain ⟨a1, a2, a3, a4, a5, a6, a7⟩ := S1
        have hok : (if ls i = 3 then sv_ok (op + 1) (yl_L ls (i + 1) m) else if ls i = 4 then 0 < op ∧ sv_ok (op - 1) (yl_L ls (i + 1) m) else sv_ok op (yl_L ls (i + 1) m)) := hok
        refine ih N t1 op1 (i + 1) (by omega) (by omega) a1 ⟨by omega, (a4 _ hnum.1).trans hnum.2⟩ (by omega) ?_ (fun j j1 j2 => hk j (by omega) j2) ?_ (fun t' op' S' => h t' op' (yo_SL_cons S1' e1 S'))
        · rw [e1]
          by_cases e3 : ls i = 3
          · rw [if_pos e3]; omega
          · by_cases e4 : ls i = 4
            · rw [if_neg e3, if_pos e4]; omega
            · rw [if_neg e3, if_neg e4]; omega
        · rw [e1]
          by_cases e3 : ls i = 3
          · rw [if_pos e3] at hok ⊢; exact hok
          · by_cases e4 : ls i = 4
            · rw [if_neg e3, if_pos e4] at hok ⊢; exact hok.2
            · rw [if_neg e3, if_neg e4] at hok ⊢; exact hok
      refine yo_five (c := c) (t := t) I.1 (by omega) (post := fun r s x y q u5 => ((nI (ls i) = 3 → (vp_in (nI op) 32 ∧ ∀ a_outer_1134 : Nat → Int32, a_outer_1134 = upd (yq_outer u5) (nI op).toNatClampNeg (yq_last u5) → (∀ x5_1135 : Int32, x5_1135 = nI op + 1 → (vp_in (nI op) 32 ∧ ∀ a_begin_1137 : Nat → Int32, a_begin_1137 = upd (yq_begin u5) (nI op).toNatClampNeg r → (pqY_solve_157 post (lqY_solve_43 post 1 0 (nI num) N) 1 0 (nI num) x5_1135 (nI i) (nI (ls i)) r s x y q (yq_last u5) r (ys_outer_begin u5 a_outer_1134 a_begin_1137)))))) ∧ (¬ nI (ls i) = 3 → (pqY_solve_157 post (lqY_solve_43 post 1 0 (nI num) N) 1 0 (nI num) (nI op) (nI i) (nI (ls i)) r s x y q r s u5)))) (fun t5 H5 => ?_)
      by_cases e3 : ls i = 3
      · have hi : vp_in (nI op) 32 := vp_in_nI (by omega) (by omega)
        rw [e3]
        refine br_t rfl ⟨hi, ?_⟩
        rw [gy_outer, gy_last, gy_begin, sv_naU (by omega), sv_naU (by omega)]
        refine nm_e (nm_r (nI_1 op) ⟨hi, nm_e ?_⟩)
        rw [yo_ob_st]
        refine yt_3 I (by omega) (by omega) H5 (fun t' S => go t' (op + 1) (by rw [e3]; exact S) (by rw [if_pos e3]))
      · refine br_f (show ¬ nI (ls i) = nI 3 by rw [nI_eq (by omega) (by omega)]; exact e3) ?_
        by_cases e4 : ls i = 4
        · have hok : (if ls i = 3 then sv_ok (op + 1) (yl_L ls (i + 1) m) else if ls i = 4 then 0 < op ∧ sv_ok (op - 1) (yl_L ls (i + 1) m) else sv_ok op (yl_L ls (i + 1) m)) := hok
          rw [if_neg e3, if_pos e4] at hok
          obtain ⟨op0, ho⟩ : ∃ o, op = o + 1 := ⟨op - 1, by omega⟩
          subst ho
          rw [e4]
          exact yt_4 I (by omega) H5 (fun t' S => go t' op0 (by rw [e4]; exact S) (by rw [if_neg e3, if_pos e4]; rfl))
        · have go' : ∀ t1, yo_S (ls i) t op t1 op → lqY_solve_43 post 1 0 (nI num) N (nI op) (nI (i + 1)) (gy c t1) := fun t1 S => go t1 op S (by rw [if_neg e3, if_neg e4])
          rcases (show ls i = 1 ∨ ls i = 5 ∨ ls i = 6 ∨ ls i = 7 ∨ ls i = 8 ∨ ls i = 9 ∨ ls i = 10 ∨ ls i = 11 ∨ ls i = 12 ∨ ls i = 13 by omega) with e | e | e | e | e | e | e | e | e | e <;> rw [e] at go' ⊢
          · exact yt_1 I (by omega) hnum H5 go'
          · exact yt_5 I (by omega) hnum H5 go'
          · exact yt_6 I (by omega) hnum H5 go'
          · exact yt_7 I (by omega) hnum H5 go'
          · exact yt_8 I (by omega) hnum H5 go'
          · exact yt_9 I (by omega) hnum H5 go'
          · exact yt_10 I (by omega) hnum H5 go'
          · exact yt_11 I (by omega) hnum H5 go'
          · exact yt_12 I (by omega) hnum H5 go'
          · exact yt_13 I (by omega) hnum H5 go'
end
end
section
/-! the reference: equal terms have equal parts -/
section
variable {c : SY} {t : sv_TY} {post : Int32 → SY → Prop}
def yc_b (k : Nat) : Prop := k ≠ 3 ∧ k ≠ 6
theorem yo_built1 {p : Int32 → Prop} {i : Nat} {u : SY} {K : Nat → Nat} (hu : yq_nodeKind u = sv_na K) (hi : i < 320) (hk : K i ≤ 6) (b : yc_b (K i)) (h : p 1) : wpY_built p u (nI i) := by
  rw [we_Y_built, hu, sv_naA (by omega)]
  have hb : vp_in (nI i) 320 := vp_in_nI hi (by omega)
  exact ⟨hb, pk_eq (K i) 3 (fun z => absurd z b.1) (fun _ => ⟨hb, pk_eq (K i) 6 (fun z => absurd z b.2) (fun _ => h) rfl rfl (by omega) (by omega)⟩) rfl rfl (by omega) (by omega)⟩
theorem yo_built0 {p : Int32 → Prop} {i : Nat} {u : SY} {K : Nat → Nat} (hu : yq_nodeKind u = sv_na K) (hi : i < 320) (hk : K i ≤ 6) (b : ¬ yc_b (K i)) (h : p 0) : wpY_built p u (nI i) := by
  rw [we_Y_built, hu, sv_naA (by omega)]
  have hb : vp_in (nI i) 320 := vp_in_nI hi (by omega)
  refine ⟨hb, pk_eq (K i) 3 (fun _ => h) (fun z => ⟨hb, pk_eq (K i) 6 (fun _ => h) (fun z2 => ?_) rfl rfl (by omega) (by omega)⟩) rfl rfl (by omega) (by omega)⟩
  exact absurd ⟨z, z2⟩ b
def yc_cl (t : sv_TY) (C : Nat → Nat) : Prop := ∃ i j, i < ty_n t ∧ j < ty_n t ∧ C i = C j ∧ yc_b (ty_K t i) ∧ yc_b (ty_K t j) ∧ ty_K t i ≠ ty_K t j
def yc_I (t : sv_TY) (C : Nat → Nat) : Prop := (∀ i, i < ty_n t → C i < ty_n t ∧ C (C i) = C i) ∧ (yc_cl t C ∨ ∀ i, i < ty_n t → sv_rb (yn_K t (C i)) = sv_rb (yn_K t i)) ∧ (∀ f, sv_ff (ty_n t) C f → sv_ff (ty_n t) (ty_C t) f) ∧ (∀ m, yo_V t m → sv_ff (ty_n t) C m)
def yc_cp (t : sv_TY) (C : Nat → Nat) (i j : Nat) : Prop := yc_b (ty_K t i) → yc_b (ty_K t j) → C i = C j → C (ty_L t i) = C (ty_L t j) ∧ C (ty_R t i) = C (ty_R t j)
theorem yc_kinj {k k' : Nat} (h : 1 ≤ k ∧ k ≤ 6) (h' : 1 ≤ k' ∧ k' ≤ 6) (b : yc_b k) (b' : yc_b k') : (yn_k k = yn_k k' ↔ k = k') ∧ yn_k k ≠ 100 ∧ yn_k k ≠ 200 := by
  obtain ⟨b1, b2⟩ := b
  obtain ⟨b3, b4⟩ := b'
  rcases (show k = 1 ∨ k = 2 ∨ k = 4 ∨ k = 5 by omega) with rfl | rfl | rfl | rfl <;> rcases (show k' = 1 ∨ k' = 2 ∨ k' = 4 ∨ k' = 5 by omega) with rfl | rfl | rfl | rfl <;> decide
/-- two terms of one class and one value -/
theorem yc_val (G : yo_G t) {C m : Nat → Nat} (hm : yo_V t m) (hf : sv_ff (ty_n t) C m) {i j : Nat} (hi : i < ty_n t) (hj : j < ty_n t) (b : yc_b (ty_K t i)) (b' : yc_b (ty_K t j)) (e : C i = C j) : ty_K t i = ty_K t j ∧ m (ty_L t i) = m (ty_L t j) ∧ m (ty_R t i) = m (ty_R t j) := by
  obtain ⟨g1, g2, g3, g4, g5⟩ := G
  have me : m i = m j := by rw [hf i hi, hf j hj, e]
  have n1 := (hm i hi).2
  have n2 := (hm j hj).2
  rw [me] at n1
  obtain ⟨a1, a2, a3, a4, a5⟩ := g2 i hi
  obtain ⟨b1, b2, b3, b4, b5⟩ := g2 j hj
  have kk := yc_kinj ⟨a1, a2⟩ ⟨b1, b2⟩ b b'
  have kk' := yc_kinj ⟨b1, b2⟩ ⟨a1, a2⟩ b' b
  have q := sv_ns_eq n1 n2 (g3 i hi).1 (g3 j hj).1 kk.2 kk'.2
  have ek : ty_K t i = ty_K t j := kk.1.mp q.1
  refine ⟨ek, ?_⟩
  by_cases h4 : ty_K t i = 4
  · have c5 : yn_K t i = 5 := by show yn_k (ty_K t i) = 5; rw [h4]; rfl
    have p := q.2 (Or.inr c5)
    have e1 : yn_A t i = ty_R t i := if_pos h4
    have e2 : yn_A t j = ty_R t j := if_pos (by omega)
    have e3 : yn_B t i = ty_L t i := if_pos h4
    have e4 : yn_B t j = ty_L t j := if_pos (by omega)
    rw [e1, e2, e3, e4] at p
    exact ⟨p.2, p.1⟩
  · by_cases h2 : ty_K t i = 2
    · have c2 : yn_K t i = 2 := by show yn_k (ty_K t i) = 2; rw [h2]; rfl
      have p := q.2 (Or.inl c2)
      have e1 : yn_A t i = ty_L t i := if_neg h4
      have e2 : yn_A t j = ty_L t j := if_neg (by omega)
      have e3 : yn_B t i = ty_R t i := if_neg h4
      have e4 : yn_B t j = ty_R t j := if_neg (by omega)
      rw [e1, e2, e3, e4] at p
      exact p
    · rw [(a5 h2 h4).1, (a5 h2 h4).2, (b5 (by omega) (by omega)).1, (b5 (by omega) (by omega)).2]
      exact ⟨rfl, rfl⟩
/-- one equation of parts keeps the invariant -/
theorem yc_step (G : yo_G t) {C : Nat → Nat} (I : yc_I t C) {i j a b : Nat} (hi : i < ty_n t) (hj : j < ty_n t) (bi : yc_b (ty_K t i)) (bj : yc_b (ty_K t j)) (e : C i = C j) (hab : (a = ty_L t i ∧ b = ty_L t j) ∨ (a = ty_R t i ∧ b = ty_R t j)) : a < ty_n t ∧ b < ty_n t ∧ yc_I t (yo_eq (ty_n t) C (C b) (C a)) := by
  obtain ⟨g1, g2, g3, g4, g5⟩ := id G
  obtain ⟨c1, c2, c3, c4⟩ := I
  obtain ⟨p1, p2, p3, p4, p5⟩ := g2 i hi
  obtain ⟨q1, q2, q3, q4, q5⟩ := g2 j hj
  have ha : a < ty_n t := by rcases hab with ⟨z, _⟩ | ⟨z, _⟩ <;> rw [z] <;> assumption
  have hb : b < ty_n t := by rcases hab with ⟨_, z⟩ | ⟨_, z⟩ <;> rw [z] <;> assumption
  refine ⟨ha, hb, yo_eq_C ha hb c1, ?_, fun f hf => c3 f ((yo_eq_ff ha hb c1 f).mp hf).1, fun m hm => ?_⟩
  · rcases c2 with ⟨i', j', z1, z2, z3, z4, z5, z6⟩ | c2
    · exact Or.inl ⟨i', j', z1, z2, yo_eq_mono z1 z2 z3, z4, z5, z6⟩
    · by_cases ek : ty_K t i = ty_K t j
      · right
        have sab : sv_rb (yn_K t a) = sv_rb (yn_K t b) := by
          have wi := g3 i hi
          have wj := g3 j hj
          by_cases h4 : ty_K t i = 4
          · have c5 : yn_K t i = 5 := by show yn_k (ty_K t i) = 5; rw [h4]; rfl
            have c5' : yn_K t j = 5 := by show yn_k (ty_K t j) = 5; rw [← ek, h4]; rfl
            have e1 : yn_A t i = ty_R t i := if_pos h4
            have e2 : yn_A t j = ty_R t j := if_pos (by omega)
            have e3 : yn_B t i = ty_L t i := if_pos h4
            have e4 : yn_B t j = ty_L t j := if_pos (by omega)
            have u := wi.2.2.2.2.1 c5
            have u' := wj.2.2.2.2.1 c5'
            rw [e1, e3] at u
            rw [e2, e4] at u'
            rcases hab with ⟨z, z'⟩ | ⟨z, z'⟩ <;> rw [z, z']
            · rw [u.2, u'.2]
            · rw [u.1, u'.1]
          · by_cases h2 : ty_K t i = 2
            · have d2 : yn_K t i = 2 := by show yn_k (ty_K t i) = 2; rw [h2]; rfl
              have d2' : yn_K t j = 2 := by show yn_k (ty_K t j) = 2; rw [← ek, h2]; rfl
              have e1 : yn_A t i = ty_L t i := if_neg h4
              have e2 : yn_A t j = ty_L t j := if_neg (by omega)
              have e3 : yn_B t i = ty_R t i := if_neg h4
              have e4 : yn_B t j = ty_R t j := if_neg (by omega)
              have u := wi.2.2.2.1 d2
              have u' := wj.2.2.2.1 d2'
              rw [e1, e3] at u
              rw [e2, e4] at u'
              rcases hab with ⟨z, z'⟩ | ⟨z, z'⟩ <;> rw [z, z']
              · rw [u.1, u'.1]
              · rw [u.2, u'.2]
            · rcases hab with ⟨z, z'⟩ | ⟨z, z'⟩ <;> rw [z, z']
              · rw [(p5 h2 h4).1, (q5 (by omega) (by omega)).1]
              · rw [(p5 h2 h4).2, (q5 (by omega) (by omega)).2]
        intro l hl
        have at' : yo_eq (ty_n t) C (C b) (C a) l = if C l = C b then C a else C l := if_pos hl
        rw [at']
        by_cases z : C l = C b
        · rw [if_pos z, c2 a ha, sab, ← c2 b hb, ← z, c2 l hl]
        · rw [if_neg z]; exact c2 l hl
      · exact Or.inl ⟨i, j, hi, hj, yo_eq_mono hi hj e, bi, bj, ek⟩
  · have v := yc_val G hm (c4 m hm) hi hj bi bj e
    refine (yo_eq_ff ha hb c1 m).mpr ⟨c4 m hm, ?_⟩
    rcases hab with ⟨z, z'⟩ | ⟨z, z'⟩ <;> rw [z, z']
    · exact v.2.1
    · exact v.2.2
theorem yc_qK {C : Nat → Nat} : yq_nodeKind (gy c (yo_c t C)) = sv_na (ty_K t) := rfl
theorem yc_qL {C : Nat → Nat} : yq_left (gy c (yo_c t C)) = sv_na (ty_L t) := rfl
theorem yc_qR {C : Nat → Nat} : yq_right (gy c (yo_c t C)) = sv_na (ty_R t) := rfl
/-- one equation: r tells whether two classes were joined -/
theorem yc_eq1 (G : yo_G t) {p : Int32 → SY → Prop} {C : Nat → Nat} (I : yc_I t C) {i j a b : Nat} (hi : i < ty_n t) (hj : j < ty_n t) (bi : yc_b (ty_K t i)) (bj : yc_b (ty_K t j)) (e : C i = C j) (hab : (a = ty_L t i ∧ b = ty_L t j) ∨ (a = ty_R t i ∧ b = ty_R t j))
    (h : ∀ r C', yc_I t C' → C' i = C' j → (∀ x y, x < ty_n t → y < ty_n t → C x = C y → C' x = C' y) → (r = 0 ∧ C' = C ∧ C a = C b) ∨ (r = 1 ∧ sv_cn (sv_nr C) (ty_n t) < sv_cn (sv_nr C') (ty_n t)) → p (nI r) (gy c (yo_c t C'))) : wpY_equate p (gy c (yo_c t C)) (nI a) (nI b) := by
  obtain ⟨ha, hb, I'⟩ := yc_step G I hi hj bi bj e hab
  refine yo_equate G.1 ha hb (fun l hl => (I.1 l hl).1) (fun z => h 0 C I e (fun x y _ _ q => q) (Or.inl ⟨rfl, rfl, z⟩)) (fun z => h 1 _ I' (yo_eq_mono hi hj e) (fun x y hx hy q => yo_eq_mono hx hy q) (Or.inr ⟨rfl, ?_⟩))
  rw [yo_eq_cn ha hb I.1 z]; omega
/-- what a pass keeps: go tells whether classes were joined in it -/
def yc_P (t : sv_TY) (C0 : Nat → Nat) (i j : Nat) (go : Nat) (C : Nat → Nat) : Prop := yc_I t C ∧ ((go = 0 ∧ C = C0 ∧ (∀ i' j', j' < i' → i' < ty_n t → (i' < i ∨ (i' = i ∧ j' < j)) → yc_cp t C i' j')) ∨ (go = 1 ∧ sv_cn (sv_nr C0) (ty_n t) < sv_cn (sv_nr C) (ty_n t)))
theorem yc_or : (nI 0 ||| nI 0) ||| nI 0 = nI 0 ∧ (nI 0 ||| nI 0) ||| nI 1 = nI 1 ∧ (nI 0 ||| nI 1) ||| nI 0 = nI 1 ∧ (nI 0 ||| nI 1) ||| nI 1 = nI 1 ∧ (nI 1 ||| nI 0) ||| nI 0 = nI 1 ∧ (nI 1 ||| nI 0) ||| nI 1 = nI 1 ∧ (nI 1 ||| nI 1) ||| nI 0 = nI 1 ∧ (nI 1 ||| nI 1) ||| nI 1 = nI 1 := by decide
theorem yc_519 (G : yo_G t) {J490 J507 : Int32 → Int32 → SY → Prop} {x6 : Int32} {C0 : Nat → Nat} {i : Nat} (hi : i < ty_n t) (hJ : ∀ go C, yc_P t C0 (i + 1) 0 go C → J507 (nI go) (nI (i + 1)) (gy c (yo_c t C))) :
    ∀ N j go C, j ≤ i → i - j < N → yc_P t C0 i j go C → lqY_solve_519 post J490 J507 0 x6 (nI i) N (nI go) (nI j) (gy c (yo_c t C)) := by
  have g1 := G.1
  intro N
  induction N with
  | zero => intro j go C _ hN; omega
  | succ N ih =>
    intro j go C hj hN Pj
    rw [lqY_solve_519_s, yo_c_C, yc_qL]
    refine pk_le i j (fun hge => nm_r (nI_1 i) (hJ go C ?_)) (fun hlt => ⟨vp_in_nI (by omega) (by omega), vp_in_nI (by omega) (by omega), ?_⟩) rfl rfl (by omega) (by omega)
    · refine ⟨Pj.1, ?_⟩
      rcases Pj.2 with ⟨z1, z2, z3⟩ | z
      · exact Or.inl ⟨z1, z2, fun i' j' h1 h2 h3 => z3 i' j' h1 h2 (by omega)⟩
      · exact Or.inr z
    · obtain ⟨k1, k2, k3, k4, k5⟩ := G.2.1 i hi
      obtain ⟨l1, l2, l3, l4, l5⟩ := G.2.1 j (by omega)
      have ci := (Pj.1.1 i hi).1
      have cj := (Pj.1.1 j (by omega)).1
      have skip : yc_cp t C i j → lqY_solve_519 post J490 J507 0 x6 (nI i) N (nI go) (nI (j + 1)) (gy c (yo_c t C)) := fun hc => by
        refine ih (j + 1) go C (by omega) (by omega) ⟨Pj.1, ?_⟩
        rcases Pj.2 with ⟨z1, z2, z3⟩ | z
        · refine Or.inl ⟨z1, z2, fun i' j' h1 h2 h3 => ?_⟩
          by_cases q : i' = i ∧ j' = j
          · rw [q.1, q.2]; exact hc
          · exact z3 i' j' h1 h2 (by omega)
        · exact Or.inr z
      rw [sv_naA (f := C) (k := i) (by omega), sv_naA (f := C) (k := j) (by omega), sv_naA (f := ty_L t) (k := i) (by omega), sv_naA (f := ty_L t) (k := j) (by omega)]
      refine pk_eq (C i) (C j) (fun ec => ?_) (fun ec => nm_r (nI_1 j) (skip (fun _ _ z => absurd z ec))) rfl rfl (by omega) (by omega)
      by_cases bi : yc_b (ty_K t i)
      · refine yo_built1 yc_qK (by omega) k2 bi (br_f (by decide) ?_)
        by_cases bj : yc_b (ty_K t j)
        · refine yo_built1 yc_qK (by omega) l2 bj (br_f (by decide) ⟨vp_in_nI (by omega) (by omega), vp_in_nI (by omega) (by omega), ?_⟩)
          refine yc_eq1 G Pj.1 hi (by omega) bi bj ec (Or.inl ⟨rfl, rfl⟩) (fun r1 C1 I1 ec1 mo1 R1 => ⟨vp_in_nI (by omega) (by omega), vp_in_nI (by omega) (by omega), ?_⟩)
          rw [yc_qR, sv_naA (f := ty_R t) (k := i) (by omega), sv_naA (f := ty_R t) (k := j) (by omega)]
          refine yc_eq1 G I1 hi (by omega) bi bj ec1 (Or.inr ⟨rfl, rfl⟩) (fun r2 C2 I2 ec2 mo2 R2 => ?_)
          have fin : ∀ go', (nI r1 ||| nI r2) ||| nI go = nI go' → yc_P t C0 i (j + 1) go' C2 → ∀ x2_338 : Int32, x2_338 = (nI r1 ||| nI r2) ||| nI go → (∀ x8_339 : Int32, x8_339 = nI j + 1 → (lqY_solve_519 post J490 J507 0 x6 (nI i) N x2_338 x8_339 (gy c (yo_c t C2)))) := fun go' eg Pg => nm_r eg (nm_r (nI_1 j) (ih (j + 1) go' C2 (by omega) (by omega) Pg))
          rcases R1 with ⟨a1, a2, a3⟩ | ⟨a1, a2⟩
          · rcases R2 with ⟨b1, b2, b3⟩ | ⟨b1, b2⟩
            · rcases Pj.2 with ⟨z1, z2, z3⟩ | ⟨z1, z2⟩
              · refine fin 0 (by rw [a1, b1, z1]; exact yc_or.1) ⟨I2, Or.inl ⟨rfl, by rw [b2, a2, z2], fun i' j' h1 h2 h3 => ?_⟩⟩
                rw [b2, a2]
                rw [a2] at b3
                by_cases q : i' = i ∧ j' = j
                · rw [q.1, q.2]; exact fun _ _ _ => ⟨a3, b3⟩
                · exact z3 i' j' h1 h2 (by omega)
              · exact fin 1 (by rw [a1, b1, z1]; exact yc_or.2.1) ⟨I2, Or.inr ⟨rfl, by rw [b2, a2]; exact z2⟩⟩
            · rw [a2] at b2
              rcases Pj.2 with ⟨z1, z2, z3⟩ | ⟨z1, z2⟩
              · exact fin 1 (by rw [a1, b1, z1]; exact yc_or.2.2.1) ⟨I2, Or.inr ⟨rfl, by rw [z2] at b2; exact b2⟩⟩
              · exact fin 1 (by rw [a1, b1, z1]; exact yc_or.2.2.2.1) ⟨I2, Or.inr ⟨rfl, by omega⟩⟩
          · have c12 : sv_cn (sv_nr C) (ty_n t) < sv_cn (sv_nr C2) (ty_n t) := by
              rcases R2 with ⟨b1, b2, b3⟩ | ⟨b1, b2⟩
              · rw [b2]; exact a2
              · omega
            have c02 : sv_cn (sv_nr C0) (ty_n t) < sv_cn (sv_nr C2) (ty_n t) := by
              rcases Pj.2 with ⟨z1, z2, z3⟩ | ⟨z1, z2⟩
              · rw [← z2]; exact c12
              · omega
            refine fin 1 ?_ ⟨I2, Or.inr ⟨rfl, c02⟩⟩
            rcases R2 with ⟨b1, _, _⟩ | ⟨b1, _⟩ <;> rcases Pj.2 with ⟨z1, _, _⟩ | ⟨z1, _⟩ <;> rw [a1, b1, z1]
            · exact yc_or.2.2.2.2.1
            · exact yc_or.2.2.2.2.2.1
            · exact yc_or.2.2.2.2.2.2.1
            · exact yc_or.2.2.2.2.2.2.2
        · exact yo_built0 yc_qK (by omega) l2 bj (br_t rfl (nm_r (nI_1 j) (skip (fun _ z => absurd z bj))))
      · exact yo_built0 yc_qK (by omega) k2 bi (br_t rfl (nm_r (nI_1 j) (skip (fun z => absurd z bi))))
theorem yc_507 (G : yo_G t) {J490 : Int32 → Int32 → SY → Prop} {p : Nat} {C0 : Nat → Nat} (hJ : ∀ go C, yc_P t C0 (ty_n t) 0 go C → J490 (nI go) (nI (p + 1)) (gy c (yo_c t C))) :
    ∀ N i go C, i ≤ ty_n t → ty_n t - i < N → yc_P t C0 i 0 go C → lqY_solve_507 post J490 0 (nI p) N (nI go) (nI i) (gy c (yo_c t C)) := by
  have g1 := G.1
  intro N
  induction N with
  | zero => intro i go C _ hN; omega
  | succ N ih =>
    intro i go C hi hN Pi
    rw [lqY_solve_507_s, yo_c_n]
    refine pk_le (ty_n t) i (fun hge => nm_r (nI_1 p) (hJ go C ?_)) (fun hlt => ⟨i + 1, ?_⟩) rfl rfl (by omega) (by omega)
    · have e : i = ty_n t := by omega
      rw [← e]; exact Pi
    · exact yc_519 G hlt (fun go' C' P' => ih (i + 1) go' C' (by omega) (by omega) P') (i + 1) 0 go C (by omega) (by omega) Pi
/-- all passes -/
def yc_E (t : sv_TY) (C : Nat → Nat) : Prop := yc_I t C ∧ ∀ i j, i < ty_n t → j < ty_n t → yc_cp t C i j
theorem yc_E_of {C : Nat → Nat} (I : yc_I t C) (h : ∀ i' j', j' < i' → i' < ty_n t → (i' < ty_n t ∨ (i' = ty_n t ∧ j' < 0)) → yc_cp t C i' j') : yc_E t C := by
  refine ⟨I, fun i j hi hj bi bj e => ?_⟩
  rcases Nat.lt_trichotomy j i with z | z | z
  · exact h i j z hi (Or.inl hi) bi bj e
  · rw [z]; exact ⟨rfl, rfl⟩
  · have := h j i z hj (Or.inl hj) bj bi e.symm
    exact ⟨this.1.symm, this.2.symm⟩
theorem yc_490 (G : yo_G t) (hn : 0 < ty_n t) (h : ∀ C, yc_E t C → ∃ N, lqY_solve_622 post 0 N 0 (gy c (yo_c t C))) :
    ∀ N p go C, yc_I t C → p ≤ sv_cn (sv_nr C) (ty_n t) → ty_n t - sv_cn (sv_nr C) (ty_n t) < N → (go = 1 ∨ (go = 0 ∧ yc_E t C)) → lqY_solve_490 post 0 N (nI go) (nI p) (gy c (yo_c t C)) := by
  have g1 := G.1
  intro N
  induction N with
  | zero => intro p go C _ _ hN; omega
  | succ N ih =>
    intro p go C I hp hN hg
    have cl : sv_cn (sv_nr C) (ty_n t) < ty_n t := sv_cn_lt (k := C 0) (decide_eq_false (fun z => z (I.1 0 hn).2)) (I.1 0 hn).1
    rw [lqY_solve_490_s]
    refine br_f (show ¬ nI 320 ≤ nI p from nI_ge (by omega) (by omega)) ?_
    rcases hg with hg | ⟨hg, E⟩
    · rw [hg]
      refine br_f (by decide) ⟨ty_n t + 1, ?_⟩
      refine yc_507 G (p := p) (C0 := C) (fun go' C' P' => ?_) (ty_n t + 1) 0 0 C (Nat.zero_le _) (by omega) ⟨I, Or.inl ⟨rfl, rfl, fun i' j' _ _ z => by omega⟩⟩
      have cl' : sv_cn (sv_nr C') (ty_n t) < ty_n t := sv_cn_lt (k := C' 0) (decide_eq_false (fun z => z (P'.1.1 0 hn).2)) (P'.1.1 0 hn).1
      cases N with
      | zero => omega
      | succ N =>
        rcases P'.2 with ⟨z1, z2, z3⟩ | ⟨z1, z2⟩
        · rw [lqY_solve_490_s, z1]
          have E := yc_E_of P'.1 z3
          exact br_c (fun _ => h C' E) (fun _ => br_t rfl (h C' E))
        · exact ih (p + 1) go' C' P'.1 (by omega) (by omega) (Or.inl z1)
    · rw [hg]
      exact br_t rfl (h C E)
theorem yc_all (G : yo_G t) (hn : 0 < ty_n t) (h : ∀ C, yc_E t C → ∃ N, lqY_solve_622 post 0 N 0 (gy c (yo_c t C))) : ∃ N, lqY_solve_490 post 0 N 1 0 (gy c t) := by
  refine ⟨ty_n t + 1, ?_⟩
  rw [yo_c_0]
  refine yc_490 G hn h (ty_n t + 1) 0 1 (ty_C t) ⟨fun i hi => ⟨(G.2.2.2.1 i hi).1, (G.2.2.2.1 i hi).2.1⟩, Or.inr (fun i hi => (G.2.2.2.1 i hi).2.2), fun f hf => hf, fun m hm => sv_gv_ff hm⟩ (Nat.zero_le _) (by omega) (Or.inl rfl)
end
end
section
/-! the reference: the best node of each class, clashes, finite types -/
section
variable {c : SY} {t : sv_TY} {post : Int32 → SY → Prop}
def yo_ef (t : sv_TY) (C E F : Nat → Nat) : sv_TY := (ty_n t, ty_fi t, ty_la t, ty_K t, ty_L t, ty_R t, C, E, ty_S t, F, ty_o t, ty_b t)
variable {C E F : Nat → Nat}
theorem yf_C : yq_cls (gy c (yo_ef t C E F)) = sv_na C := rfl
theorem yf_E : yq_def (gy c (yo_ef t C E F)) = sv_na E := rfl
theorem yf_F : yq_finite (gy c (yo_ef t C E F)) = sv_na F := rfl
theorem yf_K : yq_nodeKind (gy c (yo_ef t C E F)) = sv_na (ty_K t) := rfl
theorem yf_L : yq_left (gy c (yo_ef t C E F)) = sv_na (ty_L t) := rfl
theorem yf_R : yq_right (gy c (yo_ef t C E F)) = sv_na (ty_R t) := rfl
theorem yf_n : yq_nodes (gy c (yo_ef t C E F)) = nI (ty_n t) := rfl
theorem yf_sE {E' : Nat → Nat} : ys_def (gy c (yo_ef t C E F)) (sv_na E') = gy c (yo_ef t C E' F) := rfl
theorem yf_sF {F' : Nat → Nat} : ys_finite (gy c (yo_ef t C E F)) (sv_na F') = gy c (yo_ef t C E F') := rfl
theorem yf_0 : gy c (yo_c t C) = gy c (yo_ef t C (ty_E t) (ty_F t)) := rfl
/-- the best node: a term if the class has one -/
def yf_D (t : sv_TY) (C E : Nat → Nat) (i : Nat) : Prop := ∀ j, j < ty_n t → ((∀ i', i' < i → C i' = C j → ¬ yc_b (ty_K t i')) ∧ E (C j) = C j) ∨ (E (C j) < ty_n t ∧ yc_b (ty_K t (E (C j))) ∧ C (E (C j)) = C j)
theorem yf_622 (G : yo_G t) (hC : ∀ i, i < ty_n t → C i < ty_n t ∧ C (C i) = C i) (h : ∀ E', yf_D t C E' (ty_n t) → ∃ N, lqY_solve_663 post N 0 0 (gy c (yo_ef t C E' F))) :
    ∀ N i E, i ≤ ty_n t → ty_n t - i < N → yf_D t C E i → lqY_solve_622 post 0 N (nI i) (gy c (yo_ef t C E F)) := by
  have g1 := G.1
  intro N
  induction N with
  | zero => intro i E _ hN; omega
  | succ N ih =>
    intro i E hi hN D
    rw [lqY_solve_622_s, yf_n, yf_C, yf_E]
    refine pk_le (ty_n t) i (fun hge => ?_) (fun hlt => ?_) rfl rfl (by omega) (by omega)
    · have e : i = ty_n t := by omega
      rw [e] at D; exact h E D
    · have kl := (G.2.1 i hlt).2.1
      have cl := (hC i hlt).1
      by_cases b : yc_b (ty_K t i)
      · refine yo_built1 yf_K (by omega) kl b (br_f (by decide) ⟨vp_in_nI (by omega) (by omega), ?_⟩)
        rw [sv_naA (f := C) (by omega), sv_naU (by omega)]
        refine ⟨vp_in_nI (by omega) (by omega), nm_e (nm_r (nI_1 i) ?_)⟩
        rw [yf_sE]
        refine ih (i + 1) _ (by omega) (by omega) (fun j hj => ?_)
        by_cases z : C j = C i
        · right
          rw [z, sv_us]; exact ⟨hlt, b, rfl⟩
        · rw [sv_uo z]
          rcases D j hj with ⟨d1, d2⟩ | d
          · refine Or.inl ⟨fun i' hi' e => ?_, d2⟩
            by_cases q : i' = i
            · rw [q] at e; exact absurd e.symm z
            · exact d1 i' (by omega) e
          · exact Or.inr d
      · refine yo_built0 yf_K (by omega) kl b (br_t rfl (nm_r (nI_1 i) ?_))
        refine ih (i + 1) E (by omega) (by omega) (fun j hj => ?_)
        rcases D j hj with ⟨d1, d2⟩ | d
        · refine Or.inl ⟨fun i' hi' e => ?_, d2⟩
          by_cases q : i' = i
          · rw [q]; exact b
          · exact d1 i' (by omega) e
        · exact Or.inr d
/-- the root of a node: the best node of its class -/
def yf_r (C E : Nat → Nat) : Nat → Nat := fun i => E (C i)
theorem yf_rp (hC : ∀ i, i < ty_n t → C i < ty_n t ∧ C (C i) = C i) (D : yf_D t C E (ty_n t)) {i : Nat} (hi : i < ty_n t) : yf_r C E i < ty_n t ∧ C (yf_r C E i) = C i ∧ yf_r C E (yf_r C E i) = yf_r C E i ∧ (yc_b (ty_K t i) → yc_b (ty_K t (yf_r C E i))) := by
  have key : yf_r C E i < ty_n t ∧ C (yf_r C E i) = C i ∧ (yc_b (ty_K t i) → yc_b (ty_K t (yf_r C E i))) := by
    unfold yf_r
    rcases D i hi with ⟨d1, d2⟩ | ⟨d1, d2, d3⟩
    · rw [d2]; exact ⟨(hC i hi).1, (hC i hi).2, fun b => absurd b (d1 i hi rfl)⟩
    · exact ⟨d1, d3, fun _ => d2⟩
  refine ⟨key.1, key.2.1, ?_, key.2.2⟩
  show E (C (yf_r C E i)) = E (C i)
  rw [key.2.1]
/-- the part of the check for one node: its best node's parts -/
def yf_v (K L R F : Nat → Nat) (d : Nat) : Nat := if K d = 4 ∨ K d = 2 then (if F (L d) = 0 then 0 else if F (R d) = 0 then 0 else 1) else 1
theorem yf_731 (G : yo_G t) {J663 J680 : Int32 → Int32 → SY → Prop} {x6 : Int32} {al i d : Nat} (hi : i < ty_n t) (hd : d < ty_n t) (ha : al = 0 ∨ al = 1) (hF : ∀ j, j < ty_n t → F j = 0 ∨ F j = 1)
    (h : J680 (nI (if al = 0 then 0 else yf_v (ty_K t) (ty_L t) (ty_R t) F d)) (nI (i + 1)) (gy c (yo_ef t C E (sv_un F i (yf_v (ty_K t) (ty_L t) (ty_R t) F d))))) : pqY_solve_731 post J663 J680 (nI al) x6 (nI i) (nI d) (gy c (yo_ef t C E F)) := by
  have g1 := G.1
  obtain ⟨k1, k2, k3, k4, k5⟩ := G.2.1 d hd
  have hb : vp_in (nI d) 320 := vp_in_nI (by omega) (by omega)
  have hbi : vp_in (nI i) 320 := vp_in_nI (by omega) (by omega)
  have fin : ∀ v, (v = 0 ∨ v = 1) → yf_v (ty_K t) (ty_L t) (ty_R t) F d = v → pqY_solve_794 post J663 J680 (nI al) x6 (nI i) (nI v) (nI i) (gy c (yo_ef t C E F)) := by
    intro v hv e
    rw [e] at h
    rw [pqY_solve_794_e, yf_F]
    have q : vp_nar .boolean (nI v) = nI v := by rcases hv with z | z <;> rw [z] <;> rfl
    rw [q, sv_naU (by omega)]
    refine ⟨hbi, nm_e ?_⟩
    rw [yf_sF]
    rcases ha with z | z
    · rw [z] at h ⊢
      exact br_t rfl (nm_r (nI_1 i) h)
    · rw [z] at h ⊢
      rw [sv_naA (by omega), sv_us]
      refine br_f (by decide) ⟨hbi, ?_⟩
      rw [if_neg (by omega)] at h
      rcases hv with z2 | z2
      · rw [z2] at h ⊢; exact br_t rfl (nm_r (nI_1 i) h)
      · rw [z2] at h ⊢; exact br_f (by decide) (nm_r (nI_1 i) h)
  have comp : (ty_K t d = 4 ∨ ty_K t d = 2) → pqY_solve_759 post J663 J680 (nI al) x6 (nI i) (nI d) (nI i) (gy c (yo_ef t C E F)) := by
    intro hk
    have ev : yf_v (ty_K t) (ty_L t) (ty_R t) F d = (if F (ty_L t d) = 0 then 0 else if F (ty_R t d) = 0 then 0 else 1) := if_pos hk
    rw [pqY_solve_759_e, yf_L, yf_R, yf_F, sv_naA (f := ty_L t) (by omega), sv_naA (f := ty_R t) (by omega), sv_naA (f := F) (by omega), sv_naA (f := F) (by omega), pqY_solve_793_e, pqY_solve_789_e]
    have fl := hF _ k3
    have fr := hF _ k4
    refine ⟨hb, vp_in_nI (by omega) (by omega), pk_eq (F (ty_L t d)) 0 (fun z => fin 0 (Or.inl rfl) (by rw [ev, if_pos z])) (fun z => ⟨hb, vp_in_nI (by omega) (by omega), pk_eq (F (ty_R t d)) 0 (fun z2 => fin 0 (Or.inl rfl) (by rw [ev, if_neg z, if_pos z2])) (fun z2 => fin 1 (Or.inr rfl) (by rw [ev, if_neg z, if_neg z2])) rfl rfl (by omega) (by omega)⟩) rfl rfl (by omega) (by omega)⟩
  rw [pqY_solve_731_e, yf_K, sv_naA (by omega)]
  refine ⟨hb, pk_eq (ty_K t d) 4 (fun z => comp (Or.inl z)) (fun z => ⟨hb, pk_eq (ty_K t d) 2 (fun z2 => comp (Or.inr z2)) (fun z2 => ?_) rfl rfl (by omega) (by omega)⟩) rfl rfl (by omega) (by omega)⟩
  rw [pqY_solve_789_e]
  exact fin 1 (Or.inr rfl) (if_neg (by omega))
/-- one round: what is known of F -/
def yf_ok (t : sv_TY) (C E F : Nat → Nat) : Prop := ∀ j, j < ty_n t → (F j = 0 ∨ F j = 1) ∧ (F j = 1 → sv_c1 (yn_K t) (yn_A t) (yn_B t) (yf_r C E) j)
def yf_rank (t : sv_TY) (F : Nat → Nat) (p i : Nat) : Prop := ∀ m, yo_V t m → (∀ j, j < ty_n t → sv_rk (ty_n t) m j < p → F j = 1) ∧ (∀ j, j < i → sv_rk (ty_n t) m j ≤ p → F j = 1)
def yf_nc (t : sv_TY) (C E : Nat → Nat) (i : Nat) : Prop := ∀ j, j < i → yc_b (ty_K t j) → ty_K t j = ty_K t (yf_r C E j)
theorem yf_vok (G : yo_G t) (hC : ∀ i, i < ty_n t → C i < ty_n t ∧ C (C i) = C i) (D : yf_D t C E (ty_n t)) (hF : yf_ok t C E F) {i : Nat} (hi : i < ty_n t) : (yf_v (ty_K t) (ty_L t) (ty_R t) F (yf_r C E i) = 0 ∨ yf_v (ty_K t) (ty_L t) (ty_R t) F (yf_r C E i) = 1) ∧ (yf_v (ty_K t) (ty_L t) (ty_R t) F (yf_r C E i) = 1 → sv_c1 (yn_K t) (yn_A t) (yn_B t) (yf_r C E) i) := by
  obtain ⟨r1, r2, r3, r4⟩ := yf_rp hC D hi
  obtain ⟨k1, k2, k3, k4, k5⟩ := G.2.1 _ r1
  refine ⟨?_, ?_⟩
  · unfold yf_v
    split
    · split
      · exact Or.inl rfl
      · split
        · exact Or.inl rfl
        · exact Or.inr rfl
    · exact Or.inr rfl
  · intro e
    have yk := yn_kd ⟨k1, k2⟩
    by_cases hk : ty_K t (yf_r C E i) = 4 ∨ ty_K t (yf_r C E i) = 2
    · have ev : yf_v (ty_K t) (ty_L t) (ty_R t) F (yf_r C E i) = (if F (ty_L t (yf_r C E i)) = 0 then 0 else if F (ty_R t (yf_r C E i)) = 0 then 0 else 1) := if_pos hk
      rw [ev] at e
      have f1 : F (ty_L t (yf_r C E i)) = 1 := by
        rcases (hF _ k3).1 with z | z
        · rw [if_pos z] at e; omega
        · exact z
      have f2 : F (ty_R t (yf_r C E i)) = 1 := by
        rw [if_neg (by omega)] at e
        rcases (hF _ k4).1 with z | z
        · rw [if_pos z] at e; omega
        · exact z
      have c1 := (hF _ k3).2 f1
      have c2 := (hF _ k4).2 f2
      rcases hk with hk | hk
      · refine sv_c1_node ?_ ?_
        · rw [show yn_A t (yf_r C E i) = ty_R t (yf_r C E i) from if_pos hk]; exact c2
        · rw [show yn_B t (yf_r C E i) = ty_L t (yf_r C E i) from if_pos hk]; exact c1
      · refine sv_c1_node ?_ ?_
        · rw [show yn_A t (yf_r C E i) = ty_L t (yf_r C E i) from if_neg (by omega)]; exact c1
        · rw [show yn_B t (yf_r C E i) = ty_R t (yf_r C E i) from if_neg (by omega)]; exact c2
    · refine sv_c1_leaf (fun z => hk ?_)
      rcases z with z | z
      · exact Or.inr (yk.2.1.mp z)
      · exact Or.inl (yk.2.2.1.mp z)
def yf_some (F : Nat → Nat) (i : Nat) : Prop := ∃ j, j < i ∧ F j = 0
theorem yf_680 (G : yo_G t) (W : yc_E t C) (D : yf_D t C E (ty_n t)) {J663 : Int32 → Int32 → SY → Prop} {p : Nat} (hF0 : ∀ F, (∀ m, yo_V t m → False) → post 0 (gy c (yo_ef t C E F)))
    (hJ : ∀ al F', (al = 0 ∨ al = 1) → yf_ok t C E F' → yf_rank t F' (p + 1) 0 → yf_nc t C E (ty_n t) → (al = 1 → ∀ j, j < ty_n t → F' j = 1) → (al = 0 → yf_some F' (ty_n t)) → J663 (nI al) (nI (p + 1)) (gy c (yo_ef t C E F'))) :
    ∀ N i al F, i ≤ ty_n t → ty_n t - i < N → (al = 0 ∨ al = 1) → yf_ok t C E F → yf_rank t F p i → yf_nc t C E i → (al = 1 → ∀ j, j < i → F j = 1) → (al = 0 → yf_some F i) → lqY_solve_680 post J663 (nI p) N (nI al) (nI i) (gy c (yo_ef t C E F)) := by
  have g1 := G.1
  have hC := W.1.1
  intro N
  induction N with
  | zero => intro i al F _ hN; omega
  | succ N ih =>
    intro i al F hi hN ha hF hr hc h1 h0
    rw [lqY_solve_680_s, yf_n, yf_C, yf_E, yf_K]
    refine pk_le (ty_n t) i (fun hge => nm_r (nI_1 p) ?_) (fun hlt => ?_) rfl rfl (by omega) (by omega)
    · have e : i = ty_n t := by omega
      subst e
      refine hJ al F ha hF (fun m hm => ⟨fun j hj hl => (hr m hm).2 j hj (by omega), fun j hj => by omega⟩) hc h1 h0
    · obtain ⟨r1, r2, r3, r4⟩ := yf_rp hC D hlt
      obtain ⟨k1, k2, k3, k4, k5⟩ := G.2.1 i hlt
      obtain ⟨d1, d2, d3, d4, d5⟩ := G.2.1 _ r1
      have cl := (hC i hlt).1
      have hb : vp_in (nI i) 320 := vp_in_nI (by omega) (by omega)
      have fok := yf_vok G hC D hF hlt
      rw [sv_naA (f := C) (by omega), sv_naA (f := E) (by omega)]
      refine ⟨hb, vp_in_nI (by omega) (by omega), nm_e ?_⟩
      rw [show E (C i) = yf_r C E i from rfl]
      have same : ∀ m, yo_V t m → m i = m (yf_r C E i) := fun m hm => by
        have ff := W.1.2.2.2 m hm
        rw [ff i hlt, ff _ r1, r2]
      have go : (yc_b (ty_K t i) → ty_K t i = ty_K t (yf_r C E i)) → pqY_solve_731 post J663 (lqY_solve_680 post J663 (nI p) N) (nI al) (nI p) (nI i) (nI (yf_r C E i)) (gy c (yo_ef t C E F)) := by
        intro hk
        refine yf_731 G hlt r1 ha (fun j hj => (hF j hj).1) ?_
        refine ih (i + 1) _ _ (by omega) (by omega) ?_ (fun j hj => ?_) (fun m hm => ?_) (fun j hj b => ?_) (fun z j hj => ?_) (fun z => ?_)
        · split
          · exact Or.inl rfl
          · exact fok.1
        · by_cases z : j = i
          · rw [z, sv_us]; exact fok
          · rw [sv_uo z]; exact hF j hj
        · have rk := hr m hm
          have here : sv_rk (ty_n t) m i ≤ p → yf_v (ty_K t) (ty_L t) (ty_R t) F (yf_r C E i) = 1 := by
            intro hle
            by_cases hk4 : ty_K t (yf_r C E i) = 4 ∨ ty_K t (yf_r C E i) = 2
            · have ev : yf_v (ty_K t) (ty_L t) (ty_R t) F (yf_r C E i) = (if F (ty_L t (yf_r C E i)) = 0 then 0 else if F (ty_R t (yf_r C E i)) = 0 then 0 else 1) := if_pos hk4
              have lt : m (ty_L t (yf_r C E i)) < m i ∧ m (ty_R t (yf_r C E i)) < m i := by
                rw [same m hm]
                have yk := yn_kd ⟨d1, d2⟩
                rcases hk4 with hk4 | hk4
                · have q := sv_gv_lt (K := yn_K t) (A := yn_A t) (B := yn_B t) (R := ty_C t) hm r1 (Or.inr (yk.2.2.1.mpr hk4))
                  rw [show yn_A t (yf_r C E i) = ty_R t (yf_r C E i) from if_pos hk4, show yn_B t (yf_r C E i) = ty_L t (yf_r C E i) from if_pos hk4] at q
                  exact ⟨q.2, q.1⟩
                · have q := sv_gv_lt (K := yn_K t) (A := yn_A t) (B := yn_B t) (R := ty_C t) hm r1 (Or.inl (yk.2.1.mpr hk4))
                  rw [show yn_A t (yf_r C E i) = ty_L t (yf_r C E i) from if_neg (by omega), show yn_B t (yf_r C E i) = ty_R t (yf_r C E i) from if_neg (by omega)] at q
                  exact q
              have l1 := sv_rk_lt (n := ty_n t) d3 lt.1
              have l2 := sv_rk_lt (n := ty_n t) d4 lt.2
              rw [ev, if_neg (by rw [rk.1 _ d3 (by omega)]; decide), if_neg (by rw [rk.1 _ d4 (by omega)]; decide)]
            · exact if_neg hk4
          refine ⟨fun j hj hl => ?_, fun j hj hl => ?_⟩
          · by_cases z : j = i
            · rw [z, sv_us]; rw [z] at hl; exact here (by omega)
            · rw [sv_uo z]; exact rk.1 j hj hl
          · by_cases z : j = i
            · rw [z, sv_us]; rw [z] at hl; exact here hl
            · rw [sv_uo z]; exact rk.2 j (by omega) hl
        · by_cases z : j = i
          · rw [z] at b ⊢; exact hk b
          · exact hc j (by omega) b
        · have al1 : al = 1 := by
            rcases ha with q | q
            · rw [if_pos q] at z; omega
            · exact q
          rw [if_neg (by omega)] at z
          by_cases q : j = i
          · rw [q, sv_us]; exact z
          · rw [sv_uo q]; exact h1 al1 j (by omega)
        · by_cases q : al = 0
          · obtain ⟨j, j1, j2⟩ := h0 q
            exact ⟨j, by omega, by rw [sv_uo (by omega)]; exact j2⟩
          · rw [if_neg q] at z
            exact ⟨i, by omega, by rw [sv_us]; exact z⟩
      by_cases b : yc_b (ty_K t i)
      · refine yo_built1 yf_K (by omega) k2 b (br_f (by decide) ⟨hb, vp_in_nI (by omega) (by omega), ?_⟩)
        rw [sv_naA (by omega), sv_naA (by omega)]
        refine pk_eq (ty_K t i) (ty_K t (yf_r C E i)) (fun e => go (fun _ => e)) (fun e => hF0 F (fun m hm => ?_)) rfl rfl (by omega) (by omega)
        exact e (yc_val G hm (W.1.2.2.2 m hm) hlt r1 b (r4 b) r2.symm).1
      · exact yo_built0 yf_K (by omega) k2 b (br_t rfl (go (fun z => absurd z b)))
theorem yf_663 (G : yo_G t) (hn : 0 < ty_n t) (W : yc_E t C) (D : yf_D t C E (ty_n t)) (hF0 : ∀ F, (∀ m, yo_V t m → False) → post 0 (gy c (yo_ef t C E F)))
    (hT : ∀ F, yf_nc t C E (ty_n t) → (∀ j, j < ty_n t → sv_c1 (yn_K t) (yn_A t) (yn_B t) (yf_r C E) j) → post 1 (gy c (yo_ef t C E F))) :
    ∀ N p al F, p ≤ 320 → 320 - p < N → (al = 0 ∨ al = 1) → yf_ok t C E F → yf_rank t F p 0 → (al = 1 → yf_nc t C E (ty_n t) ∧ ∀ j, j < ty_n t → F j = 1) → (al = 0 → p = 0 ∨ yf_some F (ty_n t)) → lqY_solve_663 post N (nI al) (nI p) (gy c (yo_ef t C E F)) := by
  have g1 := G.1
  intro N
  induction N with
  | zero => intro p al F _ hN; omega
  | succ N ih =>
    intro p al F hp hN ha hF hr h1 h0
    rw [lqY_solve_663_s]
    have done : al = 1 → narrow .boolean (.int (nI al)) = .int (nI al) ∧ post (nI al) (gy c (yo_ef t C E F)) := by
      intro e
      rw [e]
      exact ⟨rfl, hT F (h1 e).1 (fun j hj => (hF j hj).2 ((h1 e).2 j hj))⟩
    refine pk_le 320 p (fun hge => ?_) (fun hlt => ?_) rfl rfl (by omega) (by omega)
    · rcases ha with e | e
      · rw [e]
        refine ⟨rfl, hF0 F (fun m hm => ?_)⟩
        rcases h0 e with z | ⟨j, j1, j2⟩
        · omega
        · have := sv_rk_n (n := ty_n t) (m := m) j1
          have := (hr m hm).1 j j1 (by omega)
          omega
      · exact done e
    · rcases ha with e | e
      · rw [e]
        refine br_t rfl ⟨ty_n t + 1, ?_⟩
        refine yf_680 G W D hF0 (fun al' F' ha' hF' hr' hc' h1' h0' => ih (p + 1) al' F' (by omega) (by omega) ha' hF' hr' (fun z => ⟨hc', h1' z⟩) (fun z => Or.inr (h0' z))) (ty_n t + 1) 0 1 F (Nat.zero_le _) (by omega) (Or.inr rfl) hF hr (fun j hj => by omega) (fun _ j hj => by omega) (fun z => by omega)
      · exact br_f (by rw [e]; decide) (done e)
/-- the end of solve, behind the list -/
theorem yf_end (G : yo_G t) (hn : 0 < ty_n t) (hF0 : ∀ C E F, (∀ m, yo_V t m → False) → post 0 (gy c (yo_ef t C E F)))
    (hT : ∀ C E F, yc_E t C → yf_D t C E (ty_n t) → yf_nc t C E (ty_n t) → (∀ j, j < ty_n t → sv_c1 (yn_K t) (yn_A t) (yn_B t) (yf_r C E) j) → post 1 (gy c (yo_ef t C E F))) : ∃ N, lqY_solve_490 post 0 N 1 0 (gy c t) := by
  refine yc_all G hn (fun C W => ⟨ty_n t + 1, ?_⟩)
  rw [yf_0]
  refine yf_622 G W.1.1 (fun E D => ⟨321, ?_⟩) _ 0 (ty_E t) (Nat.zero_le _) (by omega) (fun j hj => Or.inl ⟨fun i' hi' => by omega, (G.2.2.2.2 _ (W.1.1 j hj).1).1⟩)
  refine yf_663 G hn W D (fun F => hF0 C E F) (fun F => hT C E F W D) 321 0 0 (ty_F t) (by omega) (by omega) (Or.inl rfl) (fun j hj => ⟨Or.inl (G.2.2.2.2 j hj).2.2, fun z => by have := (G.2.2.2.2 j hj).2.2; omega⟩) (fun m hm => ⟨fun j hj z => by omega, fun j hj => by omega⟩) (fun z => by omega) (fun _ => Or.inl rfl)
/-- the graph at the end -/
theorem yf_PG0 (G : yo_G t) (W : yc_E t C) (D : yf_D t C E (ty_n t)) (nc : yf_nc t C E (ty_n t)) :
    (∀ i, i < ty_n t → yf_r C E i < ty_n t ∧ yf_r C E (yf_r C E i) = yf_r C E i ∧ sv_rb (yn_K t (yf_r C E i)) = sv_rb (yn_K t i)) ∧ sv_cl (ty_n t) (yn_K t) (yn_A t) (yn_B t) (yf_r C E) ∧ (∀ m, sv_gv (ty_n t) (yn_K t) (yn_A t) (yn_B t) (yf_r C E) m ↔ yo_V t m) := by
  obtain ⟨c1, c2, c3, c4⟩ := W.1
  have srt : ∀ i, i < ty_n t → sv_rb (yn_K t (C i)) = sv_rb (yn_K t i) := by
    rcases c2 with ⟨i, j, z1, z2, z3, z4, z5, z6⟩ | c2
    · have e : yf_r C E i = yf_r C E j := by show E (C i) = E (C j); rw [z3]
      exact absurd ((nc i z1 z4).trans ((congrArg (ty_K t) e).trans (nc j z2 z5).symm)) z6
    · exact c2
  refine ⟨fun i hi => ?_, fun i hi hv => ?_, fun m => ⟨fun hm => ?_, fun hm => ?_⟩⟩
  · obtain ⟨r1, r2, r3, r4⟩ := yf_rp c1 D hi
    refine ⟨r1, r3, ?_⟩
    rw [← srt _ r1, r2, srt i hi]
  · obtain ⟨r1, r2, r3, r4⟩ := yf_rp c1 D hi
    have bi : yc_b (ty_K t i) := by
      refine ⟨fun z => hv.1 ?_, fun z => hv.2 ?_⟩
      · show yn_k (ty_K t i) = 100; rw [z]; rfl
      · show yn_k (ty_K t i) = 200; rw [z]; rfl
    have ek := nc i hi bi
    have cp := W.2 i (yf_r C E i) hi r1 bi (r4 bi) r2.symm
    refine ⟨by show yn_k (ty_K t (yf_r C E i)) = yn_k (ty_K t i); rw [ek], fun _ => ?_⟩
    by_cases h4 : ty_K t i = 4
    · rw [show yn_A t i = ty_R t i from if_pos h4, show yn_B t i = ty_L t i from if_pos h4, show yn_A t (yf_r C E i) = ty_R t (yf_r C E i) from if_pos (by omega), show yn_B t (yf_r C E i) = ty_L t (yf_r C E i) from if_pos (by omega)]
      exact ⟨congrArg E cp.2, congrArg E cp.1⟩
    · rw [show yn_A t i = ty_L t i from if_neg h4, show yn_B t i = ty_R t i from if_neg h4, show yn_A t (yf_r C E i) = ty_L t (yf_r C E i) from if_neg (by omega), show yn_B t (yf_r C E i) = ty_R t (yf_r C E i) from if_neg (by omega)]
      exact ⟨congrArg E cp.1, congrArg E cp.2⟩
  · have ff : sv_ff (ty_n t) C m := fun i hi => by
      have q : yf_r C E (C i) = yf_r C E i := by show E (C (C i)) = E (C i); rw [(c1 i hi).2]
      rw [(hm i hi).1, (hm (C i) (c1 i hi).1).1, q]
    exact sv_gv_of (P := yf_r C E) hm (c3 m ff)
  · have ff := c4 m hm
    refine sv_gv_of (P := ty_C t) hm (fun i hi => ?_)
    obtain ⟨r1, r2, r3, r4⟩ := yf_rp c1 D hi
    rw [ff i hi, ff _ r1, r2]
end
end
section
/-! printed by gen/parts2.py: further states -/
section
def yl_g (c : SY) (x0 : Nat) (x1 : Nat → Nat) (x2 : Nat → Nat) : SY := match c with
  | (f_maxWords, f_maxCells, f_maxLevels, f_maxFuel, f_count, f_depth, f_copyDepth, f_agenda, _, f_nodes, f_first, f_last, a_kinds, a_args, a_size, a_cellKind, a_cellVal, a_copyKind, a_copyVal, a_agKind, a_agVal, a_agLevel, _, _, a_outer, a_begin, a_todo, a_nodeKind, a_left, a_right, a_cls, a_def, a_symbol, a_finite) => (f_maxWords, f_maxCells, f_maxLevels, f_maxFuel, f_count, f_depth, f_copyDepth, f_agenda, nI x0, f_nodes, f_first, f_last, a_kinds, a_args, a_size, a_cellKind, a_cellVal, a_copyKind, a_copyVal, a_agKind, a_agVal, a_agLevel, sv_na x1, sv_na x2, a_outer, a_begin, a_todo, a_nodeKind, a_left, a_right, a_cls, a_def, a_symbol, a_finite)
theorem yl_g_maxWords (c : SY) (x0 : Nat) (x1 : Nat → Nat) (x2 : Nat → Nat) : yq_maxWords (yl_g c x0 x1 x2) = yq_maxWords c := rfl
theorem yl_g_maxCells (c : SY) (x0 : Nat) (x1 : Nat → Nat) (x2 : Nat → Nat) : yq_maxCells (yl_g c x0 x1 x2) = yq_maxCells c := rfl
theorem yl_g_maxLevels (c : SY) (x0 : Nat) (x1 : Nat → Nat) (x2 : Nat → Nat) : yq_maxLevels (yl_g c x0 x1 x2) = yq_maxLevels c := rfl
theorem yl_g_maxFuel (c : SY) (x0 : Nat) (x1 : Nat → Nat) (x2 : Nat → Nat) : yq_maxFuel (yl_g c x0 x1 x2) = yq_maxFuel c := rfl
theorem yl_g_count (c : SY) (x0 : Nat) (x1 : Nat → Nat) (x2 : Nat → Nat) : yq_count (yl_g c x0 x1 x2) = yq_count c := rfl
theorem yl_g_depth (c : SY) (x0 : Nat) (x1 : Nat → Nat) (x2 : Nat → Nat) : yq_depth (yl_g c x0 x1 x2) = yq_depth c := rfl
theorem yl_g_copyDepth (c : SY) (x0 : Nat) (x1 : Nat → Nat) (x2 : Nat → Nat) : yq_copyDepth (yl_g c x0 x1 x2) = yq_copyDepth c := rfl
theorem yl_g_agenda (c : SY) (x0 : Nat) (x1 : Nat → Nat) (x2 : Nat → Nat) : yq_agenda (yl_g c x0 x1 x2) = yq_agenda c := rfl
theorem yl_g_listSize (c : SY) (x0 : Nat) (x1 : Nat → Nat) (x2 : Nat → Nat) : yq_listSize (yl_g c x0 x1 x2) = nI x0 := rfl
theorem yl_g_nodes (c : SY) (x0 : Nat) (x1 : Nat → Nat) (x2 : Nat → Nat) : yq_nodes (yl_g c x0 x1 x2) = yq_nodes c := rfl
theorem yl_g_first (c : SY) (x0 : Nat) (x1 : Nat → Nat) (x2 : Nat → Nat) : yq_first (yl_g c x0 x1 x2) = yq_first c := rfl
theorem yl_g_last (c : SY) (x0 : Nat) (x1 : Nat → Nat) (x2 : Nat → Nat) : yq_last (yl_g c x0 x1 x2) = yq_last c := rfl
theorem yl_g_kinds (c : SY) (x0 : Nat) (x1 : Nat → Nat) (x2 : Nat → Nat) : yq_kinds (yl_g c x0 x1 x2) = yq_kinds c := rfl
theorem yl_g_args (c : SY) (x0 : Nat) (x1 : Nat → Nat) (x2 : Nat → Nat) : yq_args (yl_g c x0 x1 x2) = yq_args c := rfl
theorem yl_g_size (c : SY) (x0 : Nat) (x1 : Nat → Nat) (x2 : Nat → Nat) : yq_size (yl_g c x0 x1 x2) = yq_size c := rfl
theorem yl_g_cellKind (c : SY) (x0 : Nat) (x1 : Nat → Nat) (x2 : Nat → Nat) : yq_cellKind (yl_g c x0 x1 x2) = yq_cellKind c := rfl
theorem yl_g_cellVal (c : SY) (x0 : Nat) (x1 : Nat → Nat) (x2 : Nat → Nat) : yq_cellVal (yl_g c x0 x1 x2) = yq_cellVal c := rfl
theorem yl_g_copyKind (c : SY) (x0 : Nat) (x1 : Nat → Nat) (x2 : Nat → Nat) : yq_copyKind (yl_g c x0 x1 x2) = yq_copyKind c := rfl
theorem yl_g_copyVal (c : SY) (x0 : Nat) (x1 : Nat → Nat) (x2 : Nat → Nat) : yq_copyVal (yl_g c x0 x1 x2) = yq_copyVal c := rfl
theorem yl_g_agKind (c : SY) (x0 : Nat) (x1 : Nat → Nat) (x2 : Nat → Nat) : yq_agKind (yl_g c x0 x1 x2) = yq_agKind c := rfl
theorem yl_g_agVal (c : SY) (x0 : Nat) (x1 : Nat → Nat) (x2 : Nat → Nat) : yq_agVal (yl_g c x0 x1 x2) = yq_agVal c := rfl
theorem yl_g_agLevel (c : SY) (x0 : Nat) (x1 : Nat → Nat) (x2 : Nat → Nat) : yq_agLevel (yl_g c x0 x1 x2) = yq_agLevel c := rfl
theorem yl_g_list (c : SY) (x0 : Nat) (x1 : Nat → Nat) (x2 : Nat → Nat) : yq_list (yl_g c x0 x1 x2) = sv_na x1 := rfl
theorem yl_g_pend (c : SY) (x0 : Nat) (x1 : Nat → Nat) (x2 : Nat → Nat) : yq_pend (yl_g c x0 x1 x2) = sv_na x2 := rfl
theorem yl_g_outer (c : SY) (x0 : Nat) (x1 : Nat → Nat) (x2 : Nat → Nat) : yq_outer (yl_g c x0 x1 x2) = yq_outer c := rfl
theorem yl_g_begin (c : SY) (x0 : Nat) (x1 : Nat → Nat) (x2 : Nat → Nat) : yq_begin (yl_g c x0 x1 x2) = yq_begin c := rfl
theorem yl_g_todo (c : SY) (x0 : Nat) (x1 : Nat → Nat) (x2 : Nat → Nat) : yq_todo (yl_g c x0 x1 x2) = yq_todo c := rfl
theorem yl_g_nodeKind (c : SY) (x0 : Nat) (x1 : Nat → Nat) (x2 : Nat → Nat) : yq_nodeKind (yl_g c x0 x1 x2) = yq_nodeKind c := rfl
theorem yl_g_left (c : SY) (x0 : Nat) (x1 : Nat → Nat) (x2 : Nat → Nat) : yq_left (yl_g c x0 x1 x2) = yq_left c := rfl
theorem yl_g_right (c : SY) (x0 : Nat) (x1 : Nat → Nat) (x2 : Nat → Nat) : yq_right (yl_g c x0 x1 x2) = yq_right c := rfl
theorem yl_g_cls (c : SY) (x0 : Nat) (x1 : Nat → Nat) (x2 : Nat → Nat) : yq_cls (yl_g c x0 x1 x2) = yq_cls c := rfl
theorem yl_g_def (c : SY) (x0 : Nat) (x1 : Nat → Nat) (x2 : Nat → Nat) : yq_def (yl_g c x0 x1 x2) = yq_def c := rfl
theorem yl_g_symbol (c : SY) (x0 : Nat) (x1 : Nat → Nat) (x2 : Nat → Nat) : yq_symbol (yl_g c x0 x1 x2) = yq_symbol c := rfl
theorem yl_g_finite (c : SY) (x0 : Nat) (x1 : Nat → Nat) (x2 : Nat → Nat) : yq_finite (yl_g c x0 x1 x2) = yq_finite c := rfl
def ye_g (c : SY) (x0 : Nat → Nat) (x1 : Nat → Nat) : SY := match c with
  | (f_maxWords, f_maxCells, f_maxLevels, f_maxFuel, f_count, f_depth, f_copyDepth, f_agenda, f_listSize, f_nodes, f_first, f_last, a_kinds, a_args, a_size, a_cellKind, a_cellVal, a_copyKind, a_copyVal, a_agKind, a_agVal, a_agLevel, a_list, a_pend, a_outer, a_begin, _, a_nodeKind, a_left, a_right, a_cls, a_def, _, a_finite) => (f_maxWords, f_maxCells, f_maxLevels, f_maxFuel, f_count, f_depth, f_copyDepth, f_agenda, f_listSize, f_nodes, f_first, f_last, a_kinds, a_args, a_size, a_cellKind, a_cellVal, a_copyKind, a_copyVal, a_agKind, a_agVal, a_agLevel, a_list, a_pend, a_outer, a_begin, sv_na x0, a_nodeKind, a_left, a_right, a_cls, a_def, sv_na x1, a_finite)
theorem ye_g_maxWords (c : SY) (x0 : Nat → Nat) (x1 : Nat → Nat) : yq_maxWords (ye_g c x0 x1) = yq_maxWords c := rfl
theorem ye_g_maxCells (c : SY) (x0 : Nat → Nat) (x1 : Nat → Nat) : yq_maxCells (ye_g c x0 x1) = yq_maxCells c := rfl
theorem ye_g_maxLevels (c : SY) (x0 : Nat → Nat) (x1 : Nat → Nat) : yq_maxLevels (ye_g c x0 x1) = yq_maxLevels c := rfl
theorem ye_g_maxFuel (c : SY) (x0 : Nat → Nat) (x1 : Nat → Nat) : yq_maxFuel (ye_g c x0 x1) = yq_maxFuel c := rfl
theorem ye_g_count (c : SY) (x0 : Nat → Nat) (x1 : Nat → Nat) : yq_count (ye_g c x0 x1) = yq_count c := rfl
theorem ye_g_depth (c : SY) (x0 : Nat → Nat) (x1 : Nat → Nat) : yq_depth (ye_g c x0 x1) = yq_depth c := rfl
theorem ye_g_copyDepth (c : SY) (x0 : Nat → Nat) (x1 : Nat → Nat) : yq_copyDepth (ye_g c x0 x1) = yq_copyDepth c := rfl
theorem ye_g_agenda (c : SY) (x0 : Nat → Nat) (x1 : Nat → Nat) : yq_agenda (ye_g c x0 x1) = yq_agenda c := rfl
theorem ye_g_listSize (c : SY) (x0 : Nat → Nat) (x1 : Nat → Nat) : yq_listSize (ye_g c x0 x1) = yq_listSize c := rfl
theorem ye_g_nodes (c : SY) (x0 : Nat → Nat) (x1 : Nat → Nat) : yq_nodes (ye_g c x0 x1) = yq_nodes c := rfl
theorem ye_g_first (c : SY) (x0 : Nat → Nat) (x1 : Nat → Nat) : yq_first (ye_g c x0 x1) = yq_first c := rfl
theorem ye_g_last (c : SY) (x0 : Nat → Nat) (x1 : Nat → Nat) : yq_last (ye_g c x0 x1) = yq_last c := rfl
theorem ye_g_kinds (c : SY) (x0 : Nat → Nat) (x1 : Nat → Nat) : yq_kinds (ye_g c x0 x1) = yq_kinds c := rfl
theorem ye_g_args (c : SY) (x0 : Nat → Nat) (x1 : Nat → Nat) : yq_args (ye_g c x0 x1) = yq_args c := rfl
theorem ye_g_size (c : SY) (x0 : Nat → Nat) (x1 : Nat → Nat) : yq_size (ye_g c x0 x1) = yq_size c := rfl
theorem ye_g_cellKind (c : SY) (x0 : Nat → Nat) (x1 : Nat → Nat) : yq_cellKind (ye_g c x0 x1) = yq_cellKind c := rfl
theorem ye_g_cellVal (c : SY) (x0 : Nat → Nat) (x1 : Nat → Nat) : yq_cellVal (ye_g c x0 x1) = yq_cellVal c := rfl
theorem ye_g_copyKind (c : SY) (x0 : Nat → Nat) (x1 : Nat → Nat) : yq_copyKind (ye_g c x0 x1) = yq_copyKind c := rfl
theorem ye_g_copyVal (c : SY) (x0 : Nat → Nat) (x1 : Nat → Nat) : yq_copyVal (ye_g c x0 x1) = yq_copyVal c := rfl
theorem ye_g_agKind (c : SY) (x0 : Nat → Nat) (x1 : Nat → Nat) : yq_agKind (ye_g c x0 x1) = yq_agKind c := rfl
theorem ye_g_agVal (c : SY) (x0 : Nat → Nat) (x1 : Nat → Nat) : yq_agVal (ye_g c x0 x1) = yq_agVal c := rfl
theorem ye_g_agLevel (c : SY) (x0 : Nat → Nat) (x1 : Nat → Nat) : yq_agLevel (ye_g c x0 x1) = yq_agLevel c := rfl
theorem ye_g_list (c : SY) (x0 : Nat → Nat) (x1 : Nat → Nat) : yq_list (ye_g c x0 x1) = yq_list c := rfl
theorem ye_g_pend (c : SY) (x0 : Nat → Nat) (x1 : Nat → Nat) : yq_pend (ye_g c x0 x1) = yq_pend c := rfl
theorem ye_g_outer (c : SY) (x0 : Nat → Nat) (x1 : Nat → Nat) : yq_outer (ye_g c x0 x1) = yq_outer c := rfl
theorem ye_g_begin (c : SY) (x0 : Nat → Nat) (x1 : Nat → Nat) : yq_begin (ye_g c x0 x1) = yq_begin c := rfl
theorem ye_g_todo (c : SY) (x0 : Nat → Nat) (x1 : Nat → Nat) : yq_todo (ye_g c x0 x1) = sv_na x0 := rfl
theorem ye_g_nodeKind (c : SY) (x0 : Nat → Nat) (x1 : Nat → Nat) : yq_nodeKind (ye_g c x0 x1) = yq_nodeKind c := rfl
theorem ye_g_left (c : SY) (x0 : Nat → Nat) (x1 : Nat → Nat) : yq_left (ye_g c x0 x1) = yq_left c := rfl
theorem ye_g_right (c : SY) (x0 : Nat → Nat) (x1 : Nat → Nat) : yq_right (ye_g c x0 x1) = yq_right c := rfl
theorem ye_g_cls (c : SY) (x0 : Nat → Nat) (x1 : Nat → Nat) : yq_cls (ye_g c x0 x1) = yq_cls c := rfl
theorem ye_g_def (c : SY) (x0 : Nat → Nat) (x1 : Nat → Nat) : yq_def (ye_g c x0 x1) = yq_def c := rfl
theorem ye_g_symbol (c : SY) (x0 : Nat → Nat) (x1 : Nat → Nat) : yq_symbol (ye_g c x0 x1) = sv_na x1 := rfl
theorem ye_g_finite (c : SY) (x0 : Nat → Nat) (x1 : Nat → Nat) : yq_finite (ye_g c x0 x1) = yq_finite c := rfl
def xr_g (c : SX) (x0 : Nat) (x1 : Nat) (x2 : Nat) (x3 : Nat → Nat) (x4 : Nat → Int32) (x5 : Nat → Nat) (x6 : Nat → Nat) (x7 : Nat → Nat) (x8 : Nat → Int32) : SX := match c with
  | (f_emptyRow, f_consRow, f_maxWords, f_maxCells, f_maxLevels, f_maxFuel, f_openTop, f_count, f_cellCount, f_nodes, f_sound, f_startRow, f_row, f_valueNames, f_rowNames, f_nested, _, _, _, a_tokKind, a_tokArg, a_match, a_length, a_weight, a_text, a_openStack, a_cellKind, a_cellValue, a_nodeKind, a_partA, a_partB, a_parent, a_mark, a_path, a_left, a_right, a_outerRow, a_outerStart, a_callPos, a_callEnd, _, _, _, _, _, _) => (f_emptyRow, f_consRow, f_maxWords, f_maxCells, f_maxLevels, f_maxFuel, f_openTop, f_count, f_cellCount, f_nodes, f_sound, f_startRow, f_row, f_valueNames, f_rowNames, f_nested, nI x0, nI x1, nI x2, a_tokKind, a_tokArg, a_match, a_length, a_weight, a_text, a_openStack, a_cellKind, a_cellValue, a_nodeKind, a_partA, a_partB, a_parent, a_mark, a_path, a_left, a_right, a_outerRow, a_outerStart, a_callPos, a_callEnd, sv_na x3, x4, sv_na x5, sv_na x6, sv_na x7, x8)
theorem xr_g_emptyRow (c : SX) (x0 : Nat) (x1 : Nat) (x2 : Nat) (x3 : Nat → Nat) (x4 : Nat → Int32) (x5 : Nat → Nat) (x6 : Nat → Nat) (x7 : Nat → Nat) (x8 : Nat → Int32) : xq_emptyRow (xr_g c x0 x1 x2 x3 x4 x5 x6 x7 x8) = xq_emptyRow c := rfl
theorem xr_g_consRow (c : SX) (x0 : Nat) (x1 : Nat) (x2 : Nat) (x3 : Nat → Nat) (x4 : Nat → Int32) (x5 : Nat → Nat) (x6 : Nat → Nat) (x7 : Nat → Nat) (x8 : Nat → Int32) : xq_consRow (xr_g c x0 x1 x2 x3 x4 x5 x6 x7 x8) = xq_consRow c := rfl
theorem xr_g_maxWords (c : SX) (x0 : Nat) (x1 : Nat) (x2 : Nat) (x3 : Nat → Nat) (x4 : Nat → Int32) (x5 : Nat → Nat) (x6 : Nat → Nat) (x7 : Nat → Nat) (x8 : Nat → Int32) : xq_maxWords (xr_g c x0 x1 x2 x3 x4 x5 x6 x7 x8) = xq_maxWords c := rfl
theorem xr_g_maxCells (c : SX) (x0 : Nat) (x1 : Nat) (x2 : Nat) (x3 : Nat → Nat) (x4 : Nat → Int32) (x5 : Nat → Nat) (x6 : Nat → Nat) (x7 : Nat → Nat) (x8 : Nat → Int32) : xq_maxCells (xr_g c x0 x1 x2 x3 x4 x5 x6 x7 x8) = xq_maxCells c := rfl
theorem xr_g_maxLevels (c : SX) (x0 : Nat) (x1 : Nat) (x2 : Nat) (x3 : Nat → Nat) (x4 : Nat → Int32) (x5 : Nat → Nat) (x6 : Nat → Nat) (x7 : Nat → Nat) (x8 : Nat → Int32) : xq_maxLevels (xr_g c x0 x1 x2 x3 x4 x5 x6 x7 x8) = xq_maxLevels c := rfl
theorem xr_g_maxFuel (c : SX) (x0 : Nat) (x1 : Nat) (x2 : Nat) (x3 : Nat → Nat) (x4 : Nat → Int32) (x5 : Nat → Nat) (x6 : Nat → Nat) (x7 : Nat → Nat) (x8 : Nat → Int32) : xq_maxFuel (xr_g c x0 x1 x2 x3 x4 x5 x6 x7 x8) = xq_maxFuel c := rfl
theorem xr_g_openTop (c : SX) (x0 : Nat) (x1 : Nat) (x2 : Nat) (x3 : Nat → Nat) (x4 : Nat → Int32) (x5 : Nat → Nat) (x6 : Nat → Nat) (x7 : Nat → Nat) (x8 : Nat → Int32) : xq_openTop (xr_g c x0 x1 x2 x3 x4 x5 x6 x7 x8) = xq_openTop c := rfl
theorem xr_g_count (c : SX) (x0 : Nat) (x1 : Nat) (x2 : Nat) (x3 : Nat → Nat) (x4 : Nat → Int32) (x5 : Nat → Nat) (x6 : Nat → Nat) (x7 : Nat → Nat) (x8 : Nat → Int32) : xq_count (xr_g c x0 x1 x2 x3 x4 x5 x6 x7 x8) = xq_count c := rfl
theorem xr_g_cellCount (c : SX) (x0 : Nat) (x1 : Nat) (x2 : Nat) (x3 : Nat → Nat) (x4 : Nat → Int32) (x5 : Nat → Nat) (x6 : Nat → Nat) (x7 : Nat → Nat) (x8 : Nat → Int32) : xq_cellCount (xr_g c x0 x1 x2 x3 x4 x5 x6 x7 x8) = xq_cellCount c := rfl
theorem xr_g_nodes (c : SX) (x0 : Nat) (x1 : Nat) (x2 : Nat) (x3 : Nat → Nat) (x4 : Nat → Int32) (x5 : Nat → Nat) (x6 : Nat → Nat) (x7 : Nat → Nat) (x8 : Nat → Int32) : xq_nodes (xr_g c x0 x1 x2 x3 x4 x5 x6 x7 x8) = xq_nodes c := rfl
theorem xr_g_sound (c : SX) (x0 : Nat) (x1 : Nat) (x2 : Nat) (x3 : Nat → Nat) (x4 : Nat → Int32) (x5 : Nat → Nat) (x6 : Nat → Nat) (x7 : Nat → Nat) (x8 : Nat → Int32) : xq_sound (xr_g c x0 x1 x2 x3 x4 x5 x6 x7 x8) = xq_sound c := rfl
theorem xr_g_startRow (c : SX) (x0 : Nat) (x1 : Nat) (x2 : Nat) (x3 : Nat → Nat) (x4 : Nat → Int32) (x5 : Nat → Nat) (x6 : Nat → Nat) (x7 : Nat → Nat) (x8 : Nat → Int32) : xq_startRow (xr_g c x0 x1 x2 x3 x4 x5 x6 x7 x8) = xq_startRow c := rfl
theorem xr_g_row (c : SX) (x0 : Nat) (x1 : Nat) (x2 : Nat) (x3 : Nat → Nat) (x4 : Nat → Int32) (x5 : Nat → Nat) (x6 : Nat → Nat) (x7 : Nat → Nat) (x8 : Nat → Int32) : xq_row (xr_g c x0 x1 x2 x3 x4 x5 x6 x7 x8) = xq_row c := rfl
theorem xr_g_valueNames (c : SX) (x0 : Nat) (x1 : Nat) (x2 : Nat) (x3 : Nat → Nat) (x4 : Nat → Int32) (x5 : Nat → Nat) (x6 : Nat → Nat) (x7 : Nat → Nat) (x8 : Nat → Int32) : xq_valueNames (xr_g c x0 x1 x2 x3 x4 x5 x6 x7 x8) = xq_valueNames c := rfl
theorem xr_g_rowNames (c : SX) (x0 : Nat) (x1 : Nat) (x2 : Nat) (x3 : Nat → Nat) (x4 : Nat → Int32) (x5 : Nat → Nat) (x6 : Nat → Nat) (x7 : Nat → Nat) (x8 : Nat → Int32) : xq_rowNames (xr_g c x0 x1 x2 x3 x4 x5 x6 x7 x8) = xq_rowNames c := rfl
theorem xr_g_nested (c : SX) (x0 : Nat) (x1 : Nat) (x2 : Nat) (x3 : Nat → Nat) (x4 : Nat → Int32) (x5 : Nat → Nat) (x6 : Nat → Nat) (x7 : Nat → Nat) (x8 : Nat → Int32) : xq_nested (xr_g c x0 x1 x2 x3 x4 x5 x6 x7 x8) = xq_nested c := rfl
theorem xr_g_runDepth (c : SX) (x0 : Nat) (x1 : Nat) (x2 : Nat) (x3 : Nat → Nat) (x4 : Nat → Int32) (x5 : Nat → Nat) (x6 : Nat → Nat) (x7 : Nat → Nat) (x8 : Nat → Int32) : xq_runDepth (xr_g c x0 x1 x2 x3 x4 x5 x6 x7 x8) = nI x0 := rfl
theorem xr_g_level (c : SX) (x0 : Nat) (x1 : Nat) (x2 : Nat) (x3 : Nat → Nat) (x4 : Nat → Int32) (x5 : Nat → Nat) (x6 : Nat → Nat) (x7 : Nat → Nat) (x8 : Nat → Int32) : xq_level (xr_g c x0 x1 x2 x3 x4 x5 x6 x7 x8) = nI x1 := rfl
theorem xr_g_spent (c : SX) (x0 : Nat) (x1 : Nat) (x2 : Nat) (x3 : Nat → Nat) (x4 : Nat → Int32) (x5 : Nat → Nat) (x6 : Nat → Nat) (x7 : Nat → Nat) (x8 : Nat → Int32) : xq_spent (xr_g c x0 x1 x2 x3 x4 x5 x6 x7 x8) = nI x2 := rfl
theorem xr_g_tokKind (c : SX) (x0 : Nat) (x1 : Nat) (x2 : Nat) (x3 : Nat → Nat) (x4 : Nat → Int32) (x5 : Nat → Nat) (x6 : Nat → Nat) (x7 : Nat → Nat) (x8 : Nat → Int32) : xq_tokKind (xr_g c x0 x1 x2 x3 x4 x5 x6 x7 x8) = xq_tokKind c := rfl
theorem xr_g_tokArg (c : SX) (x0 : Nat) (x1 : Nat) (x2 : Nat) (x3 : Nat → Nat) (x4 : Nat → Int32) (x5 : Nat → Nat) (x6 : Nat → Nat) (x7 : Nat → Nat) (x8 : Nat → Int32) : xq_tokArg (xr_g c x0 x1 x2 x3 x4 x5 x6 x7 x8) = xq_tokArg c := rfl
theorem xr_g_match (c : SX) (x0 : Nat) (x1 : Nat) (x2 : Nat) (x3 : Nat → Nat) (x4 : Nat → Int32) (x5 : Nat → Nat) (x6 : Nat → Nat) (x7 : Nat → Nat) (x8 : Nat → Int32) : xq_match (xr_g c x0 x1 x2 x3 x4 x5 x6 x7 x8) = xq_match c := rfl
theorem xr_g_length (c : SX) (x0 : Nat) (x1 : Nat) (x2 : Nat) (x3 : Nat → Nat) (x4 : Nat → Int32) (x5 : Nat → Nat) (x6 : Nat → Nat) (x7 : Nat → Nat) (x8 : Nat → Int32) : xq_length (xr_g c x0 x1 x2 x3 x4 x5 x6 x7 x8) = xq_length c := rfl
theorem xr_g_weight (c : SX) (x0 : Nat) (x1 : Nat) (x2 : Nat) (x3 : Nat → Nat) (x4 : Nat → Int32) (x5 : Nat → Nat) (x6 : Nat → Nat) (x7 : Nat → Nat) (x8 : Nat → Int32) : xq_weight (xr_g c x0 x1 x2 x3 x4 x5 x6 x7 x8) = xq_weight c := rfl
theorem xr_g_text (c : SX) (x0 : Nat) (x1 : Nat) (x2 : Nat) (x3 : Nat → Nat) (x4 : Nat → Int32) (x5 : Nat → Nat) (x6 : Nat → Nat) (x7 : Nat → Nat) (x8 : Nat → Int32) : xq_text (xr_g c x0 x1 x2 x3 x4 x5 x6 x7 x8) = xq_text c := rfl
theorem xr_g_openStack (c : SX) (x0 : Nat) (x1 : Nat) (x2 : Nat) (x3 : Nat → Nat) (x4 : Nat → Int32) (x5 : Nat → Nat) (x6 : Nat → Nat) (x7 : Nat → Nat) (x8 : Nat → Int32) : xq_openStack (xr_g c x0 x1 x2 x3 x4 x5 x6 x7 x8) = xq_openStack c := rfl
theorem xr_g_cellKind (c : SX) (x0 : Nat) (x1 : Nat) (x2 : Nat) (x3 : Nat → Nat) (x4 : Nat → Int32) (x5 : Nat → Nat) (x6 : Nat → Nat) (x7 : Nat → Nat) (x8 : Nat → Int32) : xq_cellKind (xr_g c x0 x1 x2 x3 x4 x5 x6 x7 x8) = xq_cellKind c := rfl
theorem xr_g_cellValue (c : SX) (x0 : Nat) (x1 : Nat) (x2 : Nat) (x3 : Nat → Nat) (x4 : Nat → Int32) (x5 : Nat → Nat) (x6 : Nat → Nat) (x7 : Nat → Nat) (x8 : Nat → Int32) : xq_cellValue (xr_g c x0 x1 x2 x3 x4 x5 x6 x7 x8) = xq_cellValue c := rfl
theorem xr_g_nodeKind (c : SX) (x0 : Nat) (x1 : Nat) (x2 : Nat) (x3 : Nat → Nat) (x4 : Nat → Int32) (x5 : Nat → Nat) (x6 : Nat → Nat) (x7 : Nat → Nat) (x8 : Nat → Int32) : xq_nodeKind (xr_g c x0 x1 x2 x3 x4 x5 x6 x7 x8) = xq_nodeKind c := rfl
theorem xr_g_partA (c : SX) (x0 : Nat) (x1 : Nat) (x2 : Nat) (x3 : Nat → Nat) (x4 : Nat → Int32) (x5 : Nat → Nat) (x6 : Nat → Nat) (x7 : Nat → Nat) (x8 : Nat → Int32) : xq_partA (xr_g c x0 x1 x2 x3 x4 x5 x6 x7 x8) = xq_partA c := rfl
theorem xr_g_partB (c : SX) (x0 : Nat) (x1 : Nat) (x2 : Nat) (x3 : Nat → Nat) (x4 : Nat → Int32) (x5 : Nat → Nat) (x6 : Nat → Nat) (x7 : Nat → Nat) (x8 : Nat → Int32) : xq_partB (xr_g c x0 x1 x2 x3 x4 x5 x6 x7 x8) = xq_partB c := rfl
theorem xr_g_parent (c : SX) (x0 : Nat) (x1 : Nat) (x2 : Nat) (x3 : Nat → Nat) (x4 : Nat → Int32) (x5 : Nat → Nat) (x6 : Nat → Nat) (x7 : Nat → Nat) (x8 : Nat → Int32) : xq_parent (xr_g c x0 x1 x2 x3 x4 x5 x6 x7 x8) = xq_parent c := rfl
theorem xr_g_mark (c : SX) (x0 : Nat) (x1 : Nat) (x2 : Nat) (x3 : Nat → Nat) (x4 : Nat → Int32) (x5 : Nat → Nat) (x6 : Nat → Nat) (x7 : Nat → Nat) (x8 : Nat → Int32) : xq_mark (xr_g c x0 x1 x2 x3 x4 x5 x6 x7 x8) = xq_mark c := rfl
theorem xr_g_path (c : SX) (x0 : Nat) (x1 : Nat) (x2 : Nat) (x3 : Nat → Nat) (x4 : Nat → Int32) (x5 : Nat → Nat) (x6 : Nat → Nat) (x7 : Nat → Nat) (x8 : Nat → Int32) : xq_path (xr_g c x0 x1 x2 x3 x4 x5 x6 x7 x8) = xq_path c := rfl
theorem xr_g_left (c : SX) (x0 : Nat) (x1 : Nat) (x2 : Nat) (x3 : Nat → Nat) (x4 : Nat → Int32) (x5 : Nat → Nat) (x6 : Nat → Nat) (x7 : Nat → Nat) (x8 : Nat → Int32) : xq_left (xr_g c x0 x1 x2 x3 x4 x5 x6 x7 x8) = xq_left c := rfl
theorem xr_g_right (c : SX) (x0 : Nat) (x1 : Nat) (x2 : Nat) (x3 : Nat → Nat) (x4 : Nat → Int32) (x5 : Nat → Nat) (x6 : Nat → Nat) (x7 : Nat → Nat) (x8 : Nat → Int32) : xq_right (xr_g c x0 x1 x2 x3 x4 x5 x6 x7 x8) = xq_right c := rfl
theorem xr_g_outerRow (c : SX) (x0 : Nat) (x1 : Nat) (x2 : Nat) (x3 : Nat → Nat) (x4 : Nat → Int32) (x5 : Nat → Nat) (x6 : Nat → Nat) (x7 : Nat → Nat) (x8 : Nat → Int32) : xq_outerRow (xr_g c x0 x1 x2 x3 x4 x5 x6 x7 x8) = xq_outerRow c := rfl
theorem xr_g_outerStart (c : SX) (x0 : Nat) (x1 : Nat) (x2 : Nat) (x3 : Nat → Nat) (x4 : Nat → Int32) (x5 : Nat → Nat) (x6 : Nat → Nat) (x7 : Nat → Nat) (x8 : Nat → Int32) : xq_outerStart (xr_g c x0 x1 x2 x3 x4 x5 x6 x7 x8) = xq_outerStart c := rfl
theorem xr_g_callPos (c : SX) (x0 : Nat) (x1 : Nat) (x2 : Nat) (x3 : Nat → Nat) (x4 : Nat → Int32) (x5 : Nat → Nat) (x6 : Nat → Nat) (x7 : Nat → Nat) (x8 : Nat → Int32) : xq_callPos (xr_g c x0 x1 x2 x3 x4 x5 x6 x7 x8) = xq_callPos c := rfl
theorem xr_g_callEnd (c : SX) (x0 : Nat) (x1 : Nat) (x2 : Nat) (x3 : Nat → Nat) (x4 : Nat → Int32) (x5 : Nat → Nat) (x6 : Nat → Nat) (x7 : Nat → Nat) (x8 : Nat → Int32) : xq_callEnd (xr_g c x0 x1 x2 x3 x4 x5 x6 x7 x8) = xq_callEnd c := rfl
theorem xr_g_runKind (c : SX) (x0 : Nat) (x1 : Nat) (x2 : Nat) (x3 : Nat → Nat) (x4 : Nat → Int32) (x5 : Nat → Nat) (x6 : Nat → Nat) (x7 : Nat → Nat) (x8 : Nat → Int32) : xq_runKind (xr_g c x0 x1 x2 x3 x4 x5 x6 x7 x8) = sv_na x3 := rfl
theorem xr_g_runValue (c : SX) (x0 : Nat) (x1 : Nat) (x2 : Nat) (x3 : Nat → Nat) (x4 : Nat → Int32) (x5 : Nat → Nat) (x6 : Nat → Nat) (x7 : Nat → Nat) (x8 : Nat → Int32) : xq_runValue (xr_g c x0 x1 x2 x3 x4 x5 x6 x7 x8) = x4 := rfl
theorem xr_g_framePos (c : SX) (x0 : Nat) (x1 : Nat) (x2 : Nat) (x3 : Nat → Nat) (x4 : Nat → Int32) (x5 : Nat → Nat) (x6 : Nat → Nat) (x7 : Nat → Nat) (x8 : Nat → Int32) : xq_framePos (xr_g c x0 x1 x2 x3 x4 x5 x6 x7 x8) = sv_na x5 := rfl
theorem xr_g_frameEnd (c : SX) (x0 : Nat) (x1 : Nat) (x2 : Nat) (x3 : Nat → Nat) (x4 : Nat → Int32) (x5 : Nat → Nat) (x6 : Nat → Nat) (x7 : Nat → Nat) (x8 : Nat → Int32) : xq_frameEnd (xr_g c x0 x1 x2 x3 x4 x5 x6 x7 x8) = sv_na x6 := rfl
theorem xr_g_savedKind (c : SX) (x0 : Nat) (x1 : Nat) (x2 : Nat) (x3 : Nat → Nat) (x4 : Nat → Int32) (x5 : Nat → Nat) (x6 : Nat → Nat) (x7 : Nat → Nat) (x8 : Nat → Int32) : xq_savedKind (xr_g c x0 x1 x2 x3 x4 x5 x6 x7 x8) = sv_na x7 := rfl
theorem xr_g_savedValue (c : SX) (x0 : Nat) (x1 : Nat) (x2 : Nat) (x3 : Nat → Nat) (x4 : Nat → Int32) (x5 : Nat → Nat) (x6 : Nat → Nat) (x7 : Nat → Nat) (x8 : Nat → Int32) : xq_savedValue (xr_g c x0 x1 x2 x3 x4 x5 x6 x7 x8) = x8 := rfl
def yr_g (c : SY) (x0 : Nat) (x1 : Nat) (x2 : Nat → Nat) (x3 : Nat → Int32) (x4 : Nat → Nat) (x5 : Nat → Int32) (x6 : Nat → Nat) : SY := match c with
  | (f_maxWords, f_maxCells, f_maxLevels, f_maxFuel, f_count, f_depth, _, _, f_listSize, f_nodes, f_first, f_last, a_kinds, a_args, a_size, a_cellKind, a_cellVal, _, _, _, _, _, a_list, a_pend, a_outer, a_begin, a_todo, a_nodeKind, a_left, a_right, a_cls, a_def, a_symbol, a_finite) => (f_maxWords, f_maxCells, f_maxLevels, f_maxFuel, f_count, f_depth, nI x0, nI x1, f_listSize, f_nodes, f_first, f_last, a_kinds, a_args, a_size, a_cellKind, a_cellVal, sv_na x2, x3, sv_na x4, x5, sv_na x6, a_list, a_pend, a_outer, a_begin, a_todo, a_nodeKind, a_left, a_right, a_cls, a_def, a_symbol, a_finite)
theorem yr_g_maxWords (c : SY) (x0 : Nat) (x1 : Nat) (x2 : Nat → Nat) (x3 : Nat → Int32) (x4 : Nat → Nat) (x5 : Nat → Int32) (x6 : Nat → Nat) : yq_maxWords (yr_g c x0 x1 x2 x3 x4 x5 x6) = yq_maxWords c := rfl
theorem yr_g_maxCells (c : SY) (x0 : Nat) (x1 : Nat) (x2 : Nat → Nat) (x3 : Nat → Int32) (x4 : Nat → Nat) (x5 : Nat → Int32) (x6 : Nat → Nat) : yq_maxCells (yr_g c x0 x1 x2 x3 x4 x5 x6) = yq_maxCells c := rfl
theorem yr_g_maxLevels (c : SY) (x0 : Nat) (x1 : Nat) (x2 : Nat → Nat) (x3 : Nat → Int32) (x4 : Nat → Nat) (x5 : Nat → Int32) (x6 : Nat → Nat) : yq_maxLevels (yr_g c x0 x1 x2 x3 x4 x5 x6) = yq_maxLevels c := rfl
theorem yr_g_maxFuel (c : SY) (x0 : Nat) (x1 : Nat) (x2 : Nat → Nat) (x3 : Nat → Int32) (x4 : Nat → Nat) (x5 : Nat → Int32) (x6 : Nat → Nat) : yq_maxFuel (yr_g c x0 x1 x2 x3 x4 x5 x6) = yq_maxFuel c := rfl
theorem yr_g_count (c : SY) (x0 : Nat) (x1 : Nat) (x2 : Nat → Nat) (x3 : Nat → Int32) (x4 : Nat → Nat) (x5 : Nat → Int32) (x6 : Nat → Nat) : yq_count (yr_g c x0 x1 x2 x3 x4 x5 x6) = yq_count c := rfl
theorem yr_g_depth (c : SY) (x0 : Nat) (x1 : Nat) (x2 : Nat → Nat) (x3 : Nat → Int32) (x4 : Nat → Nat) (x5 : Nat → Int32) (x6 : Nat → Nat) : yq_depth (yr_g c x0 x1 x2 x3 x4 x5 x6) = yq_depth c := rfl
theorem yr_g_copyDepth (c : SY) (x0 : Nat) (x1 : Nat) (x2 : Nat → Nat) (x3 : Nat → Int32) (x4 : Nat → Nat) (x5 : Nat → Int32) (x6 : Nat → Nat) : yq_copyDepth (yr_g c x0 x1 x2 x3 x4 x5 x6) = nI x0 := rfl
theorem yr_g_agenda (c : SY) (x0 : Nat) (x1 : Nat) (x2 : Nat → Nat) (x3 : Nat → Int32) (x4 : Nat → Nat) (x5 : Nat → Int32) (x6 : Nat → Nat) : yq_agenda (yr_g c x0 x1 x2 x3 x4 x5 x6) = nI x1 := rfl
theorem yr_g_listSize (c : SY) (x0 : Nat) (x1 : Nat) (x2 : Nat → Nat) (x3 : Nat → Int32) (x4 : Nat → Nat) (x5 : Nat → Int32) (x6 : Nat → Nat) : yq_listSize (yr_g c x0 x1 x2 x3 x4 x5 x6) = yq_listSize c := rfl
theorem yr_g_nodes (c : SY) (x0 : Nat) (x1 : Nat) (x2 : Nat → Nat) (x3 : Nat → Int32) (x4 : Nat → Nat) (x5 : Nat → Int32) (x6 : Nat → Nat) : yq_nodes (yr_g c x0 x1 x2 x3 x4 x5 x6) = yq_nodes c := rfl
theorem yr_g_first (c : SY) (x0 : Nat) (x1 : Nat) (x2 : Nat → Nat) (x3 : Nat → Int32) (x4 : Nat → Nat) (x5 : Nat → Int32) (x6 : Nat → Nat) : yq_first (yr_g c x0 x1 x2 x3 x4 x5 x6) = yq_first c := rfl
theorem yr_g_last (c : SY) (x0 : Nat) (x1 : Nat) (x2 : Nat → Nat) (x3 : Nat → Int32) (x4 : Nat → Nat) (x5 : Nat → Int32) (x6 : Nat → Nat) : yq_last (yr_g c x0 x1 x2 x3 x4 x5 x6) = yq_last c := rfl
theorem yr_g_kinds (c : SY) (x0 : Nat) (x1 : Nat) (x2 : Nat → Nat) (x3 : Nat → Int32) (x4 : Nat → Nat) (x5 : Nat → Int32) (x6 : Nat → Nat) : yq_kinds (yr_g c x0 x1 x2 x3 x4 x5 x6) = yq_kinds c := rfl
theorem yr_g_args (c : SY) (x0 : Nat) (x1 : Nat) (x2 : Nat → Nat) (x3 : Nat → Int32) (x4 : Nat → Nat) (x5 : Nat → Int32) (x6 : Nat → Nat) : yq_args (yr_g c x0 x1 x2 x3 x4 x5 x6) = yq_args c := rfl
theorem yr_g_size (c : SY) (x0 : Nat) (x1 : Nat) (x2 : Nat → Nat) (x3 : Nat → Int32) (x4 : Nat → Nat) (x5 : Nat → Int32) (x6 : Nat → Nat) : yq_size (yr_g c x0 x1 x2 x3 x4 x5 x6) = yq_size c := rfl
theorem yr_g_cellKind (c : SY) (x0 : Nat) (x1 : Nat) (x2 : Nat → Nat) (x3 : Nat → Int32) (x4 : Nat → Nat) (x5 : Nat → Int32) (x6 : Nat → Nat) : yq_cellKind (yr_g c x0 x1 x2 x3 x4 x5 x6) = yq_cellKind c := rfl
theorem yr_g_cellVal (c : SY) (x0 : Nat) (x1 : Nat) (x2 : Nat → Nat) (x3 : Nat → Int32) (x4 : Nat → Nat) (x5 : Nat → Int32) (x6 : Nat → Nat) : yq_cellVal (yr_g c x0 x1 x2 x3 x4 x5 x6) = yq_cellVal c := rfl
theorem yr_g_copyKind (c : SY) (x0 : Nat) (x1 : Nat) (x2 : Nat → Nat) (x3 : Nat → Int32) (x4 : Nat → Nat) (x5 : Nat → Int32) (x6 : Nat → Nat) : yq_copyKind (yr_g c x0 x1 x2 x3 x4 x5 x6) = sv_na x2 := rfl
theorem yr_g_copyVal (c : SY) (x0 : Nat) (x1 : Nat) (x2 : Nat → Nat) (x3 : Nat → Int32) (x4 : Nat → Nat) (x5 : Nat → Int32) (x6 : Nat → Nat) : yq_copyVal (yr_g c x0 x1 x2 x3 x4 x5 x6) = x3 := rfl
theorem yr_g_agKind (c : SY) (x0 : Nat) (x1 : Nat) (x2 : Nat → Nat) (x3 : Nat → Int32) (x4 : Nat → Nat) (x5 : Nat → Int32) (x6 : Nat → Nat) : yq_agKind (yr_g c x0 x1 x2 x3 x4 x5 x6) = sv_na x4 := rfl
theorem yr_g_agVal (c : SY) (x0 : Nat) (x1 : Nat) (x2 : Nat → Nat) (x3 : Nat → Int32) (x4 : Nat → Nat) (x5 : Nat → Int32) (x6 : Nat → Nat) : yq_agVal (yr_g c x0 x1 x2 x3 x4 x5 x6) = x5 := rfl
theorem yr_g_agLevel (c : SY) (x0 : Nat) (x1 : Nat) (x2 : Nat → Nat) (x3 : Nat → Int32) (x4 : Nat → Nat) (x5 : Nat → Int32) (x6 : Nat → Nat) : yq_agLevel (yr_g c x0 x1 x2 x3 x4 x5 x6) = sv_na x6 := rfl
theorem yr_g_list (c : SY) (x0 : Nat) (x1 : Nat) (x2 : Nat → Nat) (x3 : Nat → Int32) (x4 : Nat → Nat) (x5 : Nat → Int32) (x6 : Nat → Nat) : yq_list (yr_g c x0 x1 x2 x3 x4 x5 x6) = yq_list c := rfl
theorem yr_g_pend (c : SY) (x0 : Nat) (x1 : Nat) (x2 : Nat → Nat) (x3 : Nat → Int32) (x4 : Nat → Nat) (x5 : Nat → Int32) (x6 : Nat → Nat) : yq_pend (yr_g c x0 x1 x2 x3 x4 x5 x6) = yq_pend c := rfl
theorem yr_g_outer (c : SY) (x0 : Nat) (x1 : Nat) (x2 : Nat → Nat) (x3 : Nat → Int32) (x4 : Nat → Nat) (x5 : Nat → Int32) (x6 : Nat → Nat) : yq_outer (yr_g c x0 x1 x2 x3 x4 x5 x6) = yq_outer c := rfl
theorem yr_g_begin (c : SY) (x0 : Nat) (x1 : Nat) (x2 : Nat → Nat) (x3 : Nat → Int32) (x4 : Nat → Nat) (x5 : Nat → Int32) (x6 : Nat → Nat) : yq_begin (yr_g c x0 x1 x2 x3 x4 x5 x6) = yq_begin c := rfl
theorem yr_g_todo (c : SY) (x0 : Nat) (x1 : Nat) (x2 : Nat → Nat) (x3 : Nat → Int32) (x4 : Nat → Nat) (x5 : Nat → Int32) (x6 : Nat → Nat) : yq_todo (yr_g c x0 x1 x2 x3 x4 x5 x6) = yq_todo c := rfl
theorem yr_g_nodeKind (c : SY) (x0 : Nat) (x1 : Nat) (x2 : Nat → Nat) (x3 : Nat → Int32) (x4 : Nat → Nat) (x5 : Nat → Int32) (x6 : Nat → Nat) : yq_nodeKind (yr_g c x0 x1 x2 x3 x4 x5 x6) = yq_nodeKind c := rfl
theorem yr_g_left (c : SY) (x0 : Nat) (x1 : Nat) (x2 : Nat → Nat) (x3 : Nat → Int32) (x4 : Nat → Nat) (x5 : Nat → Int32) (x6 : Nat → Nat) : yq_left (yr_g c x0 x1 x2 x3 x4 x5 x6) = yq_left c := rfl
theorem yr_g_right (c : SY) (x0 : Nat) (x1 : Nat) (x2 : Nat → Nat) (x3 : Nat → Int32) (x4 : Nat → Nat) (x5 : Nat → Int32) (x6 : Nat → Nat) : yq_right (yr_g c x0 x1 x2 x3 x4 x5 x6) = yq_right c := rfl
theorem yr_g_cls (c : SY) (x0 : Nat) (x1 : Nat) (x2 : Nat → Nat) (x3 : Nat → Int32) (x4 : Nat → Nat) (x5 : Nat → Int32) (x6 : Nat → Nat) : yq_cls (yr_g c x0 x1 x2 x3 x4 x5 x6) = yq_cls c := rfl
theorem yr_g_def (c : SY) (x0 : Nat) (x1 : Nat) (x2 : Nat → Nat) (x3 : Nat → Int32) (x4 : Nat → Nat) (x5 : Nat → Int32) (x6 : Nat → Nat) : yq_def (yr_g c x0 x1 x2 x3 x4 x5 x6) = yq_def c := rfl
theorem yr_g_symbol (c : SY) (x0 : Nat) (x1 : Nat) (x2 : Nat → Nat) (x3 : Nat → Int32) (x4 : Nat → Nat) (x5 : Nat → Int32) (x6 : Nat → Nat) : yq_symbol (yr_g c x0 x1 x2 x3 x4 x5 x6) = yq_symbol c := rfl
theorem yr_g_finite (c : SY) (x0 : Nat) (x1 : Nat) (x2 : Nat → Nat) (x3 : Nat → Int32) (x4 : Nat → Nat) (x5 : Nat → Int32) (x6 : Nat → Nat) : yq_finite (yr_g c x0 x1 x2 x3 x4 x5 x6) = yq_finite c := rfl
end
end
section
/-! the reference: solve as a whole -/
section
variable {post : Int32 → SY → Prop}
def yg_t0 (u : SY) : sv_TY := (0, sv_tn (yq_first u), sv_tn (yq_last u), sv_tna (yq_nodeKind u), sv_tna (yq_left u), sv_tna (yq_right u), sv_tna (yq_cls u), sv_tna (yq_def u), sv_tna (yq_symbol u), sv_tna (yq_finite u), sv_tna (yq_outer u), sv_tna (yq_begin u))
theorem yg_t0e (u : SY) : ys_nodes u 0 = gy u (yg_t0 u) := by
  obtain ⟨a1, a2, a3, a4, a5, a6, a7, a8, a9, a10, a11, a12, a13, a14, a15, a16, a17, a18, a19, a20, a21, a22, a23, a24, a25, a26, a27, a28, a29, a30, a31, a32, a33, a34⟩ := u
  simp only [ys_nodes, gy, yg_t0, yq_first, yq_last, yq_nodeKind, yq_left, yq_right, yq_cls, yq_def, yq_symbol, yq_finite, yq_outer, yq_begin, sv_tnI, sv_tnaI]
  rfl
def yg_fl (t : sv_TY) : sv_TY := (ty_n t, 0, 0, ty_K t, ty_L t, ty_R t, ty_C t, ty_E t, ty_S t, ty_F t, ty_o t, ty_b t)
theorem yg_fl_st {u : SY} {t : sv_TY} : ys_first_last (gy u t) (nI 0) (nI 0) = gy u (yg_fl t) := rfl
/-- what solve leaves when it answers 1 -/
def yg_ok (L : List Nat) (z : Prop) (t : sv_TY) (C E : Nat → Nat) : Prop := yo_G t ∧ 0 < ty_n t ∧ ty_la t < ty_n t ∧ ty_fi t < ty_n t ∧ (∀ i, i < ty_n t → C i < ty_n t ∧ C (C i) = C i) ∧ (∀ i, i < ty_n t → yf_r C E i < ty_n t) ∧ sv_PG L z (ty_n t) (yn_K t) (yn_A t) (yn_B t) (yf_r C E) (ty_fi t) (ty_la t)
theorem yg_solve {u : SY} {k0 len : Nat} {ls : Nat → Nat} {z : Prop} (hk : (k0 = 5 ∧ z) ∨ (k0 = 6 ∧ ¬ z)) (hls : yq_list u = sv_na ls) (hlen : yq_listSize u = nI len) (hl : len ≤ 32) (hkd : ∀ j, j < len → 1 ≤ ls j ∧ ls j ≤ 13 ∧ ls j ≠ 2) (hok : sv_ok 0 (yl_L ls 0 len)) (hdp : sv_dp 0 (yl_L ls 0 len) = 0)
    (h1 : ∀ t C E F, yg_ok (yl_L ls 0 len) z t C E → post 1 (gy u (yo_ef t C E F))) (h0 : ∀ t, (∀ s e, ¬ sv_Sol (yl_L ls 0 len) z s e) → post 0 (gy u t)) : wpY_solve post u (nI k0) := by
  rw [we_Y_solve, yg_t0e]
  have kl : k0 = 5 ∨ k0 = 6 := by rcases hk with ⟨q, _⟩ | ⟨q, _⟩ <;> omega
  have G0 : yo_G (yg_t0 u) := ⟨by show 0 ≤ 320; omega, fun i hi => absurd hi (Nat.not_lt_zero i), fun i hi => absurd hi (Nat.not_lt_zero i), fun i hi => absurd hi (Nat.not_lt_zero i), fun i hi => absurd hi (Nat.not_lt_zero i)⟩
  have ok0 : yo_ok (yg_t0 u) k0 0 0 := ⟨by omega, fun _ => rfl, ⟨Nat.le_refl _, fun _ _ => ⟨rfl, rfl⟩⟩, Nat.le_refl _, fun q => by omega, fun q => by omega⟩
  refine yo_node (t := yg_t0 u) (k := k0) (l := 0) (r := 0) (by show 0 < 320; omega) ?_
  have G1 : yo_G (yg_fl (yo_mk (yg_t0 u) k0 0 0)) := yo_mk_G G0 (by show 0 < 320; omega) ok0
  rw [show nI (ty_n (yg_t0 u)) = nI 0 from rfl, yg_fl_st]
  have n1 : ty_n (yg_fl (yo_mk (yg_t0 u) k0 0 0)) = 1 := rfl
  have ok1 : yo_ok (yg_fl (yo_mk (yg_t0 u) k0 0 0)) 1 0 0 := ⟨by omega, fun q => by omega, ⟨Nat.zero_le _, fun _ _ => ⟨rfl, rfl⟩⟩, Nat.zero_le _, fun q => by omega, fun q => by omega⟩
  refine yo_node (t := yg_fl (yo_mk (yg_t0 u) k0 0 0)) (k := 1) (l := 0) (r := 0) (by rw [n1]; omega) ?_
  have key : ∀ t2 : sv_TY, t2 = yo_mk (yg_fl (yo_mk (yg_t0 u) k0 0 0)) 1 0 0 → ∃ n43, lqY_solve_43 post 1 0 (nI 1) n43 0 0 (gy u t2) := by
    intro t2 et2
    have G2 : yo_G t2 := by rw [et2]; exact yo_mk_G G1 (by rw [n1]; omega) ok1
    have n2 : ty_n t2 = 2 := by rw [et2]; rfl
    have fi2 : ty_fi t2 = 0 := by rw [et2]; rfl
    have la2 : ty_la t2 = 0 := by rw [et2]; rfl
    have k20 : yn_K t2 0 = yn_k k0 := by
      rw [et2, yn_K_mk, n1, sv_uo (by omega)]
      show yn_K (yo_mk (yg_t0 u) k0 0 0) 0 = _
      rw [yn_K_mk]
      show sv_un (yn_K (yg_t0 u)) 0 (yn_k k0) 0 = _
      exact sv_us
    have k21 : yn_K t2 1 = 1 := by
      rw [et2, yn_K_mk, n1, sv_us]; rfl
    have rb0 : sv_rb (yn_K t2 0) = true := by rw [k20]; rcases kl with q | q <;> rw [q] <;> rfl
    have I2 : yo_I t2 0 := ⟨G2, by rw [la2, n2]; exact ⟨by omega, rb0⟩, by rw [fi2, n2]; exact ⟨by omega, rb0⟩, by omega, fun k hk => absurd hk (Nat.not_lt_zero k)⟩
    have V2 : ∀ s, (z → s = sv_lf 4) → ∃ m, yo_V t2 m ∧ m 0 = s := by
      intro s hs
      have v0 : yo_V (yg_t0 u) (fun _ => s) := fun i hi => absurd hi (Nat.not_lt_zero i)
      have v1 : yo_V (yo_mk (yg_t0 u) k0 0 0) (sv_un (fun _ => s) 0 s) := yo_mk_V2 (T := s) G0 ok0 v0 (by
        rcases hk with ⟨q, hz⟩ | ⟨q, hz⟩
        · rw [q, hs hz]
          exact ⟨fun w => absurd w (by decide), fun _ => rfl, fun w => absurd w (by decide), fun w => absurd w (by decide)⟩
        · rw [q]; exact xo_nsv (Or.inr rfl))
      have v2 := yo_mk_V2 (t := yg_fl (yo_mk (yg_t0 u) k0 0 0)) (T := sv_lf 1) G1 ok1 v1 xo_ns1
      rw [← et2] at v2
      refine ⟨_, v2, ?_⟩
      show sv_un (sv_un (fun _ => s) 0 s) 1 (sv_lf 1) 0 = s
      rw [sv_uo (by omega), sv_us]
    have vw2 : ∀ m : Nat → Nat, yo_vw m t2 0 = (m 0, m 0, []) := fun m => by
      unfold yo_vw yo_bg
      rw [la2, fi2, if_pos rfl]; rfl
    refine ⟨len + 1, ys_loop hls hlen hl len (len + 1) t2 0 0 (by omega) (by omega) I2 ⟨by omega, k21⟩ (by omega) (by omega) (fun j _ j2 => hkd j j2) hok (fun t op SL => ?_)⟩
    obtain ⟨s1, s2, s3, s4, s5, s6, s7⟩ := SL
    rw [hdp] at s5
    subst s5
    have fi : ty_fi t = 0 := s4.trans fi2
    have vwt : ∀ m : Nat → Nat, yo_vw m t 0 = (m (ty_la t), m (ty_fi t), []) := fun m => by
      unfold yo_vw yo_bg
      rw [if_pos rfl]; rfl
    have two : ∀ s e, sv_Sol (yl_L ls 0 len) z s e → ∃ m, yo_V t m ∧ m (ty_fi t) = s ∧ m (ty_la t) = e := by
      intro s e hS
      obtain ⟨m0, v0, q0⟩ := V2 s hS.1
      obtain ⟨m', v', ag, q⟩ := s7 m0 (e, s, []) v0 (by rw [vw2, q0]; exact hS.2)
      rw [vwt] at q
      injection q with q1 q2
      injection q2 with q2 q3
      exact ⟨m', v', q2, q1⟩
    refine yf_end s1.1 (by omega) (fun C E F no => ?_) (fun C E F W D nc c1 => ?_)
    · refine h0 _ (fun s e hS => ?_)
      obtain ⟨m, v, _⟩ := two s e hS
      exact no m v
    · obtain ⟨p1, p2, p3⟩ := yf_PG0 s1.1 W D nc
      refine h1 t C E F ⟨s1.1, by omega, s1.2.1.1, s1.2.2.1.1, W.1.1, fun i hi => (p1 i hi).1, p1, s1.1.2.2.1, p2, sv_cv_of _ c1, s1.2.2.1.1, s1.2.1.1, s1.2.2.1.2, s1.2.1.2, fun hz => ?_, fun m hm => ?_, fun s e hS => ?_⟩
      · rw [s3 0 (by omega), k20]
        rcases hk with ⟨_, q⟩ | ⟨q, _⟩
        · exact absurd q hz
        · rw [q]; decide
      · obtain ⟨v2, q⟩ := s6 m ((p3 m).mp hm)
        rw [vw2, vwt, fi] at q
        rw [fi]
        refine ⟨fun hz => ?_, q⟩
        rcases hk with ⟨q5, _⟩ | ⟨_, q6⟩
        · exact (v2 0 (by omega)).2.2.1 (by rw [k20, q5]; rfl)
        · exact absurd hz q6
      · obtain ⟨m, v, q1, q2⟩ := two s e hS
        exact ⟨m, (p3 m).mpr v, q1, q2⟩
  exact key _ rfl
end
end
section
/-! brackets by sums; the reference's balance and after -/
section
def bs_g (k : Nat) : Int := if k = 3 then 1 else if k = 4 then -1 else 0
def bs_S (kd : Nat → Nat) : Nat → Int
  | 0 => 0
  | p + 1 => bs_S kd p + bs_g (kd p)
theorem bs_S_congr {kd kd' : Nat → Nat} : ∀ p, (∀ j, j < p → kd' j = kd j) → bs_S kd' p = bs_S kd p
  | 0, _ => rfl
  | p + 1, h => by
    show bs_S kd' p + bs_g (kd' p) = bs_S kd p + bs_g (kd p)
    rw [bs_S_congr p (fun j hj => h j (by omega)), h p (by omega)]
theorem bs_3 {kd : Nat → Nat} {p : Nat} (h : kd p = 3) : bs_S kd (p + 1) = bs_S kd p + 1 := by
  show bs_S kd p + bs_g (kd p) = _; rw [h]; rfl
theorem bs_4 {kd : Nat → Nat} {p : Nat} (h : kd p = 4) : bs_S kd (p + 1) = bs_S kd p - 1 := by
  show bs_S kd p + bs_g (kd p) = _; rw [h]; rfl
theorem bs_n {kd : Nat → Nat} {p : Nat} (h : kd p ≠ 3) (h' : kd p ≠ 4) : bs_S kd (p + 1) = bs_S kd p := by
  show bs_S kd p + bs_g (kd p) = _
  have : bs_g (kd p) = 0 := by unfold bs_g; rw [if_neg h, if_neg h']
  rw [this]; omega
variable {u : SY} {kd : Nat → Nat}
theorem yb_l {post : Int32 → Prop} (hK : yq_kinds u = sv_na kd) {a b : Nat} (hb : b ≤ 256) (hk : ∀ j, a ≤ j → j < b → kd j ≤ 13) (hp : ∀ j, a ≤ j → j ≤ b → bs_S kd a ≤ bs_S kd j) (h : ∀ n : Nat, bs_S kd b = bs_S kd a + n → post (nI n)) :
    ∀ N p n : Nat, a ≤ p → p ≤ b → b - p < N → bs_S kd p = bs_S kd a + n → n ≤ p → lqY_balance_5 post (nI b) N (nI n) (nI p) u := by
  intro N
  induction N with
  | zero => intro p n _ _ hN; omega
  | succ N ih =>
    intro p n h1 h2 hN e hnp
    rw [lqY_balance_5_s, hK]
    refine pk_le b p (fun hge => ?_) (fun hlt => ?_) rfl rfl (by omega) (by omega)
    · have q : p = b := by omega
      rw [q] at e
      exact h n e
    · have hi : vp_in (nI p) 256 := vp_in_nI (by omega) (by omega)
      have kl := hk p h1 hlt
      have nx := hp (p + 1) (by omega) (by omega)
      rw [sv_naA (by omega)]
      refine ⟨hi, pk_eq (kd p) 3 (fun e3 => ?_) (fun e3 => ⟨hi, pk_eq (kd p) 4 (fun e4 => ?_) (fun e4 => ?_) rfl rfl (by omega) (by omega)⟩) rfl rfl (by omega) (by omega)⟩
      · have s := bs_3 (kd := kd) e3
        exact nm_r (nI_1 n) (nm_r (nI_1 p) (ih (p + 1) (n + 1) (by omega) (by omega) (by omega) (by omega) (by omega)))
      · have s := bs_4 (kd := kd) e4
        obtain ⟨n', hn'⟩ : ∃ n', n = n' + 1 := ⟨n - 1, by omega⟩
        subst hn'
        exact nm_r (pk_m1 n') (nm_r (nI_1 p) (ih (p + 1) n' (by omega) (by omega) (by omega) (by omega) (by omega)))
      · have s := bs_n (kd := kd) e3 e4
        have z : nI n + 0 = nI n := nI_add n 0
        exact nm_r z (nm_r (nI_1 p) (ih (p + 1) n (by omega) (by omega) (by omega) (by omega) (by omega)))
theorem yb_bal {post : Int32 → Prop} (hK : yq_kinds u = sv_na kd) {a b : Nat} (hab : a ≤ b) (hb : b ≤ 256) (hk : ∀ j, a ≤ j → j < b → kd j ≤ 13) (hp : ∀ j, a ≤ j → j ≤ b → bs_S kd a ≤ bs_S kd j) (h : ∀ n : Nat, bs_S kd b = bs_S kd a + n → n ≤ 256 → post (nI n)) : wpY_balance post u (nI a) (nI b) := by
  rw [we_Y_balance]
  refine ⟨b - a + 1, yb_l hK hb hk hp (fun n e => h n e ?_) _ a 0 (Nat.le_refl a) hab (by omega) (by omega) (Nat.zero_le _)⟩
  have key : ∀ d, bs_S kd (a + d) ≤ bs_S kd a + d := by
    intro d
    induction d with
    | zero => show bs_S kd a ≤ _; omega
    | succ d ih =>
      show bs_S kd (a + d) + bs_g (kd (a + d)) ≤ _
      have : bs_g (kd (a + d)) ≤ 1 := by
        unfold bs_g
        split
        · omega
        · split <;> omega
      omega
  have := key (b - a)
  rw [show a + (b - a) = b by omega] at this
  omega
/-- the mate of an open bracket -/
def bs_M (kd : Nat → Nat) (p q : Nat) : Prop := p < q ∧ kd p = 3 ∧ kd q = 4 ∧ (∀ j, p < j → j ≤ q → bs_S kd p + 1 ≤ bs_S kd j) ∧ bs_S kd (q + 1) = bs_S kd p
theorem yb_after {post : Int32 → Prop} (hK : yq_kinds u = sv_na kd) {p q : Nat} (M : bs_M kd p q) (hq : q < 255) (hk : ∀ j, p ≤ j → j ≤ q → kd j ≤ 13) (h : post (nI (q + 1))) : wpY_after post u (nI p) := by
  obtain ⟨m1, m2, m3, m4, m5⟩ := M
  rw [we_Y_after]
  refine nm_r (nI_1 p) ⟨q - p + 1, ?_⟩
  have key : ∀ N x, p < x → x ≤ q + 1 → q + 1 - x < N → lqY_after_4 post (nI p) N (nI x) u := by
    intro N
    induction N with
    | zero => intro x _ _ hN; omega
    | succ N ih =>
      intro x h1 h2 hN
      rw [lqY_after_4_s]
      refine br_f (show ¬ nI 256 ≤ nI x from nI_ge (by omega) (by omega)) ?_
      refine yb_bal hK (by omega) (by omega) (fun j j1 j2 => hk j j1 (by omega)) (fun j j1 j2 => ?_) (fun n e hn => ?_)
      · by_cases z : j = p
        · rw [z]; omega
        · by_cases z2 : j ≤ q
          · have := m4 j (by omega) z2; omega
          · rw [show j = q + 1 by omega]; omega
      · refine pk_eq n 0 (fun z => ?_) (fun z => ?_) rfl rfl (by omega) (by omega)
        · have q2 : x = q + 1 := by
            by_cases z2 : x ≤ q
            · have := m4 x h1 z2; omega
            · omega
          rw [q2]; exact h
        · have q2 : x ≤ q := by
            by_cases z2 : x = q + 1
            · rw [z2] at e; omega
            · omega
          exact nm_r (nI_1 x) (ih (x + 1) (by omega) (by omega) (by omega))
  exact key _ (p + 1) (by omega) (by omega) (by omega)
end
end
section
/-! the reference: unfold -/
section
def pl_L (g : Nat → List Nat) : List Nat → List Nat
  | [] => []
  | p :: l => g p ++ pl_L g l
def pl_W (g : Nat → Nat) : List Nat → Nat
  | [] => 0
  | p :: l => g p + pl_W g l
def pl_r : Nat → Nat → List Nat
  | _, 0 => []
  | p, m + 1 => p :: pl_r (p + 1) m
theorem pl_L_r {g : Nat → List Nat} {l : List Nat} : ∀ m p, pl_L g (pl_r p m ++ l) = wd_L g p m ++ pl_L g l
  | 0, _ => rfl
  | m + 1, p => by
    show g p ++ pl_L g (pl_r (p + 1) m ++ l) = (g p ++ wd_L g (p + 1) m) ++ pl_L g l
    rw [pl_L_r m (p + 1), List.append_assoc]
theorem pl_W_r {g : Nat → Nat} {l : List Nat} : ∀ m p, pl_W g (pl_r p m ++ l) = wd_W g p m + pl_W g l
  | 0, _ => by show pl_W g l = 0 + _; omega
  | m + 1, p => by
    show g p + pl_W g (pl_r (p + 1) m ++ l) = (g p + wd_W g (p + 1) m) + pl_W g l
    rw [pl_W_r m (p + 1)]; omega
theorem pl_r_mem : ∀ m p x, x ∈ pl_r p m → p ≤ x ∧ x < p + m
  | 0, _, _, h => by cases h
  | m + 1, p, x, h => by
    rcases List.mem_cons.mp h with e | e
    · omega
    · have := pl_r_mem m (p + 1) x e; omega
theorem pl_W_len {g : Nat → Nat} (h : ∀ p, 1 ≤ g p) : ∀ l : List Nat, l.length ≤ pl_W g l
  | [] => Nat.le_refl 0
  | p :: l => by
    have := pl_W_len h l
    have := h p
    show l.length + 1 ≤ g p + pl_W g l
    omega
theorem yl_L_app {ls : Nat → Nat} {x : Nat} : ∀ m i, yl_L (sv_un ls (i + m) x) i (m + 1) = yl_L ls i m ++ [x]
  | 0, i => by
    show sv_un ls i x i :: [] = [x]
    rw [sv_us]
  | m + 1, i => by
    show sv_un ls (i + (m + 1)) x i :: yl_L (sv_un ls (i + (m + 1)) x) (i + 1) (m + 1) = ls i :: (yl_L ls (i + 1) m ++ [x])
    rw [sv_uo (by omega), show i + (m + 1) = i + 1 + m by omega, yl_L_app m (i + 1)]
theorem yl_L_len {ls : Nat → Nat} : ∀ m i, (yl_L ls i m).length = m
  | 0, _ => rfl
  | m + 1, i => by show (yl_L ls (i + 1) m).length + 1 = m + 1; rw [yl_L_len m (i + 1)]
theorem xt_tk_len {Q : Nat → Nat} : ∀ k, (xt_tk Q k).length = k
  | 0 => rfl
  | k + 1 => by show (xt_tk Q k).length + 1 = k + 1; rw [xt_tk_len k]
theorem sv_lt_m1 {a : Nat} (h : a < 2 ^ 30) : nI a - 1 < nI a := by
  cases a with
  | zero => decide
  | succ a => rw [nI_pred]; exact nI_lt (by omega) (by omega)
theorem sv_m1 (x : Int32) : x + (-1) = x - 1 := by rw [Int32.sub_eq_add_neg]
variable {c : SY} {kd ln wt : Nat → Nat} {ag : Nat → Int32} {fw : Nat → List Nat} {cnt : Nat} {post : Int32 → SY → Prop}
theorem yl_sp {len : Nat} {ls pd pd' : Nat → Nat} : ys_pend (yl_g c len ls pd) (sv_na pd') = yl_g c len ls pd' := rfl
theorem yl_sl {len len' : Nat} {ls ls' pd : Nat → Nat} : ys_listSize_list (yl_g c len ls pd) (nI len') (sv_na ls') = yl_g c len' ls' pd := rfl
/-- a token that unfold may meet -/
def yu_ok (kd : Nat → Nat) (ag : Nat → Int32) (cnt p : Nat) : Prop := p < 256 ∧ 1 ≤ kd p ∧ kd p ≤ 13 ∧ (kd p = 2 → ∃ v, v < cnt ∧ ag p = nI v)
/-- a word's tokens go onto the stack -/
theorem yu_118 {J : Int32 → Int32 → Int32 → SY → Prop} {x4 : Int32} {step v len : Nat} {ls : Nat → Nat} (hv : v < 8) :
    ∀ N r top pd, top + r < 64 → r ≤ 32 → r < N → (∀ pd', xt_tk pd' (top + r) = pl_r (32 * v) r ++ xt_tk pd top → J (nI (top + r)) x4 (nI (step + 1)) (yl_g c len ls pd')) → lqY_unfold_118 post J x4 (nI step) (nI v) N (nI top) (nI r - 1) (yl_g c len ls pd) := by
  intro N
  induction N with
  | zero => intro r top pd _ _ hN; omega
  | succ N ih =>
    intro r top pd ht hr hN h
    rw [lqY_unfold_118_s, yl_g_pend]
    cases r with
    | zero => exact br_t (by decide) (nm_r (nI_1 step) (h pd rfl))
    | succ r =>
      rw [nI_pred]
      refine br_f (nI_pos (by omega)) (nm_r (nI_1 top) ⟨vp_in_nI (by omega) (by omega), ?_⟩)
      have e1 : (32 : Int32) * nI v + nI r = nI (32 * v + r) := by rw [show (32 : Int32) * nI v = nI (32 * v) from pk_mul 32 v, nI_add]
      rw [e1, sv_naU (by omega)]
      refine nm_e ?_
      rw [sv_m1]
      refine nm_e ?_
      rw [yl_sp]
      refine ih r (top + 1) _ (by omega) (by omega) (by omega) (fun pd' e => ?_)
      rw [show top + 1 + r = top + (r + 1) by omega] at e ⊢
      refine h pd' (e.trans ?_)
      have sp : ∀ m p, pl_r p (m + 1) = pl_r p m ++ [p + m] := by
        intro m
        induction m with
        | zero => intro p; rfl
        | succ m im => intro p; show p :: pl_r (p + 1) (m + 1) = p :: (pl_r (p + 1) m ++ [p + (m + 1)]); rw [im (p + 1), show p + 1 + m = p + (m + 1) by omega]
      rw [sp r (32 * v), List.append_assoc]
      show _ ++ (sv_un pd top (32 * v + r) top :: xt_tk (sv_un pd top (32 * v + r)) top) = _
      rw [sv_us, xt_tk_congr top (fun j hj => sv_uo (by omega))]; rfl
/-- the loop over the pending tokens -/
theorem yu_36 (hK : yq_kinds c = sv_na kd) (hA : yq_args c = ag) (hS : yq_size c = sv_na ln) (WD : wd_ok kd ln wt ag fw cnt) :
    ∀ N top step w len ls pd, (∀ p, p ∈ xt_tk pd top → yu_ok kd ag cnt p) → step + pl_W (wd_tW kd ag wt) (xt_tk pd top) ≤ 60 → pl_W (wd_tW kd ag wt) (xt_tk pd top) < N → len + (pl_L (wd_tL kd ag fw) (xt_tk pd top)).length ≤ 600 →
      (∀ len' ls' pd', yl_L ls' 0 len' = yl_L ls 0 len ++ pl_L (wd_tL kd ag fw) (xt_tk pd top) → len' = len + (pl_L (wd_tL kd ag fw) (xt_tk pd top)).length → post (nI (w + pl_W (wd_tW kd ag wt) (xt_tk pd top))) (yl_g c len' ls' pd')) →
      lqY_unfold_36 post N (nI top) (nI w) (nI step) (yl_g c len ls pd) := by
  intro N
  induction N with
  | zero => intro top step w len ls pd _ _ hN; omega
  | succ N ih =>
    intro top step w len ls pd hp hst hN hlen h
    rw [lqY_unfold_36_s, yl_g_pend, yl_g_args, yl_g_kinds, yl_g_size, yl_g_listSize, yl_g_list, hK, hA, hS]
    refine br_f (show ¬ nI 64 ≤ nI step from nI_ge (by omega) (by omega)) ?_
    cases top with
    | zero => exact br_t (by decide) (h len ls pd (List.append_nil _).symm (Nat.add_zero _).symm)
    | succ top =>
      have tl := pl_W_len (g := wd_tW kd ag wt) wd_tW1 (xt_tk pd (top + 1))
      rw [xt_tk_len] at tl
      have tl2 := pl_W_len (g := wd_tW kd ag wt) wd_tW1 (xt_tk pd top)
      rw [xt_tk_len] at tl2
      obtain ⟨p1, p2, p3, p4⟩ := hp (pd top) (List.mem_cons_self ..)
      have eW : pl_W (wd_tW kd ag wt) (xt_tk pd (top + 1)) = wd_tW kd ag wt (pd top) + pl_W (wd_tW kd ag wt) (xt_tk pd top) := rfl
      have eL : pl_L (wd_tL kd ag fw) (xt_tk pd (top + 1)) = wd_tL kd ag fw (pd top) ++ pl_L (wd_tL kd ag fw) (xt_tk pd top) := rfl
      rw [eW] at hst hN h tl
      rw [eL] at hlen h
      have hb : vp_in (nI (pd top)) 256 := vp_in_nI p1 (by omega)
      refine br_f (nI_nle (by omega) (by omega)) (nm_r (pk_m1 top) ⟨vp_in_nI (by omega) (by omega), nm_r (sv_naA (by omega)) ⟨hb, ?_⟩⟩)
      rw [nI_clamp (show pd top < 2 ^ 31 by omega)]
      refine nm_e (nm_r (nI_1 w) ⟨hb, ?_⟩)
      rw [sv_naA0]
      refine pk_eq (kd (pd top)) 2 (fun k => ?_) (fun k => ?_) rfl rfl (by omega) (by omega)
      · obtain ⟨v, v1, ev⟩ := p4 k
        have wc := WD.1
        obtain ⟨x1, x2, x3, x4⟩ := WD.2 v v1
        have xl := wd_ln WD v1
        rw [wd_tW2 k (by omega) ev] at hst hN h tl
        rw [wd_tL2 k (by omega) ev] at hlen h
        rw [ev]
        refine ⟨vp_in_nI (by omega) (by omega), ?_⟩
        rw [sv_naA (by omega)]
        refine nm_e ⟨ln v + 1, ?_⟩
        refine yu_118 (by omega) _ (ln v) top pd (by omega) (by omega) (by omega) (fun pd' e => ?_)
        have eW' : pl_W (wd_tW kd ag wt) (xt_tk pd' (top + ln v)) = wt v + pl_W (wd_tW kd ag wt) (xt_tk pd top) := by rw [e, pl_W_r, ← x2]
        have eL' : pl_L (wd_tL kd ag fw) (xt_tk pd' (top + ln v)) = fw v ++ pl_L (wd_tL kd ag fw) (xt_tk pd top) := by rw [e, pl_L_r, ← x3]
        refine ih (top + ln v) (step + 1) (w + 1) len ls pd' (fun q hq => ?_) (by rw [eW']; omega) (by rw [eW']; omega) (by rw [eL']; exact hlen) (fun len' ls' pd'' a1 a2 => ?_)
        · rw [e] at hq
          rcases List.mem_append.mp hq with hq | hq
          · have := pl_r_mem _ _ _ hq
            obtain ⟨y1, y2, y3⟩ := x4 (q - 32 * v) (by omega)
            rw [show 32 * v + (q - 32 * v) = q by omega] at y1 y2 y3
            exact ⟨by omega, y1, y2, fun z => by obtain ⟨v', z1, z2⟩ := y3 z; exact ⟨v', by omega, z2⟩⟩
          · exact hp q (List.mem_cons_of_mem _ hq)
        · rw [eL'] at a1 a2
          rw [eW']
          have := h len' ls' pd'' a1 a2
          rw [show w + (1 + wt v + pl_W (wd_tW kd ag wt) (xt_tk pd top)) = w + 1 + (wt v + pl_W (wd_tW kd ag wt) (xt_tk pd top)) by omega] at this
          exact this
      · rw [wd_tWn k] at hst hN h tl
        rw [wd_tLn k] at hlen h
        have hlen : len + ((pl_L (wd_tL kd ag fw) (xt_tk pd top)).length + 1) ≤ 600 := hlen
        refine nm_r (nI_1 len) ⟨hb, vp_in_nI (by omega) (by omega), ?_⟩
        rw [sv_naU (by omega)]
        refine nm_e (nm_r (nI_1 step) ?_)
        rw [yl_sl]
        have ap := yl_L_app (ls := ls) (x := kd (pd top)) len 0
        rw [Nat.zero_add] at ap
        refine ih top (step + 1) (w + 1) (len + 1) _ pd (fun q hq => hp q (List.mem_cons_of_mem _ hq)) (by omega) (by omega) (by omega) (fun len' ls' pd' a1 a2 => ?_)
        rw [ap, List.append_assoc] at a1
        have := h len' ls' pd' a1 (by show len' = len + ((pl_L (wd_tL kd ag fw) (xt_tk pd top)).length + 1); omega)
        rw [show w + (1 + pl_W (wd_tW kd ag wt) (xt_tk pd top)) = w + 1 + pl_W (wd_tW kd ag wt) (xt_tk pd top) by omega] at this
        exact this
theorem yu_push {a len : Nat} {ls : Nat → Nat} (ha : a + 32 < 2 ^ 30) :
    ∀ N r top pd, top + r ≤ 32 → r < N → (∀ pd', xt_tk pd' (top + r) = pl_r a r ++ xt_tk pd top → ∃ N', lqY_unfold_36 post N' (nI (top + r)) 0 0 (yl_g c len ls pd')) → lqY_unfold_10 post (nI a) 0 N (nI top) (nI (a + r) - 1) (yl_g c len ls pd) := by
  intro N
  induction N with
  | zero => intro r top pd _ hN; omega
  | succ N ih =>
    intro r top pd ht hN h
    rw [lqY_unfold_10_s, yl_g_pend]
    cases r with
    | zero => exact br_t (sv_lt_m1 (by omega)) (h pd rfl)
    | succ r =>
      rw [show a + (r + 1) = (a + r) + 1 by omega, nI_pred]
      refine br_f (nI_nlt (by omega) (by omega)) (nm_r (nI_1 top) ⟨vp_in_nI (by omega) (by omega), ?_⟩)
      rw [sv_naU (by omega)]
      refine nm_e ?_
      rw [sv_m1]
      refine nm_e ?_
      rw [yl_sp]
      refine ih r (top + 1) _ (by omega) (by omega) (fun pd' e => ?_)
      rw [show top + 1 + r = top + (r + 1) by omega] at e ⊢
      refine h pd' (e.trans ?_)
      have sp : ∀ m p, pl_r p (m + 1) = pl_r p m ++ [p + m] := by
        intro m
        induction m with
        | zero => intro p; rfl
        | succ m im => intro p; show p :: pl_r (p + 1) (m + 1) = p :: (pl_r (p + 1) m ++ [p + (m + 1)]); rw [im (p + 1), show p + 1 + m = p + (m + 1) by omega]
      rw [sp r a, List.append_assoc]
      show _ ++ (sv_un pd top (a + r) top :: xt_tk (sv_un pd top (a + r)) top) = _
      rw [sv_us, xt_tk_congr top (fun j hj => sv_uo (by omega))]; rfl
/-- unfold -/
theorem yu_unfold (hK : yq_kinds c = sv_na kd) (hA : yq_args c = ag) (hS : yq_size c = sv_na ln) (WD : wd_ok kd ln wt ag fw cnt) {a m len : Nat} {ls pd : Nat → Nat} (ha : a + m ≤ 256) (hp : ∀ i, i < m → yu_ok kd ag cnt (a + i)) (hW : wd_W (wd_tW kd ag wt) a m ≤ 32) (hlen : len + (wd_L (wd_tL kd ag fw) a m).length ≤ 600)
    (h : ∀ len' ls' pd', yl_L ls' 0 len' = yl_L ls 0 len ++ wd_L (wd_tL kd ag fw) a m → len' = len + (wd_L (wd_tL kd ag fw) a m).length → post (nI (wd_W (wd_tW kd ag wt) a m)) (yl_g c len' ls' pd')) : wpY_unfold post (yl_g c len ls pd) (nI a) (nI (a + m)) := by
  rw [we_Y_unfold]
  have hm := wd_W_ge (g := wd_tW kd ag wt) wd_tW1 m a
  refine nm_e ⟨m + 1, ?_⟩
  refine yu_push (by omega) _ m 0 pd (by omega) (by omega) (fun pd' e => ⟨33, ?_⟩)
  have e' : xt_tk pd' (0 + m) = pl_r a m ++ [] := e
  have eW : pl_W (wd_tW kd ag wt) (xt_tk pd' (0 + m)) = wd_W (wd_tW kd ag wt) a m := by rw [e', pl_W_r]; rfl
  have eL : pl_L (wd_tL kd ag fw) (xt_tk pd' (0 + m)) = wd_L (wd_tL kd ag fw) a m := by rw [e', pl_L_r]; exact List.append_nil _
  refine yu_36 hK hA hS WD 33 (0 + m) 0 0 len ls pd' (fun q hq => ?_) (by rw [eW]; omega) (by rw [eW]; omega) (by rw [eL]; exact hlen) (fun len' ls' pd'' a1 a2 => ?_)
  · rw [e', List.append_nil] at hq
    have := pl_r_mem _ _ _ hq
    have y := hp (q - a) (by omega)
    rw [show a + (q - a) = q by omega] at y
    exact y
  · rw [eL] at a1 a2
    rw [eW, Nat.zero_add]
    exact h len' ls' pd'' a1 a2
end
end
section
/-! both sides: reading the text and the result off the graph -/
section
variable {v : SY} {t : sv_TY} {C E : Nat → Nat} {post : Int32 → SY → Prop}
/-- the graph as the state shows it -/
def ye_ok (v : SY) (t : sv_TY) (C E : Nat → Nat) : Prop := yq_cls v = sv_na C ∧ yq_def v = sv_na E ∧ yq_nodeKind v = sv_na (ty_K t) ∧ yq_left v = sv_na (ty_L t) ∧ yq_right v = sv_na (ty_R t)
theorem ye_sQ {Q Q' S : Nat → Nat} : ys_todo (ye_g v Q S) (sv_na Q') = ye_g v Q' S := rfl
theorem ye_sS {Q S S' : Nat → Nat} : ys_symbol (ye_g v Q S) (sv_na S') = ye_g v Q S' := rfl
theorem yn_nz {k : Nat} (h : 1 ≤ k ∧ k ≤ 6) : (yn_k k = 100 ↔ k = 3) ∧ (yn_k k = 200 ↔ k = 6) := by
  rcases (show k = 1 ∨ k = 2 ∨ k = 3 ∨ k = 4 ∨ k = 5 ∨ k = 6 by omega) with rfl | rfl | rfl | rfl | rfl | rfl <;> decide
/-- the symbols against the pure marks -/
def ye_M1 (t : sv_TY) (S m : Nat → Nat) (i : Nat) : Prop := S i ≤ 400 ∧ (ty_K t i = 3 ∨ ty_K t i = 6 → S i = m i) ∧ (¬ (ty_K t i = 3 ∨ ty_K t i = 6) → S i = 0 ∨ S i = ty_K t i)
def ye_M (t : sv_TY) (S m : Nat → Nat) : Prop := ∀ i, i < ty_n t → ye_M1 t S m i
def ye_k (k : Nat) : Prop := (yn_k k = 5 ↔ k = 4) ∧ (yn_k k = 2 ↔ k = 2) ∧ (yn_k k = 100 ↔ k = 3) ∧ (yn_k k = 200 ↔ k = 6)
def ye_S1 (k a b : Nat) : Prop := k ≠ 4 → a = b
def ye_st (step at_ : Nat) (P : Prop) : Prop := step ≤ 2 * at_ ∨ (step ≤ 2 * at_ + 1 ∧ P)
theorem ye_st_le {step at_ : Nat} {P : Prop} (h : ye_st step at_ P) : step ≤ 2 * at_ + 1 := by rcases h with h | h <;> omega
theorem ye_loop (hn : ty_n t ≤ 320) (G : yo_G t) (ok : ye_ok v t C E) (hC : ∀ i, i < ty_n t → C i < ty_n t) (hR : ∀ i, i < ty_n t → yf_r C E i < ty_n t ∧ yf_r C E (yf_r C E i) = yf_r C E i ∧ sv_rb (yn_K t (yf_r C E i)) = sv_rb (yn_K t i)) (h5 : ∀ i, i < ty_n t → ty_K t i ≠ 5) {pos : Nat} (hpos : pos ≤ 63) :
    ∀ N top at_ step w r S Q m, at_ ≤ pos → (∀ k, k < top → Q k < ty_n t) → top ≤ 2 + step → ye_st step at_ (xt_hd (yn_K t) (yf_r C E) Q top) → ye_M t S m → w ≤ at_ → r ≤ at_ → 200 - step < N →
      (∀ Q' S', post (nI (tv_at (yn_K t) (yn_A t) (yn_B t) (yf_r C E) (pos - at_) (xt_tk Q top) m w r)) (ye_g v Q' S')) → lqY_effect_97 post (nI pos) N (nI top) (nI at_) (nI (100 + w)) (nI (200 + r)) (nI step) (ye_g v Q S) := by
  obtain ⟨o1, o2, o3, o4, o5⟩ := ok
  intro N
  induction N with
  | zero => intro top at_ step w r S Q m _ _ _ _ _ _ _ hN; omega
  | succ N ih =>
    intro top at_ step w r S Q m ha hQ ht hst hM hw hr hN h
    have hsl := ye_st_le hst
    rw [lqY_effect_97_s, ye_g_todo, ye_g_cls, ye_g_def, ye_g_nodeKind, ye_g_symbol, o1, o2, o3]
    refine br_f (show ¬ nI 200 ≤ nI step from nI_ge (by omega) (by omega)) ?_
    cases top with
    | zero =>
      refine br_t (by decide) ?_
      have := h Q S
      rw [show xt_tk Q 0 = [] from rfl, tv_at_nil] at this
      exact this
    | succ top =>
      have hq := hQ top (by omega)
      have r1 := (hR _ hq).1
      have cq := hC _ hq
      have k1 := (G.2.1 _ r1).1
      have k2 := (G.2.1 _ r1).2.1
      have k3 := (G.2.1 _ r1).2.2.1
      have k4 := (G.2.1 _ r1).2.2.2.1
      have hMd := hM _ r1
      have m1 := hMd.1
      have hb : vp_in (nI (yf_r C E (Q top))) 320 := vp_in_nI (by omega) (by omega)
      have yk : ye_k (ty_K t (yf_r C E (Q top))) := ⟨(yn_kd ⟨k1, k2⟩).2.2.1, (yn_kd ⟨k1, k2⟩).2.1, (yn_nz ⟨k1, k2⟩).1, (yn_nz ⟨k1, k2⟩).2⟩
      have n5 := h5 _ r1
      refine br_f (nI_nle (by omega) (by omega)) (nm_r (pk_m1 top) ⟨vp_in_nI (by omega) (by omega), ?_⟩)
      rw [sv_naA (f := Q) (by omega), sv_naA (f := C) (by omega), sv_naA (f := E) (by omega)]
      refine ⟨vp_in_nI (by omega) (by omega), vp_in_nI (by omega) (by omega), nm_e ?_⟩
      rw [show E (C (Q top)) = yf_r C E (Q top) from rfl, sv_naA (f := ty_K t) (by omega), sv_naA (f := S) (by omega)]
      refine ⟨hb, nm_e ⟨hb, ?_⟩⟩
      -- the tail, for the symbols S' that stand when the symbol is known
      have tail : ∀ S' w' r', ye_M t S' (tv_m (yn_K t) (yf_r C E) m w r (Q top)) → ye_S1 (ty_K t (yf_r C E (Q top))) (S' (yf_r C E (Q top))) (tv_c (yn_K t) (yf_r C E) m w r (Q top)) → w' = tv_v (yn_K t) (yf_r C E) m w (Q top) → r' = tv_r (yn_K t) (yf_r C E) m r (Q top) →
          pqY_effect_187 post (lqY_effect_97 post (nI pos) N) (nI pos) (nI top) (nI at_) (nI (100 + w')) (nI (200 + r')) (nI step) (nI (yf_r C E (Q top))) (nI (ty_K t (yf_r C E (Q top)))) (ye_g v Q S') := by
        intro S' w' r' hM' hS' ew er
        have w'l : w' ≤ at_ + 1 := by rw [ew]; unfold tv_v; split <;> omega
        have r'l : r' ≤ at_ + 1 := by rw [er]; unfold tv_r; split <;> omega
        have push : ty_K t (yf_r C E (Q top)) = 4 ∨ ty_K t (yf_r C E (Q top)) = 2 → (∀ Q', Q' = sv_un (sv_un Q top (ty_R t (yf_r C E (Q top)))) (top + 1) (ty_L t (yf_r C E (Q top))) → pqY_effect_231 post (lqY_effect_97 post (nI pos) N) (nI pos) (nI (top + 2)) (nI at_) (nI (100 + w')) (nI (200 + r')) (nI step) (nI (yf_r C E (Q top))) (nI (ty_K t (yf_r C E (Q top)))) (ye_g v Q' S')) → pqY_effect_199 post (lqY_effect_97 post (nI pos) N) (nI pos) (nI top) (nI at_) (nI (100 + w')) (nI (200 + r')) (nI step) (nI (yf_r C E (Q top))) (nI (ty_K t (yf_r C E (Q top)))) (ye_g v Q S') := by
          intro _ hh
          rw [pqY_effect_199_e, ye_g_todo, ye_g_left, ye_g_right, o4, o5, sv_naA (f := ty_R t) (by omega), sv_naA (f := ty_L t) (by omega), sv_naU (by omega)]
          refine nm_r (nI_1 top) ⟨hb, vp_in_nI (by omega) (by omega), nm_e (nm_r (nI_1 (top + 1)) ⟨hb, vp_in_nI (by omega) (by omega), ?_⟩)⟩
          rw [sv_naU (by omega)]
          refine nm_e ?_
          rw [ye_sQ]
          exact hh _ rfl
        have Qn : ∀ k, k < top + 2 → sv_un (sv_un Q top (ty_R t (yf_r C E (Q top)))) (top + 1) (ty_L t (yf_r C E (Q top))) k < ty_n t := fun k hk => by
          by_cases z : k = top + 1
          · rw [z, sv_us]; exact k3
          · rw [sv_uo z]
            by_cases z2 : k = top
            · rw [z2, sv_us]; exact k4
            · rw [sv_uo z2]; exact hQ k (by omega)
        rw [pqY_effect_187_e]
        refine pk_eq (ty_K t (yf_r C E (Q top))) 4 (fun e4 => push (Or.inl e4) (fun Q' eQ => ?_)) (fun e4 => ?_) rfl rfl (by omega) (by omega)
        · have y5 : yn_K t (yf_r C E (Q top)) = 5 := yk.1.mpr e4
          have eA : yn_A t (yf_r C E (Q top)) = ty_R t (yf_r C E (Q top)) := if_pos e4
          have eB : yn_B t (yf_r C E (Q top)) = ty_L t (yf_r C E (Q top)) := if_pos e4
          have w5 := (G.2.2.1 _ r1).2.2.2.2.1 y5
          have nb : yn_K t (yf_r C E (yn_B t (yf_r C E (Q top)))) ≠ 5 := fun z => by
            have := (hR _ (G.2.2.1 _ r1).2.2.1).2.2
            rw [w5.2, z] at this; exact absurd this (by decide)
          have ew0 : w' = w := ew.trans (if_neg (fun z => by rw [y5] at z; omega))
          have er0 : r' = r := er.trans (if_neg (fun z => by rw [y5] at z; omega))
          have em0 : tv_m (yn_K t) (yf_r C E) m w r (Q top) = m := if_neg (fun z => by rw [y5] at z; omega)
          rw [em0] at hM'
          rw [pqY_effect_231_e, ew0, er0]
          refine br_t (by rw [e4]; rfl) (nm_r (nI_1 step) ?_)
          refine ih (top + 2) at_ (step + 1) w r S' Q' m ha (by rw [eQ]; exact Qn) (by omega) (Or.inr ⟨?_, top + 1, rfl, ?_⟩) hM' hw hr (by omega) (fun Q'' S'' => ?_)
          · rcases hst with z | ⟨z1, k, z2, z3⟩
            · exact Nat.succ_le_succ z
            · have : k = top := (Nat.succ.inj z2).symm
              rw [this] at z3; exact absurd y5 z3
          · rw [eQ, sv_us, ← eB]; exact nb
          · have := h Q'' S''
            rw [show xt_tk Q (top + 1) = Q top :: xt_tk Q top from rfl, tv_at_cons y5 nb, eA, eB] at this
            rw [eQ, xt_tk2]; exact this
        · have y5 : yn_K t (yf_r C E (Q top)) ≠ 5 := fun z => e4 (yk.1.mp z)
          have fin : ∀ l Q' top', (∀ k, k < top' → Q' k < ty_n t) → top' ≤ top + 2 → xt_tk Q' top' = l → tv_l (yn_K t) (yn_A t) (yn_B t) (yf_r C E) (Q top) (xt_tk Q top) = l → pqY_effect_231 post (lqY_effect_97 post (nI pos) N) (nI pos) (nI top') (nI at_) (nI (100 + w')) (nI (200 + r')) (nI step) (nI (yf_r C E (Q top))) (nI (ty_K t (yf_r C E (Q top)))) (ye_g v Q' S') := by
            intro l Q' top' hQ' htop el el'
            rw [pqY_effect_231_e, ye_g_symbol]
            refine br_f (show ¬ nI (ty_K t (yf_r C E (Q top))) = nI 4 by rw [nI_eq (by omega) (by omega)]; exact e4) (nm_r (nI_1 at_) ?_)
            refine pk_eq at_ pos (fun ep => ⟨hb, ?_⟩) (fun ep => nm_r (nI_1 step) ?_) rfl rfl (by omega) (by omega)
            · rw [sv_naA (by omega), hS' e4]
              have := h Q' S'
              rw [ep, Nat.sub_self, show xt_tk Q (top + 1) = Q top :: xt_tk Q top from rfl, tv_at_0 y5] at this
              exact this
            · refine ih top' (at_ + 1) (step + 1) w' r' S' Q' _ (by omega) hQ' (by omega) (Or.inl (by omega)) hM' w'l r'l (by omega) (fun Q'' S'' => ?_)
              have := h Q'' S''
              rw [show pos - at_ = (pos - (at_ + 1)) + 1 by omega, show xt_tk Q (top + 1) = Q top :: xt_tk Q top from rfl, tv_at_s y5, el'] at this
              rw [el, ew, er]; exact this
          refine pk_eq (ty_K t (yf_r C E (Q top))) 2 (fun e2 => push (Or.inr e2) (fun Q' eQ => ?_)) (fun e2 => ?_) rfl rfl (by omega) (by omega)
          · have y2 : yn_K t (yf_r C E (Q top)) = 2 := yk.2.1.mpr e2
            have eA : yn_A t (yf_r C E (Q top)) = ty_L t (yf_r C E (Q top)) := if_neg e4
            have eB : yn_B t (yf_r C E (Q top)) = ty_R t (yf_r C E (Q top)) := if_neg e4
            refine fin _ Q' (top + 2) (by rw [eQ]; exact Qn) (by omega) rfl ?_
            rw [eQ, xt_tk2, ← eA, ← eB]
            exact if_pos y2
          · have y2 : yn_K t (yf_r C E (Q top)) ≠ 2 := fun z => e2 (yk.2.1.mp z)
            exact fin _ Q top (fun k hk => hQ k (by omega)) (by omega) rfl (if_neg y2)
      have keepM : ∀ x, ¬ (ty_K t (yf_r C E (Q top)) = 3 ∨ ty_K t (yf_r C E (Q top)) = 6) → x = ty_K t (yf_r C E (Q top)) ∨ x = S (yf_r C E (Q top)) → ye_M t (sv_un S (yf_r C E (Q top)) x) (tv_m (yn_K t) (yf_r C E) m w r (Q top)) := by
        intro x hv hx
        have em0 : tv_m (yn_K t) (yf_r C E) m w r (Q top) = m := if_neg (fun z => hv (z.elim (fun z => Or.inl (yk.2.2.1.mp z)) (fun z => Or.inr (yk.2.2.2.mp z))))
        rw [em0]
        intro i hi
        have hMi := hM i hi
        unfold ye_M1 at hMi ⊢
        by_cases z : i = yf_r C E (Q top)
        · rw [z, sv_us]
          refine ⟨?_, fun q => absurd q hv, fun _ => ?_⟩
          · rcases hx with q | q <;> rw [q] <;> omega
          · rcases hx with q | q
            · exact Or.inr q
            · rw [q]; exact hMd.2.2 hv
        · rw [sv_uo z]; exact hMi
      have varM : ∀ x, (ty_K t (yf_r C E (Q top)) = 3 ∨ ty_K t (yf_r C E (Q top)) = 6) → x = tv_c (yn_K t) (yf_r C E) m w r (Q top) → x ≤ 400 → ye_M t (sv_un S (yf_r C E (Q top)) x) (tv_m (yn_K t) (yf_r C E) m w r (Q top)) := by
        intro x hv hx hl
        have em0 : tv_m (yn_K t) (yf_r C E) m w r (Q top) = sv_un m (yf_r C E (Q top)) (tv_c (yn_K t) (yf_r C E) m w r (Q top)) := if_pos (hv.elim (fun z => Or.inl (yk.2.2.1.mpr z)) (fun z => Or.inr (yk.2.2.2.mpr z)))
        rw [em0]
        intro i hi
        have hMi := hM i hi
        unfold ye_M1 at hMi ⊢
        by_cases z : i = yf_r C E (Q top)
        · rw [z, sv_us, sv_us]; exact ⟨hl, fun _ => hx, fun q => absurd hv q⟩
        · rw [sv_uo z, sv_uo z]; exact hMi
      have sself : sv_un S (yf_r C E (Q top)) (S (yf_r C E (Q top))) = S := by
        funext j
        by_cases z : j = yf_r C E (Q top)
        · rw [z, sv_us]
        · rw [sv_uo z]
      refine pk_eq (S (yf_r C E (Q top))) 0 (fun s0 => ?_) (fun s0 => ?_) rfl rfl (by omega) (by omega)
      · refine pk_eq (ty_K t (yf_r C E (Q top))) 3 (fun e3 => nm_r (nI_1 (100 + w)) ?_) (fun e3 => pk_eq (ty_K t (yf_r C E (Q top))) 6 (fun e6 => nm_r (nI_1 (200 + r)) ?_) (fun e6 => ?_) rfl rfl (by omega) (by omega)) rfl rfl (by omega) (by omega)
        · have mz : m (yf_r C E (Q top)) = 0 := by rw [← hMd.2.1 (Or.inl e3)]; exact s0
          have y1 : yn_K t (yf_r C E (Q top)) = 100 := yk.2.2.1.mpr e3
          have ec : tv_c (yn_K t) (yf_r C E) m w r (Q top) = 100 + w := by unfold tv_c; rw [if_pos y1, if_pos mz]
          rw [pqY_effect_186_e, ye_g_symbol, sv_naU (by omega)]
          refine ⟨hb, nm_e ?_⟩
          rw [ye_sS, show 100 + w + 1 = 100 + (w + 1) by omega]
          refine tail _ (w + 1) r (varM _ (Or.inl e3) ec.symm (by omega)) (fun _ => by rw [sv_us, ec]) ?_ ?_
          · unfold tv_v; rw [if_pos ⟨y1, mz⟩]
          · unfold tv_r; rw [if_neg (fun z => by omega)]
        · have mz : m (yf_r C E (Q top)) = 0 := by rw [← hMd.2.1 (Or.inr e6)]; exact s0
          have y2 : yn_K t (yf_r C E (Q top)) = 200 := yk.2.2.2.mpr e6
          have ec : tv_c (yn_K t) (yf_r C E) m w r (Q top) = 200 + r := by unfold tv_c; rw [if_neg (by omega), if_pos y2, if_pos mz]
          rw [pqY_effect_186_e, ye_g_symbol, sv_naU (by omega)]
          refine ⟨hb, nm_e ?_⟩
          rw [ye_sS, show 200 + r + 1 = 200 + (r + 1) by omega]
          refine tail _ w (r + 1) (varM _ (Or.inr e6) ec.symm (by omega)) (fun _ => by rw [sv_us, ec]) ?_ ?_
          · unfold tv_v; rw [if_neg (fun z => by omega)]
          · unfold tv_r; rw [if_pos ⟨y2, mz⟩]
        · have hv : ¬ (ty_K t (yf_r C E (Q top)) = 3 ∨ ty_K t (yf_r C E (Q top)) = 6) := by omega
          have y1 : yn_K t (yf_r C E (Q top)) ≠ 100 := fun z => e3 (yk.2.2.1.mp z)
          have y2 : yn_K t (yf_r C E (Q top)) ≠ 200 := fun z => e6 (yk.2.2.2.mp z)
          rw [pqY_effect_186_e, ye_g_symbol, sv_naU (by omega)]
          refine ⟨hb, nm_e ?_⟩
          rw [ye_sS]
          refine tail _ w r (keepM _ hv (Or.inl rfl)) (fun e4 => ?_) ?_ ?_
          · rw [sv_us]
            have ec : tv_c (yn_K t) (yf_r C E) m w r (Q top) = yn_K t (yf_r C E (Q top)) := by unfold tv_c; rw [if_neg y1, if_neg y2]
            rw [ec]
            show _ = yn_k (ty_K t (yf_r C E (Q top)))
            rcases (show ty_K t (yf_r C E (Q top)) = 1 ∨ ty_K t (yf_r C E (Q top)) = 2 by omega) with z | z <;> rw [z] <;> rfl
          · unfold tv_v; rw [if_neg (fun z => y1 z.1)]
          · unfold tv_r; rw [if_neg (fun z => y2 z.1)]
      · by_cases hv : ty_K t (yf_r C E (Q top)) = 3 ∨ ty_K t (yf_r C E (Q top)) = 6
        · have ms := hMd.2.1 hv
          have ec : tv_c (yn_K t) (yf_r C E) m w r (Q top) = m (yf_r C E (Q top)) := by
            unfold tv_c
            rcases hv with z | z
            · rw [if_pos (show yn_K t (yf_r C E (Q top)) = 100 from yk.2.2.1.mpr z), if_neg (by omega)]
            · have y1 : yn_K t (yf_r C E (Q top)) ≠ 100 := fun q => by have := yk.2.2.1.mp q; omega
              rw [if_neg y1, if_pos (show yn_K t (yf_r C E (Q top)) = 200 from yk.2.2.2.mpr z), if_neg (by omega)]
          have vm := varM (S (yf_r C E (Q top))) hv (by rw [ec]; exact ms) m1
          rw [sself] at vm
          refine tail S w r vm (fun _ => by rw [ec]; exact ms) ?_ ?_
          · unfold tv_v; rw [if_neg (fun z => by omega)]
          · unfold tv_r; rw [if_neg (fun z => by omega)]
        · have y1 : yn_K t (yf_r C E (Q top)) ≠ 100 := fun z => hv (Or.inl (yk.2.2.1.mp z))
          have y2 : yn_K t (yf_r C E (Q top)) ≠ 200 := fun z => hv (Or.inr (yk.2.2.2.mp z))
          have km := keepM (S (yf_r C E (Q top))) hv (Or.inr rfl)
          rw [sself] at km
          refine tail S w r km (fun e4 => ?_) ?_ ?_
          · have ec : tv_c (yn_K t) (yf_r C E) m w r (Q top) = yn_K t (yf_r C E (Q top)) := by unfold tv_c; rw [if_neg y1, if_neg y2]
            rw [ec]
            have := hMd.2.2 hv
            rw [show S (yf_r C E (Q top)) = ty_K t (yf_r C E (Q top)) by omega]
            show _ = yn_k (ty_K t (yf_r C E (Q top)))
            rcases (show ty_K t (yf_r C E (Q top)) = 1 ∨ ty_K t (yf_r C E (Q top)) = 2 by omega) with z | z <;> rw [z] <;> rfl
          · unfold tv_v; rw [if_neg (fun z => y1 z.1)]
          · unfold tv_r; rw [if_neg (fun z => y2 z.1)]
end
end
section
/-! both sides: the i-th type of the result -/
section
variable {c : SX} {t : sv_TX} {s : Nat} {M Q : Nat → Nat} {post : Int32 → SX → Prop}
theorem xo_mq_K : xq_nodeKind (gx c (xo_mq t s M Q)) = sv_na (tx_K t) := rfl
theorem xr_60 (hn : tx_n t ≤ 400) (U : sv_uf (tx_n t) (tx_P t) (tx_R t) (tx_D t)) (hw : sv_kw (tx_n t) (tx_K t) (tx_A t) (tx_B t)) {d : Nat} (hd : d < tx_n t)
    (h : post (nI (if tx_K t d = 5 then (if tx_K t (tx_R t (tx_B t d)) = 100 then 3 else tx_K t (tx_R t (tx_B t d))) else 0)) (gx c (xo_mq t s M Q))) : pqX_result_60 post (nI d) (gx c (xo_mq t s M Q)) := by
  rw [pqX_result_60_e, xo_mq_K, xo_mq_B]
  have hb : vp_in (nI d) 512 := vp_in_nI (by omega) (by omega)
  have w := hw d hd
  have kl := xo_kd_le w.1
  rw [sv_naA (by omega), sv_naA (by omega)]
  refine ⟨hb, pk_eq (tx_K t d) 5 (fun e => ⟨hb, ?_⟩) (fun e => ?_) rfl rfl (by omega) (by omega)⟩
  · rw [if_pos e] at h
    refine xo_find_mq hn U w.2.2.1 ?_
    have rl := (U _ w.2.2.1).2.1
    have kl2 := xo_kd_le (hw _ rl).1
    have hb2 : vp_in (nI (tx_R t (tx_B t d))) 512 := vp_in_nI (by omega) (by omega)
    rw [sv_naA (by omega)]
    refine ⟨hb2, pk_eq (tx_K t (tx_R t (tx_B t d))) 100 (fun e2 => ?_) (fun e2 => ⟨hb2, ?_⟩) rfl rfl (by omega) (by omega)⟩
    · rw [if_pos e2] at h; exact h
    · rw [if_neg e2] at h; exact h
  · rw [if_neg e] at h; exact h
theorem xr_27 (hn : tx_n t ≤ 400) (U : sv_uf (tx_n t) (tx_P t) (tx_R t) (tx_D t)) (hw : sv_kw (tx_n t) (tx_K t) (tx_A t) (tx_B t)) {m : Nat → Nat} (g : sv_gv (tx_n t) (tx_K t) (tx_A t) (tx_B t) (tx_R t) m) {i : Nat} (hi : i < 2 ^ 31) :
    ∀ N x k, x < tx_n t → k ≤ i → m x < N → post (nI (if tx_K t (tv_dn (tx_K t) (tx_A t) (tx_R t) (i - k) x) = 5 then (if tx_K t (tx_R t (tx_B t (tv_dn (tx_K t) (tx_A t) (tx_R t) (i - k) x))) = 100 then 3 else tx_K t (tx_R t (tx_B t (tv_dn (tx_K t) (tx_A t) (tx_R t) (i - k) x)))) else 0)) (gx c (xo_mq t s M Q)) → lqX_result_27 post (nI i) N (nI (tx_R t x)) (nI k) (gx c (xo_mq t s M Q)) := by
  intro N
  induction N with
  | zero => intro x k _ _ hN; omega
  | succ N ih =>
    intro x k hx hk hN h
    rw [lqX_result_27_s, xo_mq_K, xo_mq_A]
    have rl := (U x hx).2.1
    have w := hw _ rl
    have kl := xo_kd_le w.1
    have hb : vp_in (nI (tx_R t x)) 512 := vp_in_nI (by omega) (by omega)
    rw [sv_naA (by omega), sv_naA (by omega)]
    have stop : ∀ q, tv_dn (tx_K t) (tx_A t) (tx_R t) (i - k) x = q → q = tx_R t x → pqX_result_60 post (nI (tx_R t x)) (gx c (xo_mq t s M Q)) := by
      intro q e1 e2
      rw [e1, e2] at h
      exact xr_60 hn U hw rl h
    refine pk_le i k (fun hge => stop _ rfl ?_) (fun hlt => ⟨hb, ?_⟩) rfl rfl (by omega) (by omega)
    · rw [show i - k = 0 by omega]; rfl
    · obtain ⟨r, hr⟩ : ∃ r, i - k = r + 1 := ⟨i - k - 1, by omega⟩
      have hr' : i - (k + 1) = r := by omega
      refine pk_eq (tx_K t (tx_R t x)) 5 (fun e => ⟨hb, ?_⟩) (fun e => stop _ rfl ?_) rfl rfl (by omega) (by omega)
      · refine xo_find_mq hn U w.2.1 (nm_r (nI_1 k) ?_)
        have dn : tv_dn (tx_K t) (tx_A t) (tx_R t) (i - k) x = tv_dn (tx_K t) (tx_A t) (tx_R t) (i - (k + 1)) (tx_A t (tx_R t x)) := by
          rw [hr, hr']
          show (if tx_K t (tx_R t x) = 5 then tv_dn (tx_K t) (tx_A t) (tx_R t) r (tx_A t (tx_R t x)) else tx_R t x) = _
          rw [if_pos e]
        rw [dn] at h
        refine ih _ (k + 1) w.2.1 (by omega) ?_ h
        have := (sv_gv_lt g rl (Or.inr e)).1
        rw [← (g x hx).1] at this
        omega
      · rw [hr]
        show (if tx_K t (tx_R t x) = 5 then tv_dn (tx_K t) (tx_A t) (tx_R t) r (tx_A t (tx_R t x)) else tx_R t x) = _
        rw [if_neg e]
end
section
variable {v : SY} {t : sv_TY} {C E : Nat → Nat} {post : Int32 → SY → Prop}
theorem yr_80 (G : yo_G t) (ok : ye_ok v t C E) (hC : ∀ i, i < ty_n t → C i < ty_n t) (hR : ∀ i, i < ty_n t → yf_r C E i < ty_n t ∧ yf_r C E (yf_r C E i) = yf_r C E i ∧ sv_rb (yn_K t (yf_r C E i)) = sv_rb (yn_K t i)) {d : Nat} (hd : d < ty_n t)
    (h : post (nI (if yn_K t d = 5 then (if yn_K t (yf_r C E (yn_B t d)) = 100 then 3 else yn_K t (yf_r C E (yn_B t d))) else 0)) v) : pqY_result_80 post (nI d) v := by
  obtain ⟨o1, o2, o3, o4, o5⟩ := ok
  have g1 := G.1
  rw [pqY_result_80_e, o1, o2, o3, o4]
  obtain ⟨k1, k2, k3, k4, k5⟩ := G.2.1 d hd
  have hb : vp_in (nI d) 320 := vp_in_nI (by omega) (by omega)
  have yk := yn_kd ⟨k1, k2⟩
  rw [sv_naA (f := ty_K t) (by omega), sv_naA (f := ty_L t) (by omega)]
  refine ⟨hb, pk_eq (ty_K t d) 4 (fun e => ?_) (fun e => ?_) rfl rfl (by omega) (by omega)⟩
  · have cl := hC _ k3
    have rl := (hR _ k3).1
    rw [sv_naA (f := C) (by omega), sv_naA (f := E) (by omega), show E (C (ty_L t d)) = yf_r C E (ty_L t d) from rfl, sv_naA (by omega)]
    refine ⟨hb, vp_in_nI (by omega) (by omega), vp_in_nI (by omega) (by omega), vp_in_nI (by omega) (by omega), ?_⟩
    have y5 : yn_K t d = 5 := yk.2.2.1.mpr e
    have eB : yn_B t d = ty_L t d := if_pos e
    have w5 := (G.2.2.1 d hd).2.2.2.2.1 y5
    rw [eB] at w5
    have so := (hR _ k3).2.2
    rw [w5.2] at so
    rw [if_pos y5, eB] at h
    obtain ⟨l1, l2, l3, l4, l5⟩ := G.2.1 _ rl
    have e4 : ty_K t (yf_r C E (ty_L t d)) = (if yn_K t (yf_r C E (ty_L t d)) = 100 then 3 else yn_K t (yf_r C E (ty_L t d))) := by
      show _ = (if yn_k (ty_K t (yf_r C E (ty_L t d))) = 100 then 3 else yn_k (ty_K t (yf_r C E (ty_L t d))))
      have so : sv_rb (yn_k (ty_K t (yf_r C E (ty_L t d)))) = false := so
      rcases (show ty_K t (yf_r C E (ty_L t d)) = 1 ∨ ty_K t (yf_r C E (ty_L t d)) = 2 ∨ ty_K t (yf_r C E (ty_L t d)) = 3 ∨ ty_K t (yf_r C E (ty_L t d)) = 4 ∨ ty_K t (yf_r C E (ty_L t d)) = 5 ∨ ty_K t (yf_r C E (ty_L t d)) = 6 by omega) with z | z | z | z | z | z <;> rw [z] at so ⊢
      · rfl
      · rfl
      · rfl
      · exact absurd so (by decide)
      · exact absurd so (by decide)
      · exact absurd so (by decide)
    rw [e4]; exact h
  · have y5 : yn_K t d ≠ 5 := fun z => e (yk.2.2.1.mp z)
    rw [if_neg y5] at h; exact h
theorem yr_33 (G : yo_G t) (ok : ye_ok v t C E) (hC : ∀ i, i < ty_n t → C i < ty_n t) (hR : ∀ i, i < ty_n t → yf_r C E i < ty_n t ∧ yf_r C E (yf_r C E i) = yf_r C E i ∧ sv_rb (yn_K t (yf_r C E i)) = sv_rb (yn_K t i)) {m : Nat → Nat} (g : sv_gv (ty_n t) (yn_K t) (yn_A t) (yn_B t) (yf_r C E) m) {i : Nat} (hi : i < 2 ^ 31) :
    ∀ N x k, x < ty_n t → k ≤ i → sv_rk (ty_n t) m x < N → sv_rk (ty_n t) m x + k < 320 → post (nI (if yn_K t (tv_dn (yn_K t) (yn_A t) (yf_r C E) (i - k) x) = 5 then (if yn_K t (yf_r C E (yn_B t (tv_dn (yn_K t) (yn_A t) (yf_r C E) (i - k) x))) = 100 then 3 else yn_K t (yf_r C E (yn_B t (tv_dn (yn_K t) (yn_A t) (yf_r C E) (i - k) x)))) else 0)) v → lqY_result_33 post (nI i) N (nI (yf_r C E x)) (nI k) v := by
  obtain ⟨o1, o2, o3, o4, o5⟩ := id ok
  have g1 := G.1
  intro N
  induction N with
  | zero => intro x k _ _ hN; omega
  | succ N ih =>
    intro x k hx hk hN h320 h
    rw [lqY_result_33_s, o1, o2, o3, o5]
    have rl := (hR x hx).1
    obtain ⟨k1, k2, k3, k4, k5⟩ := G.2.1 _ rl
    have yk := yn_kd ⟨k1, k2⟩
    have hb : vp_in (nI (yf_r C E x)) 320 := vp_in_nI (by omega) (by omega)
    have stop : ∀ q, tv_dn (yn_K t) (yn_A t) (yf_r C E) (i - k) x = q → q = yf_r C E x → pqY_result_80 post (nI (yf_r C E x)) v := by
      intro q e1 e2
      rw [e1, e2] at h
      exact yr_80 G ok hC hR rl h
    refine pk_le i k (fun hge => stop _ rfl ?_) (fun hlt => br_f (show ¬ nI 320 ≤ nI k from nI_ge (by omega) (by omega)) ⟨hb, ?_⟩) rfl rfl (by omega) (by omega)
    · rw [show i - k = 0 by omega]; rfl
    · obtain ⟨r, hr⟩ : ∃ r, i - k = r + 1 := ⟨i - k - 1, by omega⟩
      have hr' : i - (k + 1) = r := by omega
      rw [sv_naA (f := ty_K t) (by omega), sv_naA (f := ty_R t) (by omega)]
      refine pk_eq (ty_K t (yf_r C E x)) 4 (fun e => ?_) (fun e => stop _ rfl ?_) rfl rfl (by omega) (by omega)
      · have cl := hC _ k4
        have rl2 := (hR _ k4).1
        rw [sv_naA (f := C) (by omega), sv_naA (f := E) (by omega), show E (C (ty_R t (yf_r C E x))) = yf_r C E (ty_R t (yf_r C E x)) from rfl]
        have y5 : yn_K t (yf_r C E x) = 5 := yk.2.2.1.mpr e
        have eA : yn_A t (yf_r C E x) = ty_R t (yf_r C E x) := if_pos e
        have dn : tv_dn (yn_K t) (yn_A t) (yf_r C E) (i - k) x = tv_dn (yn_K t) (yn_A t) (yf_r C E) (i - (k + 1)) (ty_R t (yf_r C E x)) := by
          rw [hr, hr']
          show (if yn_K t (yf_r C E x) = 5 then tv_dn (yn_K t) (yn_A t) (yf_r C E) r (yn_A t (yf_r C E x)) else yf_r C E x) = _
          rw [if_pos y5, eA]
        rw [dn] at h
        have lt := (sv_gv_lt g rl (Or.inr y5)).1
        rw [← (g x hx).1, eA] at lt
        have rk := sv_rk_lt (n := ty_n t) k4 lt
        exact ⟨hb, vp_in_nI (by omega) (by omega), vp_in_nI (by omega) (by omega), nm_e (nm_r (nI_1 k) (ih _ (k + 1) k4 (by omega) (by omega) (by omega) h))⟩
      · have y5 : yn_K t (yf_r C E x) ≠ 5 := fun z => e (yk.2.2.1.mp z)
        rw [hr]
        show (if yn_K t (yf_r C E x) = 5 then tv_dn (yn_K t) (yn_A t) (yf_r C E) r (yn_A t (yf_r C E x)) else yf_r C E x) = _
        rw [if_neg y5]
end
end
section
/-! the relation -/
section
def rl_w (kd ln mt : Nat → Nat) (w : Nat) : Prop := (∀ j, 32 * w ≤ j → j ≤ 32 * w + ln w → bs_S kd (32 * w) ≤ bs_S kd j) ∧ bs_S kd (32 * w + ln w) = bs_S kd (32 * w) ∧ (∀ p, 32 * w ≤ p → p < 32 * w + ln w → kd p = 3 → bs_M kd p (mt p) ∧ mt p < 32 * w + ln w)
def rl_o (ot p : Nat) (os : Nat → Nat) : Prop := ∃ k, k < ot ∧ os k = p
def rl_v (cnt : Nat) (x : Int32) : Prop := ∃ v, v < cnt ∧ x = nI v
def rl_d (kd ln wt mt os : Nat → Nat) (ag : Nat → Int32) (cnt ot : Nat) : Prop := wt cnt ≤ 32 ∧ wt cnt = wd_W (wd_tW kd ag wt) (32 * cnt) (ln cnt) ∧ (∀ i, i < ln cnt → 1 ≤ kd (32 * cnt + i) ∧ kd (32 * cnt + i) ≤ 13 ∧ (kd (32 * cnt + i) = 2 → rl_v cnt (ag (32 * cnt + i)))) ∧
  (∀ j, 32 * cnt ≤ j → j ≤ 32 * cnt + ln cnt → bs_S kd (32 * cnt) ≤ bs_S kd j) ∧ bs_S kd (32 * cnt + ln cnt) = bs_S kd (32 * cnt) + ot ∧ ot ≤ ln cnt ∧
  (∀ k, k < ot → 32 * cnt ≤ os k ∧ os k < 32 * cnt + ln cnt ∧ kd (os k) = 3 ∧ bs_S kd (os k) = bs_S kd (32 * cnt) + k ∧ ∀ j, os k < j → j ≤ 32 * cnt + ln cnt → bs_S kd (os k) + 1 ≤ bs_S kd j) ∧
  (∀ p, 32 * cnt ≤ p → p < 32 * cnt + ln cnt → kd p = 3 → rl_o ot p os ∨ (bs_M kd p (mt p) ∧ mt p < 32 * cnt + ln cnt))
def rl_T (L : List Nat) (T : Nat → Nat) : Prop := (∃ n K A B R a b, sv_PG L False n K A B R a b ∧ ∀ p, p < 64 → T p = tv_txt K A B R a b p) ∨ ((∀ s e, ¬ sv_Sol L False s e) ∧ ∀ p, p < 64 → T p = 0)
def rl_q (kd ln : Nat → Nat) (cnt : Nat) (x : Int32) : Prop := ∃ p w, x = nI p ∧ w < cnt ∧ 32 * w ≤ p ∧ p < 32 * w + ln w ∧ kd p = 3
def rl_c (kd ln ck : Nat → Nat) (cv : Nat → Int32) (cnt cc : Nat) : Prop := ∀ c, c < cc → ck c = 1 ∨ (ck c = 2 ∧ rl_q kd ln cnt (cv c))
/-- the words and the draft -/
def rl_A (ot cnt : Nat) (kd mt ln wt tx os : Nat → Nat) (ag : Nat → Int32) (fw : Nat → List Nat) : Prop := wd_ok kd ln wt ag fw cnt ∧ (∀ w, w < cnt → rl_w kd ln mt w) ∧ rl_d kd ln wt mt os ag cnt ot ∧ (∀ w, cnt < w → w < 8 → ln w = 0 ∧ wt w = 0) ∧ (∀ w, w < cnt → rl_T (fw w) (fun p => tx (64 * w + p))) ∧ (∀ j, 64 * cnt ≤ j → tx j = 0)
def rl_B (mw mc ml mf cnt cc : Nat) : Prop := 1 ≤ mw ∧ mw ≤ 7 ∧ 1 ≤ mc ∧ mc ≤ 16 ∧ 1 ≤ ml ∧ ml ≤ 32 ∧ 1 ≤ mf ∧ mf ≤ 1000 ∧ cnt ≤ mw ∧ cc ≤ mc
def rl_X (mw mc ml mf ot cnt cc : Nat) (kd mt ln wt tx os ck : Nat → Nat) (ag cv : Nat → Int32) (u : SX) : Prop := xq_maxWords u = nI mw ∧ xq_maxCells u = nI mc ∧ xq_maxLevels u = nI ml ∧ xq_maxFuel u = nI mf ∧ xq_openTop u = nI ot ∧ xq_count u = nI cnt ∧ xq_cellCount u = nI cc ∧ xq_tokKind u = sv_na kd ∧ xq_tokArg u = ag ∧ xq_match u = sv_na mt ∧ xq_length u = sv_na ln ∧ xq_weight u = sv_na wt ∧ xq_text u = sv_na tx ∧ xq_openStack u = sv_na os ∧ xq_cellKind u = sv_na ck ∧ xq_cellValue u = cv
def rl_Y (mw mc ml mf cnt cc : Nat) (kd ln ck : Nat → Nat) (ag cv : Nat → Int32) (v : SY) : Prop := yq_maxWords v = nI mw ∧ yq_maxCells v = nI mc ∧ yq_maxLevels v = nI ml ∧ yq_maxFuel v = nI mf ∧ yq_count v = nI cnt ∧ yq_depth v = nI cc ∧ yq_kinds v = sv_na kd ∧ yq_args v = ag ∧ yq_size v = sv_na ln ∧ yq_cellKind v = sv_na ck ∧ yq_cellVal v = cv
end
/-- the relation at the head of a turn -/
def i_Rel (k : Nat) (u : SX) (v : SY) : Prop := ∃ mw mc ml mf ot cnt cc kd mt ln wt tx os ck ag cv fw, rl_B mw mc ml mf cnt cc ∧ rl_A ot cnt kd mt ln wt tx os ag fw ∧ rl_c kd ln ck cv cnt cc ∧ rl_X mw mc ml mf ot cnt cc kd mt ln wt tx os ck ag cv u ∧ rl_Y mw mc ml mf cnt cc kd ln ck ag cv v
section
theorem i_up {k : Nat} {u : SX} {v : SY} (h : i_Rel k u v) : i_Rel (k + 3) u v := h
theorem rl_clamp (x : Int32) (b : Nat) (h1 : 1 ≤ b) (hb : b < 2 ^ 30) : ∃ n, 1 ≤ n ∧ n ≤ b ∧ (∀ (post : Int32 → Prop) (u : SX), post (nI n) → wpX_clamp post u x (nI b)) ∧ (∀ (post : Int32 → Prop) (u : SY), post (nI n) → wpY_clamp post u x (nI b)) := by
  by_cases e : 1 ≤ x
  · have h0 : ¬ x < 0 := fun z => absurd (Int32.lt_of_lt_of_le z (show (0 : Int32) ≤ 1 by decide)) (Int32.not_lt.mpr e)
    obtain ⟨j, hj, rfl⟩ := nI_of h0
    have j1 : 1 ≤ j := (nI_leI (a := 1) (by omega) hj).mp e
    by_cases e2 : j ≤ b
    · exact ⟨j, j1, e2, fun post u h => br_t e (br_t (nI_le e2 (by omega)) h), fun post u h => br_t e (br_t (nI_le e2 (by omega)) h)⟩
    · exact ⟨b, h1, Nat.le_refl b, fun post u h => br_t e (br_f (nI_ge (by omega) hj) h), fun post u h => br_t e (br_f (nI_ge (by omega) hj) h)⟩
  · exact ⟨1, Nat.le_refl 1, h1, fun post u h => br_f e h, fun post u h => br_f e h⟩
theorem i_vc0 (k0 : Int32) (k1 : Int32) (k2 : Int32) (k3 : Int32) : wpX_init (fun u => wpY_init (fun v => i_Rel 4 u v) k0 k1 k2 k3) k0 k1 k2 k3 := by
  obtain ⟨a, a1, a2, aX, aY⟩ := rl_clamp k0 7 (by omega) (by omega)
  obtain ⟨b, b1, b2, bX, bY⟩ := rl_clamp k1 16 (by omega) (by omega)
  obtain ⟨c, c1, c2, cX, cY⟩ := rl_clamp k2 32 (by omega) (by omega)
  obtain ⟨d, d1, d2, dX, dY⟩ := rl_clamp k3 1000 (by omega) (by omega)
  unfold wpX_init
  refine aX _ _ (bX _ _ (cX _ _ (dX _ _ ?_)))
  unfold wpY_init
  refine aY _ _ (bY _ _ (cY _ _ (dY _ _ ?_)))
  refine ⟨a, b, c, d, 0, 0, 0, fun _ => 0, fun _ => 0, fun _ => 0, fun _ => 0, fun _ => 0, fun _ => 0, fun _ => 0, fun _ => 0, fun _ => 0, fun _ => [], ⟨a1, a2, b1, b2, c1, c2, d1, d2, Nat.zero_le _, Nat.zero_le _⟩, ⟨⟨by omega, fun w hw => absurd hw (Nat.not_lt_zero w)⟩, fun w hw => absurd hw (Nat.not_lt_zero w), ⟨Nat.zero_le _, rfl, fun i hi => absurd hi (Nat.not_lt_zero i), fun j _ hj => ?_, rfl, Nat.le_refl _, fun k hk => absurd hk (Nat.not_lt_zero k), fun p _ hp => absurd hp (Nat.not_lt_zero p)⟩, fun _ _ _ => ⟨rfl, rfl⟩, fun w hw => absurd hw (Nat.not_lt_zero w), fun _ _ => rfl⟩, fun c hc => absurd hc (Nat.not_lt_zero c), ⟨rfl, rfl, rfl, rfl, rfl, rfl, rfl, rfl, rfl, rfl, rfl, rfl, rfl, rfl, rfl, rfl⟩, ⟨rfl, rfl, rfl, rfl, rfl, rfl, rfl, rfl, rfl, rfl, rfl⟩⟩
  have : j = 0 := by
    have : j ≤ 32 * 0 + 0 := hj
    omega
  rw [this]; exact Int.le_refl _
theorem i_vc_words {k : Nat} {u : SX} {v : SY} (I : i_Rel k u v) (hk : k + 3 ≤ 1540) : wpX_words (fun r => wpY_words (fun r' => r' = r ∧ i_Rel (k + 3) u v) v) u := by
  rw [we_X_words, we_Y_words]
  obtain ⟨mw, mc, ml, mf, ot, cnt, cc, kd, mt, ln, wt, tx, os, ck, ag, cv, fw, hB, hA, hc, hX, hY⟩ := id I
  exact ⟨hY.2.2.2.2.1.trans hX.2.2.2.2.2.1.symm, I⟩
theorem i_vc_depth {k : Nat} {u : SX} {v : SY} (I : i_Rel k u v) (hk : k + 3 ≤ 1540) : wpX_depth (fun r => wpY_depth (fun r' => r' = r ∧ i_Rel (k + 3) u v) v) u := by
  rw [we_X_depth, we_Y_depth]
  obtain ⟨mw, mc, ml, mf, ot, cnt, cc, kd, mt, ln, wt, tx, os, ck, ag, cv, fw, hB, hA, hc, hX, hY⟩ := id I
  exact ⟨hY.2.2.2.2.2.1.trans hX.2.2.2.2.2.2.1.symm, I⟩
theorem i_vc_kind {k : Nat} {u : SX} {v : SY} (I : i_Rel k u v) (hk : k + 3 ≤ 1540) (v1 : Int32) : wpX_kind (fun r => wpY_kind (fun r' => r' = r ∧ i_Rel (k + 3) u v) v v1) u v1 := by
  have eX := we_X_kind
  have eY := we_Y_kind
  rw [eX]
  obtain ⟨mw, mc, ml, mf, ot, cnt, cc, kd, mt, ln, wt, tx, os, ck, ag, cv, fw, hB, hA, hc, hX, hY⟩ := id I
  obtain ⟨b1, b2, b3, b4, b5, b6, b7, b8, b9, b10⟩ := hB
  have x1 := hX.2.2.2.2.2.2.1
  have x2 := hX.2.2.2.2.2.2.2.2.2.2.2.2.2.2.1
  have y1 := hY.2.2.2.2.2.1
  have y2 := hY.2.2.2.2.2.2.2.2.2.1
  rw [x1, x2]
  by_cases e : v1 < 0
  · refine br_t e ?_
    rw [eY]
    exact br_t e ⟨rfl, I⟩
  · refine br_f e ?_
    by_cases e2 : v1 < nI cc
    · obtain ⟨j, hj, rfl⟩ := nI_of e
      have jl : j < cc := (nI_ltI hj (by omega)).mp e2
      have q : nI cc - 1 - nI j = nI (cc - 1 - j) := by rw [show (1 : Int32) = nI 1 from rfl, pk_sub (by omega), pk_sub (by omega)]
      have hi : vp_in (nI cc - 1 - nI j) 16 := by rw [q]; exact vp_in_nI (by omega) (by omega)
      refine br_t e2 ⟨hi, ?_⟩
      rw [eY, y1, y2]
      exact br_f e (br_t e2 ⟨hi, rfl, I⟩)
    · refine br_f e2 ?_
      rw [eY, y1]
      exact br_f e (br_f e2 ⟨rfl, I⟩)
theorem i_vc_value {k : Nat} {u : SX} {v : SY} (I : i_Rel k u v) (hk : k + 3 ≤ 1540) (v1 : Int32) : wpX_value (fun r => wpY_value (fun r' => r' = r ∧ i_Rel (k + 3) u v) v v1) u v1 := by
  have eX := we_X_value
  have eY := we_Y_value
  rw [eX]
  obtain ⟨mw, mc, ml, mf, ot, cnt, cc, kd, mt, ln, wt, tx, os, ck, ag, cv, fw, hB, hA, hc, hX, hY⟩ := id I
  obtain ⟨b1, b2, b3, b4, b5, b6, b7, b8, b9, b10⟩ := hB
  have x1 := hX.2.2.2.2.2.2.1
  have x2 := hX.2.2.2.2.2.2.2.2.2.2.2.2.2.2.2
  have y1 := hY.2.2.2.2.2.1
  have y2 := hY.2.2.2.2.2.2.2.2.2.2
  rw [x1, x2]
  by_cases e : v1 < 0
  · refine br_t e ?_
    rw [eY]
    exact br_t e ⟨rfl, I⟩
  · refine br_f e ?_
    by_cases e2 : v1 < nI cc
    · obtain ⟨j, hj, rfl⟩ := nI_of e
      have jl : j < cc := (nI_ltI hj (by omega)).mp e2
      have q : nI cc - 1 - nI j = nI (cc - 1 - j) := by rw [show (1 : Int32) = nI 1 from rfl, pk_sub (by omega), pk_sub (by omega)]
      have hi : vp_in (nI cc - 1 - nI j) 16 := by rw [q]; exact vp_in_nI (by omega) (by omega)
      refine br_t e2 ⟨hi, ?_⟩
      rw [eY, y1, y2]
      exact br_f e (br_t e2 ⟨hi, rfl, I⟩)
    · refine br_f e2 ?_
      rw [eY, y1]
      exact br_f e (br_f e2 ⟨rfl, I⟩)
theorem i_vc_push {k : Nat} {u : SX} {v : SY} (I : i_Rel k u v) (hk : k + 3 ≤ 1540) (v1 : Int32) : wpX_push (fun r u' => wpY_push (fun r' v' => r' = r ∧ i_Rel (k + 3) u' v') v v1) u v1 := by
  rw [we_X_push]
  obtain ⟨mw, mc, ml, mf, ot, cnt, cc, kd, mt, ln, wt, tx, os, ck, ag, cv, fw, hB, hA, hc, hX, hY⟩ := id I
  obtain ⟨b1, b2, b3, b4, b5, b6, b7, b8, b9, b10⟩ := hB
  obtain ⟨x1, x2, x3, x4, x5, x6, x7, x8, x9, x10, x11, x12, x13, x14, x15, x16⟩ := hX
  obtain ⟨y1, y2, y3, y4, y5, y6, y7, y8, y9, y10, y11⟩ := hY
  rw [x7, x2, x15, x16]
  refine pk_eq cc mc (fun e => ?_) (fun e => ?_) rfl rfl (by omega) (by omega)
  · rw [we_Y_push, y6, y2]
    exact br_t (by rw [e]) ⟨rfl, I⟩
  have ne : ¬ nI cc = nI mc := by rw [nI_eq (by omega) (by omega)]; exact e
  have hi : vp_in (nI cc) 16 := vp_in_nI (by omega) (by omega)
  have q1 : upd (sv_na ck) (nI cc).toNatClampNeg 1 = sv_na (sv_un ck cc 1) := sv_naU (x := 1) (by omega)
  rw [q1]
  refine ⟨hi, nm_e ⟨hi, nm_e (nm_r (nI_1 cc) ?_)⟩⟩
  rw [we_Y_push, y6, y2, y10, y11, q1]
  refine br_f ne ⟨hi, nm_e (nm_r (nI_1 cc) ⟨hi, nm_e ⟨rfl, ?_⟩⟩)⟩
  rw [nI_clamp (show cc < 2 ^ 31 by omega)]
  refine ⟨mw, mc, ml, mf, ot, cnt, cc + 1, kd, mt, ln, wt, tx, os, sv_un ck cc 1, ag, upd cv cc v1, fw, ⟨b1, b2, b3, b4, b5, b6, b7, b8, b9, by omega⟩, hA, fun c hc' => ?_, ⟨x1, x2, x3, x4, x5, x6, rfl, x8, x9, x10, x11, x12, x13, x14, rfl, rfl⟩, ⟨y1, y2, y3, y4, y5, rfl, y7, y8, y9, rfl, rfl⟩⟩
  by_cases z : c = cc
  · rw [z, sv_us]; exact Or.inl rfl
  · rw [sv_uo z, pk_un z]; exact hc c (by omega)
theorem i_vc_pop {k : Nat} {u : SX} {v : SY} (I : i_Rel k u v) (hk : k + 3 ≤ 1540) : wpX_pop (fun r u' => wpY_pop (fun r' v' => r' = r ∧ i_Rel (k + 3) u' v') v) u := by
  rw [we_X_pop]
  obtain ⟨mw, mc, ml, mf, ot, cnt, cc, kd, mt, ln, wt, tx, os, ck, ag, cv, fw, hB, hA, hc, hX, hY⟩ := id I
  obtain ⟨b1, b2, b3, b4, b5, b6, b7, b8, b9, b10⟩ := hB
  obtain ⟨x1, x2, x3, x4, x5, x6, x7, x8, x9, x10, x11, x12, x13, x14, x15, x16⟩ := hX
  obtain ⟨y1, y2, y3, y4, y5, y6, y7, y8, y9, y10, y11⟩ := hY
  rw [x7]
  cases cc with
  | zero =>
    refine br_t rfl ?_
    rw [we_Y_pop, y6]
    exact br_t rfl ⟨rfl, I⟩
  | succ cc =>
    have ne : ¬ nI (cc + 1) = 0 := nI_ne0 (by omega) (by omega)
    refine br_f ne (nm_r (nI_pred cc) ?_)
    rw [we_Y_pop, y6]
    refine br_f ne (nm_r (nI_pred cc) ⟨rfl, ?_⟩)
    exact ⟨mw, mc, ml, mf, ot, cnt, cc, kd, mt, ln, wt, tx, os, ck, ag, cv, fw, ⟨b1, b2, b3, b4, b5, b6, b7, b8, b9, by omega⟩, hA, fun c hc' => hc c (by omega), ⟨x1, x2, x3, x4, x5, x6, rfl, x8, x9, x10, x11, x12, x13, x14, x15, x16⟩, ⟨y1, y2, y3, y4, y5, rfl, y7, y8, y9, y10, y11⟩⟩
end
end
section
/-! tokenKind, tokenArg, scrap -/
section
variable {ot cnt : Nat} {kd mt ln wt tx os : Nat → Nat} {ag : Nat → Int32} {fw : Nat → List Nat}
theorem rl_ln (A : rl_A ot cnt kd mt ln wt tx os ag fw) : ∀ w, w < 8 → ln w ≤ 32 := by
  intro w hw
  obtain ⟨a1, a2, a3, a4, a5, a6⟩ := A
  rcases Nat.lt_trichotomy w cnt with z | z | z
  · exact (wd_ln a1 z).2
  · have := wd_W_ge (g := wd_tW kd ag wt) wd_tW1 (ln cnt) (32 * cnt)
    rw [z]
    have h1 := a3.1
    have h2 := a3.2.1
    omega
  · rw [(a4 w z hw).1]; omega
theorem rl_kd (A : rl_A ot cnt kd mt ln wt tx os ag fw) {w i : Nat} (hw : w ≤ cnt) (hi : i < ln w) : 1 ≤ kd (32 * w + i) ∧ kd (32 * w + i) ≤ 13 := by
  obtain ⟨a1, a2, a3, a4, a5, a6⟩ := A
  by_cases z : w = cnt
  · subst z
    exact ⟨(a3.2.2.1 i hi).1, (a3.2.2.1 i hi).2.1⟩
  · have := (a1.2 w (by omega)).2.2.2 i hi
    exact ⟨this.1, this.2.1⟩
/-- a token is asked for: it is there, for both, or for none -/
theorem rl_isTok {u : SX} {v : SY} (hc : cnt ≤ 7) (A : rl_A ot cnt kd mt ln wt tx os ag fw) (x6 : xq_count u = nI cnt) (x11 : xq_length u = sv_na ln) (y5 : yq_count v = nI cnt) (y7 : yq_kinds v = sv_na kd) (y9 : yq_size v = sv_na ln) (v1 v2 : Int32) :
    ((∀ post : Int32 → Prop, post 0 → wpX_isToken post u v1 v2) ∧ (∀ post : Int32 → Prop, post 0 → wpY_tokenKind post v v1 v2)) ∨ (∃ w i, w ≤ cnt ∧ i < ln w ∧ v1 = nI w ∧ v2 = nI i ∧ (∀ post : Int32 → Prop, post 1 → wpX_isToken post u v1 v2) ∧ (∀ post : Int32 → Prop, post (nI (kd (32 * w + i))) → wpY_tokenKind post v v1 v2)) := by
  by_cases e1 : v1 < 0
  · exact Or.inl ⟨fun post h => by rw [we_X_isToken]; exact br_t e1 h, fun post h => by rw [we_Y_tokenKind]; exact br_t e1 h⟩
  obtain ⟨w, hw, rfl⟩ := nI_of e1
  by_cases e2 : nI cnt < nI w
  · exact Or.inl ⟨fun post h => by rw [we_X_isToken, x6]; exact br_f e1 (br_t e2 h), fun post h => by rw [we_Y_tokenKind, y5]; exact br_f e1 (br_t e2 h)⟩
  have wl : w ≤ cnt := by
    rw [nI_ltI (by omega) hw] at e2; omega
  by_cases e3 : v2 < 0
  · exact Or.inl ⟨fun post h => by rw [we_X_isToken, x6]; exact br_f e1 (br_f e2 (br_t e3 h)), fun post h => by rw [we_Y_tokenKind, y5]; exact br_f e1 (br_f e2 (br_t e3 h))⟩
  obtain ⟨i, hi, rfl⟩ := nI_of e3
  have ll := rl_ln A w (by omega)
  have hb : vp_in (nI w) 8 := vp_in_nI (by omega) (by omega)
  have el : sv_na ln (nI w).toNatClampNeg = nI (ln w) := sv_naA hw
  by_cases e4 : i < ln w
  · right
    refine ⟨w, i, wl, e4, rfl, rfl, fun post h => ?_, fun post h => ?_⟩
    · rw [we_X_isToken, x6, x11, el]
      exact br_f e1 (br_f e2 (br_f e3 ⟨hb, br_f (nI_ge e4 (by omega)) h⟩))
    · rw [we_Y_tokenKind, y5, y7, y9, el]
      have q : (32 : Int32) * nI w + nI i = nI (32 * w + i) := by rw [show (32 : Int32) * nI w = nI (32 * w) from pk_mul 32 w, nI_add]
      rw [q, sv_naA (by omega)]
      exact br_f e1 (br_f e2 (br_f e3 ⟨hb, br_t (nI_lt e4 (by omega)) ⟨vp_in_nI (by omega) (by omega), h⟩⟩))
  · left
    refine ⟨fun post h => ?_, fun post h => ?_⟩
    · rw [we_X_isToken, x6, x11, el]
      exact br_f e1 (br_f e2 (br_f e3 ⟨hb, br_t (nI_le (by omega) hi) h⟩))
    · rw [we_Y_tokenKind, y5, y7, y9, el]
      exact br_f e1 (br_f e2 (br_f e3 ⟨hb, br_f (nI_nlt (by omega) hi) h⟩))
theorem i_vc_tokenKind {k : Nat} {u : SX} {v : SY} (I : i_Rel k u v) (hk : k + 3 ≤ 1540) (v1 : Int32) (v2 : Int32) : wpX_tokenKind (fun r => wpY_tokenKind (fun r' => r' = r ∧ i_Rel (k + 3) u v) v v1 v2) u v1 v2 := by
  obtain ⟨mw, mc, ml, mf, ot, cnt, cc, kd, mt, ln, wt, tx, os, ck, ag, cv, fw, hB, hA, hc, hX, hY⟩ := id I
  obtain ⟨b1, b2, b3, b4, b5, b6, b7, b8, b9, b10⟩ := hB
  obtain ⟨x1, x2, x3, x4, x5, x6, x7, x8, x9, x10, x11, x12, x13, x14, x15, x16⟩ := hX
  obtain ⟨y1, y2, y3, y4, y5, y6, y7, y8, y9, y10, y11⟩ := hY
  rw [we_X_tokenKind, x8]
  rcases rl_isTok (u := u) (v := v) (by omega) hA x6 x11 y5 y7 y9 v1 v2 with ⟨hX', hY'⟩ | ⟨w, i, w1, w2, e1, e2, hX', hY'⟩
  · exact hX' _ (br_t rfl (hY' _ ⟨rfl, I⟩))
  · refine hX' _ (br_f (by decide) ?_)
    have ll := rl_ln hA w (by omega)
    have q : (32 : Int32) * v1 + v2 = nI (32 * w + i) := by rw [e1, e2, show (32 : Int32) * nI w = nI (32 * w) from pk_mul 32 w, nI_add]
    rw [q, sv_naA (by omega)]
    exact ⟨vp_in_nI (by omega) (by omega), hY' _ ⟨rfl, I⟩⟩
theorem i_vc_tokenArg {k : Nat} {u : SX} {v : SY} (I : i_Rel k u v) (hk : k + 3 ≤ 1540) (v1 : Int32) (v2 : Int32) : wpX_tokenArg (fun r => wpY_tokenArg (fun r' => r' = r ∧ i_Rel (k + 3) u v) v v1 v2) u v1 v2 := by
  obtain ⟨mw, mc, ml, mf, ot, cnt, cc, kd, mt, ln, wt, tx, os, ck, ag, cv, fw, hB, hA, hc, hX, hY⟩ := id I
  obtain ⟨b1, b2, b3, b4, b5, b6, b7, b8, b9, b10⟩ := hB
  obtain ⟨x1, x2, x3, x4, x5, x6, x7, x8, x9, x10, x11, x12, x13, x14, x15, x16⟩ := hX
  obtain ⟨y1, y2, y3, y4, y5, y6, y7, y8, y9, y10, y11⟩ := hY
  rw [we_X_tokenArg, x9]
  rcases rl_isTok (u := u) (v := v) (by omega) hA x6 x11 y5 y7 y9 v1 v2 with ⟨hX', hY'⟩ | ⟨w, i, w1, w2, e1, e2, hX', hY'⟩
  · refine hX' _ (br_t rfl ?_)
    rw [we_Y_tokenArg]
    exact hY' _ (br_t rfl ⟨rfl, I⟩)
  · refine hX' _ (br_f (by decide) ?_)
    have ll := rl_ln hA w (by omega)
    have kk := rl_kd hA w1 w2
    have q : (32 : Int32) * v1 + v2 = nI (32 * w + i) := by rw [e1, e2, show (32 : Int32) * nI w = nI (32 * w) from pk_mul 32 w, nI_add]
    have hb : vp_in ((32 : Int32) * v1 + v2) 256 := by rw [q]; exact vp_in_nI (by omega) (by omega)
    refine ⟨hb, ?_⟩
    rw [we_Y_tokenArg, y8]
    exact hY' _ (br_f (nI_ne0 (by omega) (by omega)) ⟨hb, rfl, I⟩)
/-- the finished words don't see the draft -/
theorem wd_congr {kd' ln' wt' : Nat → Nat} {ag' : Nat → Int32} {fw' : Nat → List Nat} (h : wd_ok kd ln wt ag fw cnt) (hp : ∀ p, p < 32 * cnt → kd' p = kd p ∧ ag' p = ag p) (hw : ∀ w, w < cnt → ln' w = ln w ∧ wt' w = wt w ∧ fw' w = fw w) : wd_ok kd' ln' wt' ag' fw' cnt := by
  refine ⟨h.1, fun w hw' => ?_⟩
  obtain ⟨h1, h2, h3, h4⟩ := h.2 w hw'
  have l := (wd_ln h hw').2
  have hc := h.1
  have pos : ∀ i, i < ln w → 32 * w + i < 32 * cnt := fun i hi => by omega
  have eW : ∀ i, i < ln w → wd_tW kd' ag' wt' (32 * w + i) = wd_tW kd ag wt (32 * w + i) := fun i hi => by
    unfold wd_tW
    rw [(hp _ (pos i hi)).1, (hp _ (pos i hi)).2]
    by_cases e : kd (32 * w + i) = 2
    · obtain ⟨v, v1, v2⟩ := (h4 i hi).2.2 e
      rw [if_pos e, if_pos e, v2, nI_clamp (by omega), (hw v (by omega)).2.1]
    · rw [if_neg e, if_neg e]
  have eL : ∀ i, i < ln w → wd_tL kd' ag' fw' (32 * w + i) = wd_tL kd ag fw (32 * w + i) := fun i hi => by
    unfold wd_tL
    rw [(hp _ (pos i hi)).1, (hp _ (pos i hi)).2]
    by_cases e : kd (32 * w + i) = 2
    · obtain ⟨v, v1, v2⟩ := (h4 i hi).2.2 e
      rw [if_pos e, if_pos e, v2, nI_clamp (by omega), (hw v (by omega)).2.2]
    · rw [if_neg e, if_neg e]
  obtain ⟨q1, q2, q3⟩ := hw w hw'
  rw [q1, q2, q3]
  refine ⟨h1, ?_, ?_, fun i hi => ?_⟩
  · rw [wd_W_congr (ln w) (32 * w) eW]; exact h2
  · rw [wd_L_congr (ln w) (32 * w) eL]; exact h3
  · rw [(hp _ (pos i hi)).1, (hp _ (pos i hi)).2]; exact h4 i hi
theorem bs_M_congr {kd' : Nat → Nat} {p q : Nat} (h : bs_M kd p q) (e : ∀ j, j ≤ q → kd' j = kd j) : bs_M kd' p q := by
  obtain ⟨m1, m2, m3, m4, m5⟩ := h
  refine ⟨m1, (e p (by omega)).trans m2, (e q (Nat.le_refl q)).trans m3, fun j j1 j2 => ?_, ?_⟩
  · rw [bs_S_congr p (fun l hl => e l (by omega)), bs_S_congr j (fun l hl => e l (by omega))]; exact m4 j j1 j2
  · rw [bs_S_congr (q + 1) (fun l hl => e l (by omega)), bs_S_congr p (fun l hl => e l (by omega))]; exact m5
theorem rl_w_congr {kd' ln' mt' : Nat → Nat} {w : Nat} (hl : ln w ≤ 32) (h : rl_w kd ln mt w) (hp : ∀ p, p < 32 * (w + 1) → kd' p = kd p ∧ mt' p = mt p) (e : ln' w = ln w) : rl_w kd' ln' mt' w := by
  obtain ⟨h1, h2, h3⟩ := h
  have S : ∀ j, j ≤ 32 * w + ln w → bs_S kd' j = bs_S kd j := fun j hj => bs_S_congr j (fun l hl => (hp l (by omega)).1)
  rw [rl_w, e]
  refine ⟨fun j j1 j2 => ?_, ?_, fun p p1 p2 p3 => ?_⟩
  · rw [S _ (by omega), S j j2]; exact h1 j j1 j2
  · rw [S _ (by omega), S _ (by omega)]; exact h2
  · rw [(hp p (by omega)).1] at p3
    rw [(hp p (by omega)).2]
    obtain ⟨q1, q2⟩ := h3 p p1 p2 p3
    exact ⟨bs_M_congr q1 (fun j hj => (hp j (by omega)).1), q2⟩
theorem i_vc_scrap {k : Nat} {u : SX} {v : SY} (I : i_Rel k u v) (hk : k + 3 ≤ 1540) : wpX_scrap (fun u' => wpY_scrap (fun v' => i_Rel (k + 3) u' v') v) u := by
  obtain ⟨mw, mc, ml, mf, ot, cnt, cc, kd, mt, ln, wt, tx, os, ck, ag, cv, fw, hB, hA, hc, hX, hY⟩ := id I
  obtain ⟨b1, b2, b3, b4, b5, b6, b7, b8, b9, b10⟩ := id hB
  obtain ⟨x1, x2, x3, x4, x5, x6, x7, x8, x9, x10, x11, x12, x13, x14, x15, x16⟩ := hX
  obtain ⟨y1, y2, y3, y4, y5, y6, y7, y8, y9, y10, y11⟩ := hY
  rw [we_X_scrap, x6, x11, x12]
  have hi : vp_in (nI cnt) 8 := vp_in_nI (by omega) (by omega)
  have q1 : upd (sv_na ln) (nI cnt).toNatClampNeg 0 = sv_na (sv_un ln cnt 0) := sv_naU (x := 0) (by omega)
  have q2 : upd (sv_na wt) (nI cnt).toNatClampNeg 0 = sv_na (sv_un wt cnt 0) := sv_naU (x := 0) (by omega)
  rw [q1, q2]
  refine ⟨hi, nm_e ⟨hi, nm_e ?_⟩⟩
  rw [we_Y_scrap, y5, y9, q1]
  refine ⟨hi, nm_e ?_⟩
  have lns : sv_un ln cnt 0 cnt = 0 := sv_us
  have wts : sv_un wt cnt 0 cnt = 0 := sv_us
  refine ⟨mw, mc, ml, mf, 0, cnt, cc, kd, mt, sv_un ln cnt 0, sv_un wt cnt 0, tx, os, ck, ag, cv, fw, hB, ⟨wd_congr hA.1 (fun _ _ => ⟨rfl, rfl⟩) (fun w hw => ⟨sv_uo (by omega), sv_uo (by omega), rfl⟩), fun w hw => rl_w_congr (rl_ln hA w (by omega)) (hA.2.1 w hw) (fun _ _ => ⟨rfl, rfl⟩) (sv_uo (by omega)), ?_, fun w w1 w2 => ?_, hA.2.2.2.2.1, hA.2.2.2.2.2⟩, fun c hc' => ?_, ⟨x1, x2, x3, x4, rfl, x6, x7, x8, x9, x10, rfl, rfl, x13, x14, x15, x16⟩, ⟨y1, y2, y3, y4, y5, y6, y7, y8, rfl, y10, y11⟩⟩
  · unfold rl_d
    rw [lns, wts]
    refine ⟨by omega, rfl, fun i hi => absurd hi (Nat.not_lt_zero i), fun j j1 j2 => ?_, by rw [Nat.add_zero]; omega, Nat.le_refl _, fun k hk => absurd hk (Nat.not_lt_zero k), fun p p1 p2 => by omega⟩
    rw [show j = 32 * cnt by omega]; exact Int.le_refl _
  · rw [sv_uo (by omega), sv_uo (by omega)]; exact hA.2.2.2.1 w w1 w2
  · rcases hc c hc' with z | ⟨z1, p, w, z2, z3, z4, z5, z6⟩
    · exact Or.inl z
    · exact Or.inr ⟨z1, p, w, z2, z3, z4, by rw [sv_uo (by omega)]; exact z5, z6⟩
end
end
section
/-! token: the pure side -/
section
def rt_ot (k ot : Nat) : Nat := if k = 3 then ot + 1 else if k = 4 then ot - 1 else ot
def rt_os (k ot e : Nat) (os : Nat → Nat) : Nat → Nat := if k = 3 then sv_un os ot e else os
def rt_mt (k ot e : Nat) (os mt : Nat → Nat) : Nat → Nat := if k = 4 then sv_un mt (os (ot - 1)) e else mt
variable {ot cnt : Nat} {kd mt ln wt tx os : Nat → Nat} {ag : Nat → Int32} {fw : Nat → List Nat}
theorem rt_app {k tw : Nat} {a : Int32} (hcn : cnt ≤ 7) (A : rl_A ot cnt kd mt ln wt tx os ag fw) (k1 : 1 ≤ k) (k2 : k ≤ 13) (h2 : k = 2 → rl_v cnt a) (h4 : k = 4 → 0 < ot) (htw : tw = if k = 2 then 1 + wt a.toNatClampNeg else 1) (hw : wt cnt + tw ≤ 32) :
    rl_A (rt_ot k ot) cnt (sv_un kd (32 * cnt + ln cnt) k) (rt_mt k ot (32 * cnt + ln cnt) os mt) (sv_un ln cnt (ln cnt + 1)) (sv_un wt cnt (wt cnt + tw)) tx (rt_os k ot (32 * cnt + ln cnt) os) (upd ag (32 * cnt + ln cnt) a) fw := by
  have lnw := rl_ln A
  obtain ⟨a1, a2, a3, a4, a5, a6⟩ := A
  obtain ⟨d1, d2, d3, d4, d5, d6, d7, d8⟩ := a3
  have kdo : ∀ p, p ≠ 32 * cnt + ln cnt → sv_un kd (32 * cnt + ln cnt) k p = kd p := fun p hp => sv_uo hp
  have kds : sv_un kd (32 * cnt + ln cnt) k (32 * cnt + ln cnt) = k := sv_us
  have S : ∀ j, j ≤ 32 * cnt + ln cnt → bs_S (sv_un kd (32 * cnt + ln cnt) k) j = bs_S kd j := fun j hj => bs_S_congr j (fun l hl => kdo l (by omega))
  have tw1 : 1 ≤ tw := by rw [htw]; split <;> omega
  have lw : ln cnt ≤ wt cnt := by
    have := wd_W_ge (g := wd_tW kd ag wt) wd_tW1 (ln cnt) (32 * cnt)
    omega
  have mto : ∀ p, p < 32 * cnt → rt_mt k ot (32 * cnt + ln cnt) os mt p = mt p := fun p hp => by
    unfold rt_mt
    by_cases z : k = 4
    · rw [if_pos z]
      have := (d7 (ot - 1) (by have := h4 z; omega)).1
      exact sv_uo (by omega)
    · rw [if_neg z]
  refine ⟨wd_congr a1 (fun p hp => ⟨kdo p (by omega), pk_un (by omega)⟩) (fun w hw => ⟨sv_uo (by omega), sv_uo (by omega), rfl⟩), fun w hw' => rl_w_congr (lnw w (by omega)) (a2 w hw') (fun p hp => ⟨kdo p (by omega), mto p (by omega)⟩) (sv_uo (by omega)), ?_, fun w w1 w2 => ?_, a5, a6⟩
  · unfold rl_d
    rw [show sv_un ln cnt (ln cnt + 1) cnt = ln cnt + 1 from sv_us, show sv_un wt cnt (wt cnt + tw) cnt = wt cnt + tw from sv_us]
    have Se : bs_S (sv_un kd (32 * cnt + ln cnt) k) (32 * cnt + (ln cnt + 1)) = bs_S kd (32 * cnt + ln cnt) + bs_g k := by
      show bs_S (sv_un kd (32 * cnt + ln cnt) k) (32 * cnt + ln cnt) + bs_g (sv_un kd (32 * cnt + ln cnt) k (32 * cnt + ln cnt)) = _
      rw [kds, S _ (Nat.le_refl _)]
    have low : bs_S kd (32 * cnt) ≤ bs_S kd (32 * cnt + ln cnt) + bs_g k := by
      unfold bs_g
      by_cases e3 : k = 3
      · rw [if_pos e3]; omega
      · by_cases e4 : k = 4
        · have := h4 e4
          rw [if_neg e3, if_pos e4]; omega
        · rw [if_neg e3, if_neg e4]; omega
    refine ⟨hw, ?_, fun i hi => ?_, fun j j1 j2 => ?_, ?_, ?_, fun q hq => ?_, fun p p1 p2 p3 => ?_⟩
    · have e1 : wd_W (wd_tW (sv_un kd (32 * cnt + ln cnt) k) (upd ag (32 * cnt + ln cnt) a) (sv_un wt cnt (wt cnt + tw))) (32 * cnt) (ln cnt) = wd_W (wd_tW kd ag wt) (32 * cnt) (ln cnt) := by
        refine wd_W_congr _ _ (fun i hi => ?_)
        unfold wd_tW
        rw [kdo _ (by omega), pk_un (by omega)]
        by_cases z : kd (32 * cnt + i) = 2
        · obtain ⟨v, v1, v2⟩ := (d3 i hi).2.2 z
          rw [if_pos z, if_pos z, v2, nI_clamp (by omega), sv_uo (by omega)]
        · rw [if_neg z, if_neg z]
      rw [wd_W_app (ln cnt) (32 * cnt) 1, e1, ← d2]
      show wt cnt + tw = wt cnt + (wd_tW _ _ _ (32 * cnt + ln cnt) + 0)
      unfold wd_tW
      rw [kds, pk_us, htw]
      by_cases z : k = 2
      · obtain ⟨v, v1, v2⟩ := h2 z
        rw [if_pos z, if_pos z, v2, nI_clamp (by omega), sv_uo (by omega)]; omega
      · rw [if_neg z, if_neg z]
    · by_cases z : i = ln cnt
      · rw [z, kds, pk_us]; exact ⟨k1, k2, h2⟩
      · rw [kdo _ (by omega), pk_un (by omega)]; exact d3 i (by omega)
    · rw [S _ (by omega)]
      by_cases z : j = 32 * cnt + ln cnt + 1
      · rw [show j = 32 * cnt + (ln cnt + 1) by omega, Se]; exact low
      · rw [S j (by omega)]; exact d4 j j1 (by omega)
    · rw [Se, S _ (by omega), d5]
      unfold bs_g rt_ot
      by_cases e3 : k = 3
      · rw [if_pos e3, if_pos e3]; omega
      · by_cases e4 : k = 4
        · have := h4 e4
          rw [if_neg e3, if_pos e4, if_neg e3, if_pos e4]; omega
        · rw [if_neg e3, if_neg e4, if_neg e3, if_neg e4]; omega
    · unfold rt_ot
      by_cases e3 : k = 3
      · rw [if_pos e3]; omega
      · by_cases e4 : k = 4
        · rw [if_neg e3, if_pos e4]; omega
        · rw [if_neg e3, if_neg e4]; omega
    · by_cases new : k = 3 ∧ q = ot
      · have eo : rt_os k ot (32 * cnt + ln cnt) os q = 32 * cnt + ln cnt := by
          unfold rt_os; rw [if_pos new.1, new.2, sv_us]
        rw [eo, kds, S _ (by omega), S _ (by omega), d5, new.2]
        refine ⟨by omega, by omega, new.1, rfl, fun j j1 j2 => ?_⟩
        have g3 : bs_g k = 1 := by rw [new.1]; rfl
        rw [show j = 32 * cnt + (ln cnt + 1) by omega, Se, g3]; omega
      · have qo : q < ot ∧ (k = 4 → q + 1 < ot) := by
          unfold rt_ot at hq
          by_cases e3 : k = 3
          · rw [if_pos e3] at hq; omega
          · by_cases e4 : k = 4
            · rw [if_neg e3, if_pos e4] at hq; omega
            · rw [if_neg e3, if_neg e4] at hq; omega
        have eo : rt_os k ot (32 * cnt + ln cnt) os q = os q := by
          unfold rt_os
          by_cases e3 : k = 3
          · rw [if_pos e3]; exact sv_uo (by omega)
          · rw [if_neg e3]
        obtain ⟨q1, q2, q3, q4, q5⟩ := d7 q qo.1
        rw [eo, kdo _ (by omega), S _ (by omega), S _ (by omega)]
        refine ⟨q1, by omega, q3, q4, fun j j1 j2 => ?_⟩
        by_cases z : j = 32 * cnt + ln cnt + 1
        · rw [show j = 32 * cnt + (ln cnt + 1) by omega, Se]
          unfold bs_g
          by_cases e3 : k = 3
          · rw [if_pos e3]; omega
          · by_cases e4 : k = 4
            · have := qo.2 e4
              rw [if_neg e3, if_pos e4]; omega
            · rw [if_neg e3, if_neg e4]; omega
        · rw [S j (by omega)]; exact q5 j j1 (by omega)
    · by_cases z : p = 32 * cnt + ln cnt
      · rw [z, kds] at p3
        left
        refine ⟨ot, ?_, ?_⟩
        · unfold rt_ot; rw [if_pos p3]; omega
        · unfold rt_os; rw [if_pos p3, sv_us, z]
      · rw [kdo p z] at p3
        rcases d8 p p1 (by omega) p3 with ⟨q, q1, q2⟩ | ⟨m1, m2⟩
        · by_cases fin : k = 4 ∧ q = ot - 1
          · right
            have em : rt_mt k ot (32 * cnt + ln cnt) os mt p = 32 * cnt + ln cnt := by
              unfold rt_mt; rw [if_pos fin.1, ← fin.2, q2, sv_us]
            rw [em]
            obtain ⟨r1, r2, r3, r4, r5⟩ := d7 q q1
            rw [q2] at r1 r2 r3 r4 r5
            have g4 : bs_g k = -1 := by rw [fin.1]; rfl
            have := h4 fin.1
            refine ⟨⟨by omega, by rw [kdo p z]; exact r3, by rw [kds]; exact fin.1, fun j j1 j2 => ?_, ?_⟩, by omega⟩
            · rw [S _ (by omega), S j (by omega)]; exact r5 j j1 (by omega)
            · rw [show 32 * cnt + ln cnt + 1 = 32 * cnt + (ln cnt + 1) by omega, Se, g4, S _ (by omega)]; omega
          · left
            refine ⟨q, ?_, ?_⟩
            · unfold rt_ot
              by_cases e3 : k = 3
              · rw [if_pos e3]; omega
              · by_cases e4 : k = 4
                · rw [if_neg e3, if_pos e4]; omega
                · rw [if_neg e3, if_neg e4]; exact q1
            · unfold rt_os
              by_cases e3 : k = 3
              · rw [if_pos e3, sv_uo (by omega)]; exact q2
              · rw [if_neg e3]; exact q2
        · right
          have em : rt_mt k ot (32 * cnt + ln cnt) os mt p = mt p := by
            unfold rt_mt
            by_cases e4 : k = 4
            · rw [if_pos e4]
              refine sv_uo (fun w => ?_)
              obtain ⟨r1, r2, r3, r4, r5⟩ := d7 (ot - 1) (by have := h4 e4; omega)
              rw [← w] at r4 r5
              obtain ⟨n1, n2, n3, n4, n5⟩ := m1
              have := r5 (mt p + 1) (by omega) (by omega)
              omega
            · rw [if_neg e4]
          rw [em]
          exact ⟨bs_M_congr m1 (fun j hj => kdo j (by omega)), by omega⟩
  · rw [sv_uo (by omega), sv_uo (by omega)]; exact a4 w w1 w2
end
end
section
/-! token: both walks -/
section
variable {mw mc ml mf ot cnt cc : Nat} {kd mt ln wt tx os ck : Nat → Nat} {ag cv : Nat → Int32} {fw : Nat → List Nat}
def rt_a (k : Nat) (a : Int32) : Int32 := if k = 1 ∨ k = 2 then a else 0
def rt_w (k : Nat) (a : Int32) (wt : Nat → Nat) : Nat := if k = 2 then 1 + wt a.toNatClampNeg else 1
theorem tk_45 {post : SX → Prop} {u : SX} {k : Nat} {a : Int32} (hcn : cnt ≤ 7) (k2 : k ≤ 13) (hl : ln cnt ≤ 31) (ho : ot ≤ 31) (h4 : k = 4 → 0 < ot ∧ os (ot - 1) < 256) (X : rl_X mw mc ml mf ot cnt cc kd mt ln wt tx os ck ag cv u)
    (h : ∀ u', rl_X mw mc ml mf (rt_ot k ot) cnt cc kd (rt_mt k ot (32 * cnt + ln cnt) os mt) (sv_un ln cnt (ln cnt + 1)) wt tx (rt_os k ot (32 * cnt + ln cnt) os) ck (upd ag (32 * cnt + ln cnt) a) cv u' → post u') :
    pqX_append_45 post (nI k) (nI (32 * cnt + ln cnt)) a (nI (32 * cnt + ln cnt)) u := by
  obtain ⟨x1, x2, x3, x4, x5, x6, x7, x8, x9, x10, x11, x12, x13, x14, x15, x16⟩ := X
  rw [pqX_append_45_e, x6, x9, x11, x5, x14, x10]
  have hi : vp_in (nI cnt) 8 := vp_in_nI (by omega) (by omega)
  have q : upd (sv_na ln) (nI cnt).toNatClampNeg (sv_na ln (nI cnt).toNatClampNeg + 1) = sv_na (sv_un ln cnt (ln cnt + 1)) := by rw [sv_naA (by omega), nI_1, sv_naU (by omega)]
  rw [q, nI_clamp (show 32 * cnt + ln cnt < 2 ^ 31 by omega)]
  refine ⟨vp_in_nI (by omega) (by omega), nm_e ⟨hi, hi, nm_e ?_⟩⟩
  by_cases e3 : k = 3
  · have c1 : rt_ot k ot = ot + 1 := if_pos e3
    have c2 : rt_os k ot (32 * cnt + ln cnt) os = sv_un os ot (32 * cnt + ln cnt) := if_pos e3
    have c3 : rt_mt k ot (32 * cnt + ln cnt) os mt = mt := if_neg (by omega)
    rw [c1, c2, c3] at h
    rw [sv_naU (by omega)]
    refine br_t (by rw [e3]; rfl) ⟨vp_in_nI (by omega) (by omega), nm_e (nm_r (nI_1 ot) ?_)⟩
    exact h _ ⟨x1, x2, x3, x4, rfl, x6, x7, x8, rfl, x10, rfl, x12, x13, rfl, x15, x16⟩
  · have n3 : ¬ nI k = 3 := by
      rw [show (3 : Int32) = nI 3 from rfl, nI_eq (by omega) (by omega)]; exact e3
    have c2 : rt_os k ot (32 * cnt + ln cnt) os = os := if_neg e3
    by_cases e4 : k = 4
    · obtain ⟨o1, o2⟩ := h4 e4
      obtain ⟨ot0, hot⟩ : ∃ o, ot = o + 1 := ⟨ot - 1, by omega⟩
      subst hot
      have c1 : rt_ot k (ot0 + 1) = ot0 := by unfold rt_ot; rw [if_neg e3, if_pos e4]; rfl
      have c3 : rt_mt k (ot0 + 1) (32 * cnt + ln cnt) os mt = sv_un mt (os ot0) (32 * cnt + ln cnt) := if_pos e4
      rw [c1, c2, c3] at h
      have o2 : os ot0 < 256 := o2
      refine br_f n3 (br_t (by rw [e4]; rfl) (nm_r (nI_pred ot0) ⟨vp_in_nI (by omega) (by omega), ?_⟩))
      rw [sv_naA (f := os) (by omega), sv_naU (by omega)]
      refine ⟨vp_in_nI o2 (by omega), nm_e ?_⟩
      exact h _ ⟨x1, x2, x3, x4, rfl, x6, x7, x8, rfl, rfl, rfl, x12, x13, x14, x15, x16⟩
    · have n4 : ¬ nI k = 4 := by
        rw [show (4 : Int32) = nI 4 from rfl, nI_eq (by omega) (by omega)]; exact e4
      have c1 : rt_ot k ot = ot := by unfold rt_ot; rw [if_neg e3, if_neg e4]
      have c3 : rt_mt k ot (32 * cnt + ln cnt) os mt = mt := if_neg e4
      rw [c1, c2, c3] at h
      exact br_f n3 (br_f n4 (h _ ⟨x1, x2, x3, x4, x5, x6, x7, x8, rfl, x10, rfl, x12, x13, x14, x15, x16⟩))
theorem rlX_weight {u : SX} (X : rl_X mw mc ml mf ot cnt cc kd mt ln wt tx os ck ag cv u) (wt' : Nat → Nat) : rl_X mw mc ml mf ot cnt cc kd mt ln wt' tx os ck ag cv (xs_weight u (sv_na wt')) := by
  obtain ⟨x1, x2, x3, x4, x5, x6, x7, x8, x9, x10, x11, x12, x13, x14, x15, x16⟩ := X
  exact ⟨x1, x2, x3, x4, x5, x6, x7, x8, x9, x10, x11, rfl, x13, x14, x15, x16⟩
theorem rlX_tokKind {u : SX} (X : rl_X mw mc ml mf ot cnt cc kd mt ln wt tx os ck ag cv u) (kd' : Nat → Nat) : rl_X mw mc ml mf ot cnt cc kd' mt ln wt tx os ck ag cv (xs_tokKind u (sv_na kd')) := by
  obtain ⟨x1, x2, x3, x4, x5, x6, x7, x8, x9, x10, x11, x12, x13, x14, x15, x16⟩ := X
  exact ⟨x1, x2, x3, x4, x5, x6, x7, rfl, x9, x10, x11, x12, x13, x14, x15, x16⟩
theorem tk_42 {post : Int32 → SX → Prop} {u : SX} {k : Nat} {a : Int32} (hcn : cnt ≤ 7) (k1 : 1 ≤ k) (k2 : k ≤ 13) (hl : ln cnt ≤ wt cnt) (hw : wt cnt ≤ 32) (ho : ot ≤ ln cnt) (h2 : k = 2 → rl_v cnt a) (hwv : ∀ v, v < cnt → wt v ≤ 32) (h4 : k = 4 → 0 < ot ∧ os (ot - 1) < 256) (X : rl_X mw mc ml mf ot cnt cc kd mt ln wt tx os ck ag cv u)
    (h0 : ¬ wt cnt + rt_w k a wt ≤ 32 → post (-2) u)
    (h1 : wt cnt + rt_w k a wt ≤ 32 → ∀ u', rl_X mw mc ml mf (rt_ot k ot) cnt cc (sv_un kd (32 * cnt + ln cnt) k) (rt_mt k ot (32 * cnt + ln cnt) os mt) (sv_un ln cnt (ln cnt + 1)) (sv_un wt cnt (wt cnt + rt_w k a wt)) tx (rt_os k ot (32 * cnt + ln cnt) os) ck (upd ag (32 * cnt + ln cnt) (rt_a k a)) cv u' → post (nI (ln cnt + 1)) u') :
    pqX_token_42 post (nI k) a u := by
  obtain ⟨x1, x2, x3, x4, x5, x6, x7, x8, x9, x10, x11, x12, x13, x14, x15, x16⟩ := id X
  rw [pqX_token_42_e, x6, x12, sv_naA (by omega)]
  have hi : vp_in (nI cnt) 8 := vp_in_nI (by omega) (by omega)
  refine ⟨hi, ?_⟩
  have wb : rt_w k a wt ≤ 33 := by
    unfold rt_w
    split
    · rename_i z
      obtain ⟨v, v1, v2⟩ := h2 z
      rw [v2, nI_clamp (by omega)]
      have := hwv v v1
      omega
    · omega
  have go : ∀ x : Int32, x = nI (wt cnt) + nI (rt_w k a wt) → ((x ≤ 32 → (vp_in (nI cnt) 8 ∧ ∀ a_weight_56 : Nat → Int32, a_weight_56 = upd (sv_na wt) (nI cnt).toNatClampNeg x → (wpX_append (fun u1 => (vp_in (xq_count u1) 8 ∧ (post ((xq_length u1) (xq_count u1).toNatClampNeg) u1))) (xs_weight u a_weight_56) (nI k) a))) ∧ (¬ x ≤ 32 → (post (-2) u))) := by
    refine nm_r (nI_add _ _) ?_
    refine pk_le (wt cnt + rt_w k a wt) 32 (fun hle => ⟨hi, ?_⟩) (fun hgt => h0 (by omega)) rfl rfl (by omega) (by omega)
    rw [sv_naU (by omega)]
    refine nm_e ?_
    have r1 : 1 ≤ rt_w k a wt := by unfold rt_w; split <;> omega
    rw [we_X_append]
    have X0 := rlX_weight X (sv_un wt cnt (wt cnt + rt_w k a wt))
    have z6 := X0.2.2.2.2.2.1
    have z8 := X0.2.2.2.2.2.2.2.1
    have z11 := X0.2.2.2.2.2.2.2.2.2.2.1
    rw [z6, z11, z8]
    have q1 : (32 : Int32) * nI cnt + sv_na ln (nI cnt).toNatClampNeg = nI (32 * cnt + ln cnt) := by rw [show (32 : Int32) * nI cnt = nI (32 * cnt) from pk_mul 32 cnt, sv_naA (by omega), nI_add]
    refine ⟨hi, nm_r q1 ⟨vp_in_nI (by omega) (by omega), ?_⟩⟩
    rw [sv_naU (by omega)]
    refine nm_e ?_
    have X1 := rlX_tokKind X0 (sv_un kd (32 * cnt + ln cnt) k)
    have fin : ∀ u', rl_X mw mc ml mf (rt_ot k ot) cnt cc (sv_un kd (32 * cnt + ln cnt) k) (rt_mt k ot (32 * cnt + ln cnt) os mt) (sv_un ln cnt (ln cnt + 1)) (sv_un wt cnt (wt cnt + rt_w k a wt)) tx (rt_os k ot (32 * cnt + ln cnt) os) ck (upd ag (32 * cnt + ln cnt) (rt_a k a)) cv u' → vp_in (xq_count u') 8 ∧ post ((xq_length u') (xq_count u').toNatClampNeg) u' := by
      intro u' X'
      rw [X'.2.2.2.2.2.1, X'.2.2.2.2.2.2.2.2.2.2.1, sv_naA (by omega), sv_us]
      exact ⟨hi, h1 hle u' X'⟩
    by_cases e1 : k = 1
    · have ea : rt_a k a = a := if_pos (Or.inl e1)
      rw [ea] at fin
      refine br_t (by rw [e1]; rfl) ?_
      rw [pqX_append_40_e]
      exact tk_45 hcn k2 (by omega) (by omega) h4 X1 fin
    · have n1 : ¬ nI k = 1 := by
        rw [show (1 : Int32) = nI 1 from rfl, nI_eq (by omega) (by omega)]; exact e1
      by_cases e2 : k = 2
      · have ea : rt_a k a = a := if_pos (Or.inr e2)
        rw [ea] at fin
        refine br_f n1 (br_t (by rw [e2]; rfl) ?_)
        rw [pqX_append_40_e]
        exact tk_45 hcn k2 (by omega) (by omega) h4 X1 fin
      · have n2 : ¬ nI k = 2 := by
          rw [show (2 : Int32) = nI 2 from rfl, nI_eq (by omega) (by omega)]; exact e2
        have ea : rt_a k a = 0 := if_neg (by omega)
        rw [ea] at fin
        exact br_f n1 (br_f n2 (tk_45 hcn k2 (by omega) (by omega) h4 X1 fin))
  rw [we_X_tokenWeight]
  by_cases e2 : k = 2
  · obtain ⟨v, v1, v2⟩ := h2 e2
    have ew : rt_w k a wt = 1 + wt v := by unfold rt_w; rw [if_pos e2, v2, nI_clamp (by omega)]
    rw [x12, v2, sv_naA (by omega), show (1 : Int32) + nI (wt v) = nI (1 + wt v) from nI_add 1 _]
    rw [ew, v2] at go
    exact br_t (by rw [e2]; rfl) ⟨vp_in_nI (by omega) (by omega), go⟩
  · have n2 : ¬ nI k = 2 := by
      rw [show (2 : Int32) = nI 2 from rfl, nI_eq (by omega) (by omega)]; exact e2
    have ew : rt_w k a wt = 1 := if_neg e2
    rw [ew] at go
    exact br_f n2 go
end
end
section
/-! token: the reference's walk, and the claim -/
section
variable {mw mc ml mf ot cnt cc : Nat} {kd mt ln wt tx os ck : Nat → Nat} {ag cv : Nat → Int32} {fw : Nat → List Nat}
theorem yl_0 (u : SY) : ys_listSize u 0 = yl_g u 0 (sv_tna (yq_list u)) (sv_tna (yq_pend u)) := by
  obtain ⟨a1, a2, a3, a4, a5, a6, a7, a8, a9, a10, a11, a12, a13, a14, a15, a16, a17, a18, a19, a20, a21, a22, a23, a24, a25, a26, a27, a28, a29, a30, a31, a32, a33, a34⟩ := u
  simp only [ys_listSize, yl_g, yq_list, yq_pend, sv_tnaI]
  rfl
theorem rlY_yl {v : SY} (Y : rl_Y mw mc ml mf cnt cc kd ln ck ag cv v) (len : Nat) (ls pd : Nat → Nat) : rl_Y mw mc ml mf cnt cc kd ln ck ag cv (yl_g v len ls pd) := by
  obtain ⟨y1, y2, y3, y4, y5, y6, y7, y8, y9, y10, y11⟩ := Y
  exact ⟨y1, y2, y3, y4, y5, y6, y7, y8, y9, y10, y11⟩
theorem rlY_kinds {v : SY} (Y : rl_Y mw mc ml mf cnt cc kd ln ck ag cv v) (kd' : Nat → Nat) : rl_Y mw mc ml mf cnt cc kd' ln ck ag cv (ys_kinds v (sv_na kd')) := by
  obtain ⟨y1, y2, y3, y4, y5, y6, y7, y8, y9, y10, y11⟩ := Y
  exact ⟨y1, y2, y3, y4, y5, y6, rfl, y8, y9, y10, y11⟩
theorem rlY_args_size {v : SY} (Y : rl_Y mw mc ml mf cnt cc kd ln ck ag cv v) (ag' : Nat → Int32) (ln' : Nat → Nat) : rl_Y mw mc ml mf cnt cc kd ln' ck ag' cv (ys_args_size v ag' (sv_na ln')) := by
  obtain ⟨y1, y2, y3, y4, y5, y6, y7, y8, y9, y10, y11⟩ := Y
  exact ⟨y1, y2, y3, y4, y5, y6, y7, rfl, rfl, y10, y11⟩
/-- unfold of the draft -/
theorem tk_draft {post : Int32 → SY → Prop} {v : SY} (hcn : cnt ≤ 7) (A : rl_A ot cnt kd mt ln wt tx os ag fw) (Y : rl_Y mw mc ml mf cnt cc kd ln ck ag cv v) {len : Nat} {ls pd : Nat → Nat} (hl : len ≤ 500)
    (h : ∀ len' ls' pd', post (nI (wt cnt)) (yl_g v len' ls' pd')) : wpY_unfold post (yl_g v len ls pd) (nI (32 * cnt)) (nI (32 * cnt + ln cnt)) := by
  have ll := rl_ln A cnt (by omega)
  obtain ⟨a1, a2, a3, a4, a5, a6⟩ := A
  have L := wd_len_seg (kd := kd) (ag := ag) (fw := fw) (wt := wt) (W := cnt) (fun v hv => wd_len a1 v hv) (by omega) (ln cnt) (32 * cnt) (fun i hi e => (a3.2.2.1 i hi).2.2 e)
  have w1 := a3.1
  have w2 := a3.2.1
  refine yu_unfold Y.2.2.2.2.2.2.1 Y.2.2.2.2.2.2.2.1 Y.2.2.2.2.2.2.2.2.1 a1 (by omega) (fun i hi => ⟨by omega, (a3.2.2.1 i hi).1, (a3.2.2.1 i hi).2.1, (a3.2.2.1 i hi).2.2⟩) (by omega) (by omega) (fun len' ls' pd' _ _ => ?_)
  rw [← w2]; exact h len' ls' pd'
/-- unfold of a word -/
theorem tk_word {post : Int32 → SY → Prop} {v : SY} (hcn : cnt ≤ 7) (W : wd_ok kd ln wt ag fw cnt) (Y : rl_Y mw mc ml mf cnt cc kd ln ck ag cv v) {w len : Nat} {ls pd : Nat → Nat} (hw : w < cnt) (hl : len ≤ 560)
    (h : ∀ len' ls' pd', yl_L ls' 0 len' = yl_L ls 0 len ++ fw w → len' = len + (fw w).length → post (nI (wt w)) (yl_g v len' ls' pd')) : wpY_unfold post (yl_g v len ls pd) (nI (32 * w)) (nI (32 * w + ln w)) := by
  obtain ⟨x1, x2, x3, x4⟩ := W.2 w hw
  have ll := wd_ln W hw
  have L := wd_len W w hw
  refine yu_unfold Y.2.2.2.2.2.2.1 Y.2.2.2.2.2.2.2.1 Y.2.2.2.2.2.2.2.2.1 W (by omega) (fun i hi => ⟨by omega, (x4 i hi).1, (x4 i hi).2.1, fun z => ?_⟩) (by omega) (by rw [← x3]; omega) (fun len' ls' pd' e1 e2 => ?_)
  · obtain ⟨v', v1, v2⟩ := (x4 i hi).2.2 z
    exact ⟨v', by omega, v2⟩
  · rw [← x2]
    rw [← x3] at e1 e2
    exact h len' ls' pd' e1 e2
theorem tk_161 {post : Int32 → SY → Prop} {v : SY} {a : Int32} (hcn : cnt ≤ 7) (hl : ln cnt ≤ 31) (Y : rl_Y mw mc ml mf cnt cc kd ln ck ag cv v)
    (h : ∀ v', rl_Y mw mc ml mf cnt cc kd (sv_un ln cnt (ln cnt + 1)) ck (upd ag (32 * cnt + ln cnt) a) cv v' → post (nI (ln cnt + 1)) v') : pqY_token_161 post a (nI (32 * cnt + ln cnt)) v := by
  have y5 := Y.2.2.2.2.1
  have y8 := Y.2.2.2.2.2.2.2.1
  have y9 := Y.2.2.2.2.2.2.2.2.1
  rw [pqY_token_161_e, y5, y8, y9, sv_naA (by omega), nI_1, sv_naU (by omega), nI_clamp (show 32 * cnt + ln cnt < 2 ^ 31 by omega)]
  have hi : vp_in (nI cnt) 8 := vp_in_nI (by omega) (by omega)
  exact ⟨vp_in_nI (by omega) (by omega), nm_e ⟨hi, hi, nm_e (h _ (rlY_args_size Y _ _))⟩⟩
theorem tk_107 {post : Int32 → SY → Prop} {v : SY} {k x : Nat} {a : Int32} (hcn : cnt ≤ 7) (k2 : k ≤ 13) (A : rl_A ot cnt kd mt ln wt tx os ag fw) (Y : rl_Y mw mc ml mf cnt cc kd ln ck ag cv v) {len : Nat} {ls pd : Nat → Nat} (hl : len ≤ 500) (hx : x ≤ 33) (hx1 : 1 ≤ x)
    (h0 : ¬ wt cnt + x ≤ 32 → ∀ v', rl_Y mw mc ml mf cnt cc kd ln ck ag cv v' → post (-2) v')
    (h1 : wt cnt + x ≤ 32 → ∀ v', rl_Y mw mc ml mf cnt cc (sv_un kd (32 * cnt + ln cnt) k) (sv_un ln cnt (ln cnt + 1)) ck (upd ag (32 * cnt + ln cnt) (rt_a k a)) cv v' → post (nI (ln cnt + 1)) v') :
    pqY_token_107 post (nI k) a (nI (32 * cnt + ln cnt)) (nI x) (yl_g v len ls pd) := by
  have w1 := A.2.2.1.1
  have w2 := A.2.2.1.2.1
  have lw := wd_W_ge (g := wd_tW kd ag wt) wd_tW1 (ln cnt) (32 * cnt)
  have y5 := (rlY_yl Y len ls pd).2.2.2.2.1
  rw [pqY_token_107_e, y5, show (32 : Int32) * nI cnt = nI (32 * cnt) from pk_mul 32 cnt]
  refine tk_draft hcn A Y hl (fun len' ls' pd' => nm_r (nI_add _ _) ?_)
  have Y1 := rlY_yl Y len' ls' pd'
  refine pk_le (x + wt cnt) 32 (fun hle => ⟨vp_in_nI (by omega) (by omega), ?_⟩) (fun hgt => h0 (by omega) _ Y1) rfl rfl (by omega) (by omega)
  have y7 := Y1.2.2.2.2.2.2.1
  rw [y7, sv_naU (by omega)]
  refine nm_e ?_
  have Y2 := rlY_kinds Y1 (sv_un kd (32 * cnt + ln cnt) k)
  have h1 := h1 (by omega)
  by_cases e1 : k = 1
  · have ea : rt_a k a = a := if_pos (Or.inl e1)
    rw [ea] at h1
    refine br_t (by rw [e1]; rfl) ?_
    rw [pqY_token_156_e]
    exact tk_161 hcn (by omega) Y2 h1
  · have n1 : ¬ nI k = 1 := by
      rw [show (1 : Int32) = nI 1 from rfl, nI_eq (by omega) (by omega)]; exact e1
    by_cases e2 : k = 2
    · have ea : rt_a k a = a := if_pos (Or.inr e2)
      rw [ea] at h1
      refine br_f n1 (br_t (by rw [e2]; rfl) ?_)
      rw [pqY_token_156_e]
      exact tk_161 hcn (by omega) Y2 h1
    · have n2 : ¬ nI k = 2 := by
        rw [show (2 : Int32) = nI 2 from rfl, nI_eq (by omega) (by omega)]; exact e2
      have ea : rt_a k a = 0 := if_neg (by omega)
      rw [ea] at h1
      exact br_f n1 (br_f n2 (tk_161 hcn (by omega) Y2 h1))
theorem tk_73 {post : Int32 → SY → Prop} {v : SY} {k : Nat} {a : Int32} (hcn : cnt ≤ 7) (k2 : k ≤ 13) (h2 : k = 2 → rl_v cnt a) (A : rl_A ot cnt kd mt ln wt tx os ag fw) (Y : rl_Y mw mc ml mf cnt cc kd ln ck ag cv v)
    (h0 : ¬ wt cnt + rt_w k a wt ≤ 32 → ∀ v', rl_Y mw mc ml mf cnt cc kd ln ck ag cv v' → post (-2) v')
    (h1 : wt cnt + rt_w k a wt ≤ 32 → ∀ v', rl_Y mw mc ml mf cnt cc (sv_un kd (32 * cnt + ln cnt) k) (sv_un ln cnt (ln cnt + 1)) ck (upd ag (32 * cnt + ln cnt) (rt_a k a)) cv v' → post (nI (ln cnt + 1)) v') :
    pqY_token_73 post (nI k) a (nI (32 * cnt + ln cnt)) 1 v := by
  have y9 := Y.2.2.2.2.2.2.2.2.1
  rw [pqY_token_73_e, yl_0, y9]
  by_cases e2 : k = 2
  · obtain ⟨w, v1, v2⟩ := h2 e2
    have ew : rt_w k a wt = 1 + wt w := by unfold rt_w; rw [if_pos e2, v2, nI_clamp (by omega)]
    have ww := (A.1.2 w v1).1
    have L := wd_len A.1 w v1
    rw [ew] at h0 h1
    rw [v2, show (32 : Int32) * nI w = nI (32 * w) from pk_mul 32 w, sv_naA (by omega), nI_add]
    refine br_t (by rw [e2]; rfl) ⟨vp_in_nI (by omega) (by omega), tk_word hcn A.1 Y v1 (by omega) (fun len' ls' pd' _ el => ?_)⟩
    refine nm_r (show (1 : Int32) + nI (wt w) = nI (1 + wt w) from nI_add 1 _) ?_
    rw [← v2]
    exact tk_107 hcn k2 A Y (by omega) (by omega) (by omega) h0 h1
  · have n2 : ¬ nI k = 2 := by
      rw [show (2 : Int32) = nI 2 from rfl, nI_eq (by omega) (by omega)]; exact e2
    have ew : rt_w k a wt = 1 := if_neg e2
    rw [ew] at h0 h1
    exact br_f n2 (tk_107 (x := 1) hcn k2 A Y (by omega) (by omega) (by omega) h0 h1)
theorem i_vc_token {k : Nat} {u : SX} {v : SY} (I : i_Rel k u v) (hk : k + 3 ≤ 1540) (v1 : Int32) (v2 : Int32) : wpX_token (fun r u' => wpY_token (fun r' v' => r' = r ∧ i_Rel (k + 3) u' v') v v1 v2) u v1 v2 := by
  obtain ⟨mw, mc, ml, mf, ot, cnt, cc, kd, mt, ln, wt, tx, os, ck, ag, cv, fw, hB, hA, hc, hX, hY⟩ := id I
  obtain ⟨b1, b2, b3, b4, b5, b6, b7, b8, b9, b10⟩ := id hB
  have x5 := hX.2.2.2.2.1
  have x6 := hX.2.2.2.2.2.1
  have y5 := hY.2.2.2.2.1
  have y7 := hY.2.2.2.2.2.2.1
  have y9 := hY.2.2.2.2.2.2.2.2.1
  have hi : vp_in (nI cnt) 8 := vp_in_nI (by omega) (by omega)
  have ll := rl_ln hA cnt (by omega)
  have q1 : (32 : Int32) * nI cnt + sv_na ln (nI cnt).toNatClampNeg = nI (32 * cnt + ln cnt) := by rw [show (32 : Int32) * nI cnt = nI (32 * cnt) from pk_mul 32 cnt, sv_naA (by omega), nI_add]
  have eX := we_X_token
  have yT : ∀ post : Int32 → SY → Prop, (((v1 < 1 → (post (- 1) v)) ∧ (¬ v1 < 1 → (((13 < v1 → (post (- 1) v)) ∧ (¬ 13 < v1 → (((v1 = 2 → (((v2 < 0 → (post (- 1) v)) ∧ (¬ v2 < 0 → (((v2 < nI cnt → (pqY_token_51 post v1 v2 (nI (32 * cnt + ln cnt)) 1 v)) ∧ (¬ v2 < nI cnt → (post (- 1) v)))))))) ∧ (¬ v1 = 2 → (pqY_token_51 post v1 v2 (nI (32 * cnt + ln cnt)) 1 v)))))))))) → wpY_token post v v1 v2 := by
    intro post h
    rw [we_Y_token, y5, y9]
    exact ⟨hi, nm_r q1 h⟩
  rw [eX]
  by_cases e1 : v1 < 1
  · exact br_t e1 (yT _ (br_t e1 ⟨rfl, I⟩))
  have e1' : (1 : Int32) ≤ v1 := Int32.not_lt.mp e1
  have h0 : ¬ v1 < 0 := fun z => absurd (Int32.lt_of_lt_of_le z (show (0 : Int32) ≤ 1 by decide)) (Int32.not_lt.mpr e1')
  obtain ⟨kk, hkk, rfl⟩ := nI_of h0
  have k1 : 1 ≤ kk := (nI_leI (a := 1) (by omega) hkk).mp e1'
  by_cases e13 : kk ≤ 13
  · have c13 : nI kk ≤ 13 := nI_le (b := 13) e13 (by omega)
    have c13' : ¬ (13 : Int32) < nI kk := nI_nlt (a := 13) e13 (by omega)
    obtain ⟨d1, d2, d3, d4, d5, d6, d7, d8⟩ := id hA.2.2.1
    have lw := wd_W_ge (g := wd_tW kd ag wt) wd_tW1 (ln cnt) (32 * cnt)
    have go : (kk = 2 → rl_v cnt v2) → ∀ PX : Int32 → SX → Prop, (∀ r u', PX r u' = wpY_token (fun r' v' => r' = r ∧ i_Rel (k + 3) u' v') v (nI kk) v2) → (∀ post : Int32 → SY → Prop, pqY_token_51 post (nI kk) v2 (nI (32 * cnt + ln cnt)) 1 v → wpY_token post v (nI kk) v2) → pqX_token_28 PX (nI kk) v2 u := by
      intro h2 PX eP toY
      have main : (kk = 4 → 0 < ot) → pqX_token_42 PX (nI kk) v2 u := by
        intro h4
        refine tk_42 (by omega) k1 e13 (by omega) (by omega) d6 h2 (fun w hw => (hA.1.2 w hw).1) (fun z => ⟨h4 z, ?_⟩) hX (fun hw => ?_) (fun hw u' X' => ?_)
        · have := (d7 (ot - 1) (by have := h4 z; omega)).2.1
          omega
        · rw [eP]
          refine toY _ ?_
          rw [pqY_token_51_e]
          have fin : pqY_token_73 (fun r' v' => r' = -2 ∧ i_Rel (k + 3) u v') (nI kk) v2 (nI (32 * cnt + ln cnt)) 1 v := tk_73 (by omega) e13 h2 hA hY (fun _ v' Y' => ⟨rfl, mw, mc, ml, mf, ot, cnt, cc, kd, mt, ln, wt, tx, os, ck, ag, cv, fw, hB, hA, hc, hX, Y'⟩) (fun z => absurd z hw)
          refine br_c (fun z => ?_) (fun _ => fin)
          have z4 : kk = 4 := (nI_eq hkk (by omega)).mp z
          rw [y5, show (32 : Int32) * nI cnt = nI (32 * cnt) from pk_mul 32 cnt]
          refine yb_bal y7 (by omega) (by omega) (fun j j1 j2 => ?_) d4 (fun n en hn => ?_)
          · have := (d3 (j - 32 * cnt) (by omega)).2.1
            rw [show 32 * cnt + (j - 32 * cnt) = j by omega] at this; exact this
          · have := h4 z4
            exact br_f (nI_ne0 (by omega) (by omega)) fin
        · rw [eP]
          refine toY _ ?_
          rw [pqY_token_51_e]
          have A' := rt_app (k := kk) (a := rt_a kk v2) (tw := rt_w kk v2 wt) (by omega) hA k1 e13 (fun z => by rw [show rt_a kk v2 = v2 from if_pos (Or.inr z)]; exact h2 z) h4 (by
            unfold rt_w
            by_cases z : kk = 2
            · rw [if_pos z, if_pos z, show rt_a kk v2 = v2 from if_pos (Or.inr z)]
            · rw [if_neg z, if_neg z]) hw
          have hc' : rl_c (sv_un kd (32 * cnt + ln cnt) kk) (sv_un ln cnt (ln cnt + 1)) ck cv cnt cc := fun c hcc => by
            rcases hc c hcc with z | ⟨z1, p, w, z2, z3, z4, z5, z6⟩
            · exact Or.inl z
            · have lnw := rl_ln hA w (by omega)
              exact Or.inr ⟨z1, p, w, z2, z3, z4, by rw [sv_uo (by omega)]; exact z5, by rw [sv_uo (by omega)]; exact z6⟩
          have fin : pqY_token_73 (fun r' v' => r' = nI (ln cnt + 1) ∧ i_Rel (k + 3) u' v') (nI kk) v2 (nI (32 * cnt + ln cnt)) 1 v := tk_73 (by omega) e13 h2 hA hY (fun z => absurd hw z) (fun _ v' Y' => ⟨rfl, mw, mc, ml, mf, _, cnt, cc, _, _, _, _, tx, _, ck, _, cv, fw, hB, A', hc', X', Y'⟩)
          refine br_c (fun z => ?_) (fun _ => fin)
          have z4 : kk = 4 := (nI_eq hkk (by omega)).mp z
          rw [y5, show (32 : Int32) * nI cnt = nI (32 * cnt) from pk_mul 32 cnt]
          refine yb_bal y7 (by omega) (by omega) (fun j j1 j2 => ?_) d4 (fun n en hn => ?_)
          · have := (d3 (j - 32 * cnt) (by omega)).2.1
            rw [show 32 * cnt + (j - 32 * cnt) = j by omega] at this; exact this
          · have := h4 z4
            exact br_f (nI_ne0 (by omega) (by omega)) fin
      rw [pqX_token_28_e, x5]
      refine pk_eq kk 4 (fun z4 => pk_eq ot 0 (fun o0 => ?_) (fun o0 => main (fun _ => by omega)) rfl rfl (by omega) (by omega)) (fun z4 => main (fun z => absurd z z4)) rfl rfl (by omega) (by omega)
      rw [eP]
      refine toY _ ?_
      rw [pqY_token_51_e, y5, show (32 : Int32) * nI cnt = nI (32 * cnt) from pk_mul 32 cnt]
      refine br_t (by rw [z4]; rfl) (yb_bal y7 (by omega) (by omega) (fun j j1 j2 => ?_) d4 (fun n en hn => ?_))
      · have := (d3 (j - 32 * cnt) (by omega)).2.1
        rw [show 32 * cnt + (j - 32 * cnt) = j by omega] at this; exact this
      · have n0 : n = 0 := by omega
        rw [n0]
        exact br_t rfl ⟨rfl, I⟩
    refine br_f e1 (br_t c13 ?_)
    by_cases e2 : kk = 2
    · subst e2
      refine br_t rfl ?_
      rw [we_X_isWord, x6]
      by_cases n0 : v2 < 0
      · exact br_t n0 (br_t rfl (yT _ (br_f e1 (br_f c13' (br_t rfl (br_t n0 ⟨rfl, I⟩))))))
      · by_cases nc : nI cnt ≤ v2
        · exact br_f n0 (br_t nc (br_t rfl (yT _ (br_f e1 (br_f c13' (br_t rfl (br_f n0 (br_f (Int32.not_lt.mpr nc) ⟨rfl, I⟩))))))))
        · have lt : v2 < nI cnt := Int32.not_le.mp nc
          obtain ⟨w, hw, rfl⟩ := nI_of n0
          have wl : w < cnt := (nI_ltI hw (by omega)).mp lt
          exact br_f n0 (br_f nc (br_f (by decide) (go (fun _ => ⟨w, wl, rfl⟩) _ (fun _ _ => rfl) (fun post h => yT post (br_f e1 (br_f c13' (br_t rfl (br_f n0 (br_t lt h)))))))))
    · have n2 : ¬ nI kk = 2 := by
        rw [show (2 : Int32) = nI 2 from rfl, nI_eq (by omega) (by omega)]; exact e2
      exact br_f n2 (go (fun z => absurd z e2) _ (fun _ _ => rfl) (fun post h => yT post (br_f e1 (br_f c13' (br_f n2 h)))))
  · have c13 : ¬ nI kk ≤ 13 := nI_ge (b := kk) (a := 13) (by omega) hkk
    have c13' : (13 : Int32) < nI kk := Int32.not_le.mp c13
    exact br_f e1 (br_f c13 (yT _ (br_f e1 (br_t c13' ⟨rfl, I⟩))))
end
end
section
/-! the flattened lists: brackets and kinds -/
section
variable {kd ln wt : Nat → Nat} {ag : Nat → Int32} {fw : Nat → List Nat} {cnt : Nat}
def fl_P (L : List Nat) : Prop := (∀ x, x ∈ L → 1 ≤ x ∧ x ≤ 13 ∧ x ≠ 2) ∧ ∀ h, sv_ok h L ∧ sv_dp h L = h
theorem fl_seg (W : Nat) (hW : W < 2 ^ 31) (hv : ∀ v, v < W → fl_P (fw v)) : ∀ (m p h : Nat), (∀ i, i < m → 1 ≤ kd (p + i) ∧ kd (p + i) ≤ 13 ∧ (kd (p + i) = 2 → rl_v W (ag (p + i)))) → (∀ j, p ≤ j → j ≤ p + m → 0 ≤ (h : Int) + (bs_S kd j - bs_S kd p)) →
    (∀ x, x ∈ wd_L (wd_tL kd ag fw) p m → 1 ≤ x ∧ x ≤ 13 ∧ x ≠ 2) ∧ sv_ok h (wd_L (wd_tL kd ag fw) p m) ∧ (sv_dp h (wd_L (wd_tL kd ag fw) p m) : Int) = h + (bs_S kd (p + m) - bs_S kd p)
  | 0, p, h, _, _ => ⟨fun x hx => absurd hx List.not_mem_nil, trivial, by show (h : Int) = h + (bs_S kd p - bs_S kd p); omega⟩
  | m + 1, p, h, hk, hS => by
    obtain ⟨k1, k2, k3⟩ := hk 0 (by omega)
    have k1 : 1 ≤ kd p := k1
    have k2 : kd p ≤ 13 := k2
    have k3 : kd p = 2 → rl_v W (ag p) := k3
    have hk' : ∀ i, i < m → 1 ≤ kd (p + 1 + i) ∧ kd (p + 1 + i) ≤ 13 ∧ (kd (p + 1 + i) = 2 → rl_v W (ag (p + 1 + i))) := fun i hi => by
      have := hk (i + 1) (by omega)
      rw [show p + 1 + i = p + (i + 1) by omega]; exact this
    have next := hS (p + 1) (by omega) (by omega)
    have eL : wd_L (wd_tL kd ag fw) p (m + 1) = wd_tL kd ag fw p ++ wd_L (wd_tL kd ag fw) (p + 1) m := rfl
    rw [eL, show p + (m + 1) = p + 1 + m by omega]
    by_cases e2 : kd p = 2
    · obtain ⟨v, v1, v2⟩ := k3 e2
      have s := bs_n (kd := kd) (p := p) (by omega) (by omega)
      obtain ⟨i1, i2, i3⟩ := fl_seg W hW hv m (p + 1) h hk' (fun j j1 j2 => by have := hS j (by omega) (by omega); omega)
      rw [wd_tL2 e2 (by omega) v2]
      obtain ⟨f1, f2⟩ := hv v v1
      refine ⟨fun x hx => ?_, (sv_ok_app _ _ _).mpr ⟨(f2 h).1, by rw [(f2 h).2]; exact i2⟩, by rw [sv_dp_app, (f2 h).2]; omega⟩
      rcases List.mem_append.mp hx with q | q
      · exact f1 x q
      · exact i1 x q
    · rw [wd_tLn e2]
      have mem : ∀ (l : List Nat), (∀ x, x ∈ l → 1 ≤ x ∧ x ≤ 13 ∧ x ≠ 2) → ∀ x, x ∈ [kd p] ++ l → 1 ≤ x ∧ x ≤ 13 ∧ x ≠ 2 := fun l hl x hx => by
        rcases List.mem_append.mp hx with q | q
        · rw [List.mem_singleton.mp q]; exact ⟨k1, k2, e2⟩
        · exact hl x q
      by_cases e3 : kd p = 3
      · have s := bs_3 (kd := kd) e3
        obtain ⟨i1, i2, i3⟩ := fl_seg W hW hv m (p + 1) (h + 1) hk' (fun j j1 j2 => by have := hS j (by omega) (by omega); omega)
        refine ⟨mem _ i1, ?_, ?_⟩
        · show (if kd p = 3 then sv_ok (h + 1) _ else _)
          rw [if_pos e3]; exact i2
        · show (sv_dp (if kd p = 3 then h + 1 else if kd p = 4 then h - 1 else h) (wd_L (wd_tL kd ag fw) (p + 1) m) : Int) = _
          rw [if_pos e3]; omega
      · by_cases e4 : kd p = 4
        · have s := bs_4 (kd := kd) e4
          obtain ⟨i1, i2, i3⟩ := fl_seg W hW hv m (p + 1) (h - 1) hk' (fun j j1 j2 => by have := hS j (by omega) (by omega); omega)
          refine ⟨mem _ i1, ?_, ?_⟩
          · show (if kd p = 3 then sv_ok (h + 1) _ else if kd p = 4 then 0 < h ∧ sv_ok (h - 1) _ else _)
            rw [if_neg e3, if_pos e4]; exact ⟨by omega, i2⟩
          · show (sv_dp (if kd p = 3 then h + 1 else if kd p = 4 then h - 1 else h) (wd_L (wd_tL kd ag fw) (p + 1) m) : Int) = _
            rw [if_neg e3, if_pos e4]; omega
        · have s := bs_n (kd := kd) e3 e4
          obtain ⟨i1, i2, i3⟩ := fl_seg W hW hv m (p + 1) h hk' (fun j j1 j2 => by have := hS j (by omega) (by omega); omega)
          refine ⟨mem _ i1, ?_, ?_⟩
          · show (if kd p = 3 then sv_ok (h + 1) _ else if kd p = 4 then 0 < h ∧ sv_ok (h - 1) _ else sv_ok h _)
            rw [if_neg e3, if_neg e4]; exact i2
          · show (sv_dp (if kd p = 3 then h + 1 else if kd p = 4 then h - 1 else h) (wd_L (wd_tL kd ag fw) (p + 1) m) : Int) = _
            rw [if_neg e3, if_neg e4]; omega
/-- a balanced run of tokens -/
theorem fl_bal {W p m : Nat} (hW : W < 2 ^ 31) (hv : ∀ v, v < W → fl_P (fw v)) (hk : ∀ i, i < m → 1 ≤ kd (p + i) ∧ kd (p + i) ≤ 13 ∧ (kd (p + i) = 2 → rl_v W (ag (p + i)))) (hS : ∀ j, p ≤ j → j ≤ p + m → bs_S kd p ≤ bs_S kd j) (he : bs_S kd (p + m) = bs_S kd p) : fl_P (wd_L (wd_tL kd ag fw) p m) := by
  refine ⟨(fl_seg W hW hv m p 0 hk (fun j j1 j2 => by have := hS j j1 j2; omega)).1, fun h => ?_⟩
  have q := fl_seg W hW hv m p h hk (fun j j1 j2 => by have := hS j j1 j2; omega)
  exact ⟨q.2.1, by have := q.2.2; omega⟩
theorem fl_word {mt : Nat → Nat} (WD : wd_ok kd ln wt ag fw cnt) (B : ∀ w, w < cnt → rl_w kd ln mt w) : ∀ w, w < cnt → fl_P (fw w) := by
  intro w
  induction w using Nat.strongRecOn with
  | ind w ih =>
    intro hw
    obtain ⟨h1, h2, h3, h4⟩ := WD.2 w hw
    have hc := WD.1
    obtain ⟨b1, b2, b3⟩ := B w hw
    rw [h3]
    exact fl_bal (W := w) (by omega) (fun v hv => ih v hv (by omega)) (fun i hi => ⟨(h4 i hi).1, (h4 i hi).2.1, (h4 i hi).2.2⟩) b1 b2
theorem yl_L_get {ls : Nat → Nat} : ∀ m i j, i ≤ j → j < i + m → ls j ∈ yl_L ls i m
  | 0, i, j, h1, h2 => by omega
  | m + 1, i, j, h1, h2 => by
    by_cases e : j = i
    · rw [e]; exact List.mem_cons_self ..
    · exact List.mem_cons_of_mem _ (yl_L_get m (i + 1) j (by omega) (by omega))
end
end
section
/-! end -/
section
variable {mw mc ml mf ot cnt cc : Nat} {kd mt ln wt tx os ck : Nat → Nat} {ag cv : Nat → Int32} {fw : Nat → List Nat}
theorem rlX_count {u : SX} (X : rl_X mw mc ml mf ot cnt cc kd mt ln wt tx os ck ag cv u) (n : Nat) : rl_X mw mc ml mf ot n cc kd mt ln wt tx os ck ag cv (xs_count u (nI n)) := by
  obtain ⟨x1, x2, x3, x4, x5, x6, x7, x8, x9, x10, x11, x12, x13, x14, x15, x16⟩ := X
  exact ⟨x1, x2, x3, x4, x5, rfl, x7, x8, x9, x10, x11, x12, x13, x14, x15, x16⟩
theorem rlX_gx {u : SX} {t : sv_TX} (X : rl_X mw mc ml mf ot cnt cc kd mt ln wt tx os ck ag cv u) : rl_X mw mc ml mf ot cnt cc kd mt ln wt tx os ck ag cv (gx u t) := by
  obtain ⟨x1, x2, x3, x4, x5, x6, x7, x8, x9, x10, x11, x12, x13, x14, x15, x16⟩ := X
  exact ⟨x1, x2, x3, x4, x5, x6, x7, x8, x9, x10, x11, x12, x13, x14, x15, x16⟩
theorem rlX_vrt {u : SX} (X : rl_X mw mc ml mf ot cnt cc kd mt ln wt tx os ck ag cv u) (a b : Int32) (T : Nat → Nat) : rl_X mw mc ml mf ot cnt cc kd mt ln wt T os ck ag cv (xs_valueNames_rowNames_text u a b (sv_na T)) := by
  obtain ⟨x1, x2, x3, x4, x5, x6, x7, x8, x9, x10, x11, x12, x13, x14, x15, x16⟩ := X
  exact ⟨x1, x2, x3, x4, x5, x6, x7, x8, x9, x10, x11, x12, rfl, x14, x15, x16⟩
theorem rlX_xt {u : SX} {t : sv_TX} {s v r : Nat} {T M Q : Nat → Nat} (X : rl_X mw mc ml mf ot cnt cc kd mt ln wt tx os ck ag cv u) : rl_X mw mc ml mf ot cnt cc kd mt ln wt T os ck ag cv (xt_g u t s v r T M Q) := rlX_gx (rlX_vrt X (nI v) (nI r) T)
theorem rlY_count_size {v : SY} (Y : rl_Y mw mc ml mf cnt cc kd ln ck ag cv v) (n : Nat) (ln' : Nat → Nat) : rl_Y mw mc ml mf n cc kd ln' ck ag cv (ys_count_size v (nI n) (sv_na ln')) := by
  obtain ⟨y1, y2, y3, y4, y5, y6, y7, y8, y9, y10, y11⟩ := Y
  exact ⟨y1, y2, y3, y4, rfl, y6, y7, y8, rfl, y10, y11⟩
/-- a new word: the pure side -/
def en_fw (kd ln : Nat → Nat) (ag : Nat → Int32) (fw : Nat → List Nat) (cnt : Nat) : Nat → List Nat := fun w => if w = cnt then wd_L (wd_tL kd ag fw) (32 * cnt) (ln cnt) else fw w
theorem en_s : en_fw kd ln ag fw cnt cnt = wd_L (wd_tL kd ag fw) (32 * cnt) (ln cnt) := if_pos rfl
theorem en_o {w : Nat} (h : w ≠ cnt) : en_fw kd ln ag fw cnt w = fw w := if_neg h
theorem en_wd (hcn : cnt < 7) (A : rl_A 0 cnt kd mt ln wt tx os ag fw) : wd_ok kd ln wt ag (en_fw kd ln ag fw cnt) (cnt + 1) := by
  obtain ⟨a1, a2, a3, a4, a5, a6⟩ := A
  have old := wd_congr (kd' := kd) (ln' := ln) (wt' := wt) (ag' := ag) (fw' := en_fw kd ln ag fw cnt) a1 (fun _ _ => ⟨rfl, rfl⟩) (fun w hw => ⟨rfl, rfl, en_o (by omega)⟩)
  refine ⟨by omega, fun w hw => ?_⟩
  by_cases e : w = cnt
  · subst e
    obtain ⟨d1, d2, d3, d4, d5, d6, d7, d8⟩ := a3
    refine ⟨d1, d2, ?_, fun i hi => d3 i hi⟩
    rw [en_s]
    refine wd_L_congr _ _ (fun i hi => ?_)
    unfold wd_tL
    by_cases z : kd (32 * w + i) = 2
    · obtain ⟨v, v1, v2⟩ := (d3 i hi).2.2 z
      rw [if_pos z, if_pos z, v2, nI_clamp (by omega), en_o (by omega)]
    · rw [if_neg z, if_neg z]
  · exact old.2 w (by omega)
theorem en_w (A : rl_A 0 cnt kd mt ln wt tx os ag fw) : ∀ w, w < cnt + 1 → rl_w kd ln mt w := by
  intro w hw
  obtain ⟨a1, a2, a3, a4, a5, a6⟩ := A
  by_cases e : w = cnt
  · subst e
    obtain ⟨d1, d2, d3, d4, d5, d6, d7, d8⟩ := a3
    refine ⟨d4, by rw [d5]; omega, fun p p1 p2 p3 => ?_⟩
    rcases d8 p p1 p2 p3 with ⟨q, q1, _⟩ | z
    · omega
    · exact z
  · exact a2 w (by omega)
theorem en_A (hcn : cnt < 7) (A : rl_A 0 cnt kd mt ln wt tx os ag fw) {T : Nat → Nat} (hT : rl_T (en_fw kd ln ag fw cnt cnt) (fun p => T (64 * cnt + p))) (ho : ∀ j, j < 64 * cnt ∨ 64 * cnt + 64 ≤ j → T j = tx j) : rl_A 0 (cnt + 1) kd mt ln wt T os ag (en_fw kd ln ag fw cnt) := by
  have wd := en_wd hcn A
  have ww := en_w A
  obtain ⟨a1, a2, a3, a4, a5, a6⟩ := A
  obtain ⟨z1, z2⟩ := a4 (cnt + 1) (by omega) (by omega)
  refine ⟨wd, ww, ?_, fun w w1 w2 => a4 w (by omega) w2, fun w hw => ?_, fun j hj => ?_⟩
  · unfold rl_d
    rw [z1, z2]
    refine ⟨by omega, rfl, fun i hi => absurd hi (Nat.not_lt_zero i), fun j j1 j2 => ?_, by rw [Nat.add_zero]; omega, Nat.le_refl _, fun k hk => absurd hk (Nat.not_lt_zero k), fun p p1 p2 => by omega⟩
    rw [show j = 32 * (cnt + 1) by omega]; exact Int.le_refl _
  · by_cases e : w = cnt
    · rw [e]; exact hT
    · rw [en_o e]
      have q : ∀ p, p < 64 → T (64 * w + p) = tx (64 * w + p) := fun p hp => ho _ (by omega)
      rcases a5 w (by omega) with ⟨n, K, A, B, R, a, b, h1, h2⟩ | ⟨h1, h2⟩
      · exact Or.inl ⟨n, K, A, B, R, a, b, h1, fun p hp => (q p hp).trans (h2 p hp)⟩
      · exact Or.inr ⟨h1, fun p hp => (q p hp).trans (h2 p hp)⟩
  · rw [ho j (by omega)]; exact a6 j (by omega)
theorem i_vc_end {k : Nat} {u : SX} {v : SY} (I : i_Rel k u v) (hk : k + 3 ≤ 1540) : wpX_end (fun r u' => wpY_end (fun r' v' => r' = r ∧ i_Rel (k + 3) u' v') v) u := by
  obtain ⟨mw, mc, ml, mf, ot, cnt, cc, kd, mt, ln, wt, tx, os, ck, ag, cv, fw, hB, hA, hc, hX, hY⟩ := id I
  obtain ⟨b1, b2, b3, b4, b5, b6, b7, b8, b9, b10⟩ := id hB
  have x1 := hX.1
  have x5 := hX.2.2.2.2.1
  have x6 := hX.2.2.2.2.2.1
  have y1 := hY.1
  have y5 := hY.2.2.2.2.1
  have y7 := hY.2.2.2.2.2.2.1
  have y9 := hY.2.2.2.2.2.2.2.2.1
  obtain ⟨d1, d2, d3, d4, d5, d6, d7, d8⟩ := id hA.2.2.1
  have ll := rl_ln hA cnt (by omega)
  have hi : vp_in (nI cnt) 8 := vp_in_nI (by omega) (by omega)
  have q1 : (32 : Int32) * nI cnt = nI (32 * cnt) := pk_mul 32 cnt
  have q2 : nI (32 * cnt) + sv_na ln (nI cnt).toNatClampNeg = nI (32 * cnt + ln cnt) := by rw [sv_naA (by omega), nI_add]
  have toY : ∀ post : Int32 → SY → Prop, (nI ot = 0 → (nI cnt = nI mw → post (-1) v) ∧ (¬ nI cnt = nI mw → post (nI cnt) (ys_count_size v (nI (cnt + 1)) (sv_na (sv_un ln (cnt + 1) 0))))) → (¬ nI ot = 0 → post (-1) v) → wpY_end post v := by
    intro post h1 h2
    rw [we_Y_end, y5, y1, y9, q1, q2]
    refine ⟨hi, yb_bal y7 (by omega) (by omega) (fun j j1 j2 => ?_) d4 (fun n en hn => ?_)⟩
    · have := (d3 (j - 32 * cnt) (by omega)).2.1
      rw [show 32 * cnt + (j - 32 * cnt) = j by omega] at this; exact this
    · have e : n = ot := by omega
      rw [e]
      refine br_c (fun z => br_c (fun z2 => (h1 z).1 z2) (fun z2 => ?_)) h2
      have ne : cnt ≠ mw := fun w => z2 (by rw [w])
      have q3 : upd (sv_na ln) (nI cnt + 1).toNatClampNeg 0 = sv_na (sv_un ln (cnt + 1) 0) := by rw [nI_1]; exact sv_naU (x := 0) (by omega)
      rw [q3]
      refine nm_r (nI_1 cnt) ⟨by rw [nI_1]; exact vp_in_nI (by omega) (by omega), nm_e ?_⟩
      rw [nI_pred]
      exact (h1 z).2 z2
  rw [we_X_end, x5, x6, x1]
  refine pk_lt 0 ot (fun ho => ?_) (fun ho => ?_) rfl rfl (by omega) (by omega)
  · exact toY _ (fun z => absurd z (nI_ne0 ho (by omega))) (fun _ => ⟨rfl, I⟩)
  have o0 : ot = 0 := by omega
  subst o0
  refine pk_eq cnt mw (fun e => ?_) (fun e => ?_) rfl rfl (by omega) (by omega)
  · exact toY _ (fun _ => ⟨fun _ => ⟨rfl, I⟩, fun z => absurd (by rw [e]) z⟩) (fun z => absurd rfl z)
  have hcn : cnt < 7 := by omega
  refine nm_r (nI_1 cnt) ?_
  have X1 := rlX_count hX (cnt + 1)
  have WD := en_wd hcn hA
  have BW := en_w hA
  have FP := fl_word WD BW cnt (by omega)
  have LN := wd_len WD cnt (by omega)
  obtain ⟨w1, w2, w3, w4⟩ := WD.2 cnt (by omega)
  have lnE : sv_un ln (cnt + 1) 0 = ln := by
    funext j
    by_cases z : j = cnt + 1
    · rw [z, sv_us, (hA.2.2.2.1 (cnt + 1) (by omega) (by omega)).1]
    · rw [sv_uo z]
  have hc' : rl_c kd ln ck cv (cnt + 1) cc := fun c hcc => by
    rcases hc c hcc with z | ⟨z1, p, w, z2, z3, z4, z5, z6⟩
    · exact Or.inl z
    · exact Or.inr ⟨z1, p, w, z2, by omega, z4, z5, z6⟩
  have fin : ∀ T u', rl_T (en_fw kd ln ag fw cnt cnt) (fun p => T (64 * cnt + p)) → (∀ j, j < 64 * cnt ∨ 64 * cnt + 64 ≤ j → T j = tx j) → rl_X mw mc ml mf 0 (cnt + 1) cc kd mt ln wt T os ck ag cv u' → wpY_end (fun r' v' => r' = nI cnt ∧ i_Rel (k + 3) u' v') v := by
    intro T u' hT ho X'
    refine toY _ (fun _ => ⟨fun z => absurd ((nI_eq (by omega) (by omega)).mp z) e, fun _ => ⟨rfl, ?_⟩⟩) (fun z => absurd rfl z)
    rw [lnE]
    exact ⟨mw, mc, ml, mf, 0, cnt + 1, cc, kd, mt, ln, wt, T, os, ck, ag, cv, _, ⟨b1, b2, b3, b4, b5, b6, b7, b8, by omega, b10⟩, en_A hcn hA hT ho, hc', X', rlY_count_size hY (cnt + 1) ln⟩
  refine xg_begin (k := 200) (Or.inl rfl) (fun t0 h0 => ⟨hi, ?_⟩)
  have X2 := rlX_gx (t := t0) X1
  rw [X2.2.2.2.2.2.2.2.2.2.2.1, q1, q2]
  have n0 := h0.2.1
  have ne0 := h0.2.2.2.1
  have segL : wd_L (wd_tL kd ag (en_fw kd ln ag fw cnt)) (32 * cnt) (32 * cnt + ln cnt - 32 * cnt) = en_fw kd ln ag fw cnt cnt := by rw [show 32 * cnt + ln cnt - 32 * cnt = ln cnt by omega]; exact w3.symm
  refine xw_walk X1.2.2.2.2.2.2.2.1 X1.2.2.2.2.2.2.2.2.1 X1.2.2.2.2.2.2.2.2.2.2.1 WD (w := cnt) h0.1 (by omega) (Nat.le_refl _) (by omega) (Nat.le_refl _) ?_ ?_ ?_ ?_ (fun t1 SL => ?_)
  · rw [show 32 * cnt + ln cnt - 32 * cnt = ln cnt by omega, ← w2]; exact w1
  · rw [segL]; omega
  · rw [segL]; omega
  · rw [segL, ne0]; exact (FP.2 0).1
  rw [segL] at SL
  refine xf_finish SL.1.1 (fun s' M' Q' E => ?_)
  have P := xg_prin (z := False) (Or.inr ⟨rfl, fun z => z⟩) h0 SL (FP.2 0).2 E
  rw [xo_mq_s]
  rcases E.1 with e0 | e0
  · rw [e0]
    refine br_t rfl (fin tx _ (Or.inr ⟨P.2 (by omega), fun p hp => hA.2.2.2.2.2 _ (by omega)⟩) (fun _ _ => rfl) (rlX_gx X1))
  · rw [e0]
    refine br_f (by decide) (xt_write hcn SL.1 X1.2.2.2.2.2.2.2.2.2.2.2.2.1 (fun p hp => hA.2.2.2.2.2 _ (by omega)) (fun v' r' T' M'' Q'' a1 a2 => fin T' _ (Or.inl ⟨_, _, _, _, _, _, _, P.1 e0, a1⟩) a2 (rlX_xt X1)))
end
end
section
/-! effect -/
section
variable {mw mc ml mf ot cnt cc : Nat} {kd mt ln wt tx os ck : Nat → Nat} {ag cv : Nat → Int32} {fw : Nat → List Nat}
theorem rlY_gy {v : SY} {t : sv_TY} (Y : rl_Y mw mc ml mf cnt cc kd ln ck ag cv v) : rl_Y mw mc ml mf cnt cc kd ln ck ag cv (gy v t) := by
  obtain ⟨y1, y2, y3, y4, y5, y6, y7, y8, y9, y10, y11⟩ := Y
  exact ⟨y1, y2, y3, y4, y5, y6, y7, y8, y9, y10, y11⟩
theorem rlY_ye {v : SY} {Q S : Nat → Nat} (Y : rl_Y mw mc ml mf cnt cc kd ln ck ag cv v) : rl_Y mw mc ml mf cnt cc kd ln ck ag cv (ye_g v Q S) := by
  obtain ⟨y1, y2, y3, y4, y5, y6, y7, y8, y9, y10, y11⟩ := Y
  exact ⟨y1, y2, y3, y4, y5, y6, y7, y8, y9, y10, y11⟩
theorem ye_todo {u : SY} {t : sv_TY} {C E F Q : Nat → Nat} : ys_todo (gy u (yo_ef t C E F)) (sv_na Q) = ye_g (gy u (yo_ef t C E F)) Q (ty_S t) := rfl
theorem ye_of {u : SY} {t : sv_TY} {C E F : Nat → Nat} : ye_ok (gy u (yo_ef t C E F)) t C E := ⟨rfl, rfl, rfl, rfl, rfl⟩
theorem ye_qt {u : SY} {t : sv_TY} : yq_todo (gy u t) = yq_todo u := rfl
theorem ye_ql {u : SY} {t : sv_TY} {C E F : Nat → Nat} : yq_last (gy u (yo_ef t C E F)) = nI (ty_la t) := rfl
theorem ye_qf {u : SY} {t : sv_TY} {C E F : Nat → Nat} : yq_first (gy u (yo_ef t C E F)) = nI (ty_fi t) := rfl
/-- a principal graph has a solution -/
theorem sv_PG_sol {L : List Nat} {z : Prop} {n : Nat} {K A B R : Nat → Nat} {a b : Nat} (h : sv_PG L z n K A B R a b) : ∃ s e, sv_Sol L z s e := by
  obtain ⟨h1, h2, h3, ⟨d, h4⟩, h5, h6, h7, h8, h9, h10, h11⟩ := h
  exact ⟨_, _, h10 _ (tv_val (d := d) ⟨h1, h2, h3, h4⟩)⟩
/-- the reference's answer for a word, from its flattened list -/
theorem ef_Y {post : Int32 → SY → Prop} {v : SY} {w pos : Nat} (hcn : cnt ≤ 7) (A : rl_A ot cnt kd mt ln wt tx os ag fw) (Y : rl_Y mw mc ml mf cnt cc kd ln ck ag cv v) (hw : w < cnt) (hp : pos ≤ 63) (h : ∀ v', rl_Y mw mc ml mf cnt cc kd ln ck ag cv v' → post (nI (tx (64 * w + pos))) v') : wpY_effect post v (nI w) (nI pos) := by
  have y5 := Y.2.2.2.2.1
  have y9 := Y.2.2.2.2.2.2.2.2.1
  have FP := fl_word A.1 A.2.1 w hw
  have LN := wd_len A.1 w hw
  have W1 := (A.1.2 w hw).1
  have T := A.2.2.2.2.1 w hw
  have ll := wd_ln A.1 hw
  rw [we_Y_effect, y5, y9, yl_0, show (32 : Int32) * nI w = nI (32 * w) from pk_mul 32 w, sv_naA (by omega), nI_add]
  refine br_f (nI_pos (by omega)) (br_t (nI_lt hw (by omega)) ⟨vp_in_nI (by omega) (by omega), ?_⟩)
  refine tk_word hcn A.1 Y hw (by omega) (fun len ls pd el en => ?_)
  have el : yl_L ls 0 len = fw w := el
  have Y1 := rlY_yl Y len ls pd
  refine yg_solve (k0 := 6) (len := len) (ls := ls) (z := False) (Or.inr ⟨rfl, fun z => z⟩) rfl rfl (by omega) (fun j hj => ?_) (by rw [el]; exact (FP.2 0).1) (by rw [el]; exact (FP.2 0).2) (fun t C E F ok => ?_) (fun t no => ?_)
  · have := yl_L_get (ls := ls) len 0 j (Nat.zero_le _) (by omega)
    rw [el] at this
    exact FP.1 _ this
  · rw [el] at ok
    obtain ⟨o1, o2, o3, o4, o5, o6, o7⟩ := ok
    have val : tx (64 * w + pos) = tv_txt (yn_K t) (yn_A t) (yn_B t) (yf_r C E) (ty_fi t) (ty_la t) pos := by
      rcases T with ⟨n, K, A', B, R, a, b, h1, h2⟩ | ⟨h1, h2⟩
      · exact (h2 pos (by omega)).trans (tv_txt_two h1 o7 pos)
      · obtain ⟨s, e, q⟩ := sv_PG_sol o7
        exact absurd q (h1 s e)
    refine br_f (by decide) (br_f (nI_pos (by omega)) (br_t (nI_le (b := 63) (by omega) (by omega)) ?_))
    have e1 : upd (yq_todo (gy (yl_g v len ls pd) (yo_ef t C E F))) 0 (yq_last (gy (yl_g v len ls pd) (yo_ef t C E F))) = sv_na (sv_un (sv_tna (yq_todo (yl_g v len ls pd))) 0 (ty_la t)) := by
      rw [ye_qt, ye_ql, ← sv_tnaI (yq_todo (yl_g v len ls pd)), sv_naU0, sv_tnaI]
    rw [e1]
    refine nm_e ?_
    rw [ye_qf, sv_naU0]
    refine nm_e ⟨201, ?_⟩
    rw [ye_todo]
    have h9 := o7.2.2.2.2.2.2.2.2.1 (fun z => z)
    refine ye_loop (pos := pos) o1.1 o1 ye_of (fun i hi => (o5 i hi).1) o7.1 (fun i hi z => ?_) hp 201 2 0 0 0 0 (ty_S t) _ (fun _ => 0) (Nat.zero_le _) (fun k hk => ?_) (by omega) (Or.inl (by omega)) (fun i hi => ⟨by rw [(o1.2.2.2.2 i hi).2.1]; omega, fun _ => (o1.2.2.2.2 i hi).2.1, fun _ => Or.inl (o1.2.2.2.2 i hi).2.1⟩) (by omega) (by omega) (by omega) (fun Q' S' => ?_)
    · have y4 : yn_K t i = 4 := by show yn_k (ty_K t i) = 4; rw [z]; rfl
      exact h9 ((o1.2.2.1 i hi).2.2.2.2.2 y4)
    · by_cases z : k = 1
      · rw [z, sv_us]; exact o4
      · rw [sv_uo z, show k = 0 by omega, sv_us]; exact o3
    · have q : tv_at (yn_K t) (yn_A t) (yn_B t) (yf_r C E) (pos - 0) (xt_tk (sv_un (sv_un (sv_tna (yq_todo (yl_g v len ls pd))) 0 (ty_la t)) 1 (ty_fi t)) 2) (fun _ => 0) 0 0 = tx (64 * w + pos) := by
        rw [val, show xt_tk (sv_un (sv_un (sv_tna (yq_todo (yl_g v len ls pd))) 0 (ty_la t)) 1 (ty_fi t)) 2 = [ty_fi t, ty_la t] from xt_tk2 (k := 0)]
        rfl
      rw [q]
      exact h _ (rlY_ye (rlY_gy Y1))
  · rw [el] at no
    refine br_t rfl ?_
    have val : tx (64 * w + pos) = 0 := by
      rcases T with ⟨n, K, A', B, R, a, b, h1, h2⟩ | ⟨h1, h2⟩
      · obtain ⟨s, e, q⟩ := sv_PG_sol h1
        exact absurd q (no s e)
      · exact h2 pos (by omega)
    have := h _ (rlY_gy (t := t) Y1)
    rw [val] at this
    exact this
/-- the answer none -/
theorem ef_Y0 {post : Int32 → SY → Prop} {v : SY} {w : Nat} {p : Int32} (hcn : cnt ≤ 7) (A : rl_A ot cnt kd mt ln wt tx os ag fw) (Y : rl_Y mw mc ml mf cnt cc kd ln ck ag cv v) (hw : w < cnt) (hp : p < 0 ∨ ¬ p ≤ 63) (h : ∀ v', rl_Y mw mc ml mf cnt cc kd ln ck ag cv v' → post 0 v') : wpY_effect post v (nI w) p := by
  have y5 := Y.2.2.2.2.1
  have y9 := Y.2.2.2.2.2.2.2.2.1
  have FP := fl_word A.1 A.2.1 w hw
  have LN := wd_len A.1 w hw
  have W1 := (A.1.2 w hw).1
  have ll := wd_ln A.1 hw
  rw [we_Y_effect, y5, y9, yl_0, show (32 : Int32) * nI w = nI (32 * w) from pk_mul 32 w, sv_naA (by omega), nI_add]
  refine br_f (nI_pos (by omega)) (br_t (nI_lt hw (by omega)) ⟨vp_in_nI (by omega) (by omega), ?_⟩)
  refine tk_word hcn A.1 Y hw (by omega) (fun len ls pd el en => ?_)
  have el : yl_L ls 0 len = fw w := el
  have Y1 := rlY_yl Y len ls pd
  refine yg_solve (k0 := 6) (len := len) (ls := ls) (z := False) (Or.inr ⟨rfl, fun z => z⟩) rfl rfl (by omega) (fun j hj => ?_) (by rw [el]; exact (FP.2 0).1) (by rw [el]; exact (FP.2 0).2) (fun t C E F ok => ?_) (fun t no => ?_)
  · have := yl_L_get (ls := ls) len 0 j (Nat.zero_le _) (by omega)
    rw [el] at this
    exact FP.1 _ this
  · refine br_f (by decide) ?_
    have hh := h _ (rlY_gy (t := yo_ef t C E F) Y1)
    by_cases n0 : p < 0
    · exact br_t n0 hh
    · exact br_f n0 (br_f (by rcases hp with q | q; exact absurd q n0; exact q) hh)
  · exact br_t rfl (h _ (rlY_gy Y1))
theorem i_vc_effect {k : Nat} {u : SX} {v : SY} (I : i_Rel k u v) (hk : k + 3 ≤ 1540) (v1 : Int32) (v2 : Int32) : wpX_effect (fun r => wpY_effect (fun r' v' => r' = r ∧ i_Rel (k + 3) u v') v v1 v2) u v1 v2 := by
  obtain ⟨mw, mc, ml, mf, ot, cnt, cc, kd, mt, ln, wt, tx, os, ck, ag, cv, fw, hB, hA, hc, hX, hY⟩ := id I
  obtain ⟨b1, b2, b3, b4, b5, b6, b7, b8, b9, b10⟩ := id hB
  have x6 := hX.2.2.2.2.2.1
  have x13 := hX.2.2.2.2.2.2.2.2.2.2.2.2.1
  have y5 := hY.2.2.2.2.1
  rw [we_X_effect, we_X_isWord, x6, x13]
  by_cases n0 : v1 < 0
  · refine br_t n0 (br_t rfl ?_)
    rw [we_Y_effect]
    exact br_t n0 ⟨rfl, I⟩
  by_cases nc : nI cnt ≤ v1
  · refine br_f n0 (br_t nc (br_t rfl ?_))
    rw [we_Y_effect, y5]
    exact br_f n0 (br_f (Int32.not_lt.mpr nc) ⟨rfl, I⟩)
  obtain ⟨w, hw, rfl⟩ := nI_of n0
  have wl : w < cnt := (nI_ltI hw (by omega)).mp (Int32.not_le.mp nc)
  refine br_f n0 (br_f nc (br_f (by decide) ?_))
  have rel : ∀ v', rl_Y mw mc ml mf cnt cc kd ln ck ag cv v' → i_Rel (k + 3) u v' := fun v' Y' => ⟨mw, mc, ml, mf, ot, cnt, cc, kd, mt, ln, wt, tx, os, ck, ag, cv, fw, hB, hA, hc, hX, Y'⟩
  by_cases p0 : v2 < 0
  · exact br_t p0 (ef_Y0 (by omega) hA hY wl (Or.inl p0) (fun v' Y' => ⟨rfl, rel v' Y'⟩))
  by_cases p63 : v2 ≤ 63
  · obtain ⟨p, hp, rfl⟩ := nI_of p0
    have pl : p ≤ 63 := (nI_leI (b := 63) hp (by omega)).mp p63
    have q : (64 : Int32) * nI w + nI p = nI (64 * w + p) := by rw [show (64 : Int32) * nI w = nI (64 * w) from pk_mul 64 w, nI_add]
    rw [q, sv_naA (by omega)]
    exact br_f p0 (br_t p63 ⟨vp_in_nI (by omega) (by omega), ef_Y (by omega) hA hY wl pl (fun v' Y' => ⟨rfl, rel v' Y'⟩)⟩)
  · exact br_f p0 (br_f p63 (ef_Y0 (by omega) hA hY wl (Or.inr p63) (fun v' Y' => ⟨rfl, rel v' Y'⟩)))
end
end
section
/-! fit: the cells as lists, the component's side -/
section
def cl_L (kd mt ck : Nat → Nat) (ag cv : Nat → Int32) (fw : Nat → List Nat) (c : Nat) : List Nat := if ck c = 1 then [1] else wd_L (wd_tL kd ag fw) (cv c).toNatClampNeg (mt (cv c).toNatClampNeg + 1 - (cv c).toNatClampNeg)
def cl_W (kd mt wt ck : Nat → Nat) (ag cv : Nat → Int32) (c : Nat) : Nat := if ck c = 1 then 1 else wd_W (wd_tW kd ag wt) (cv c).toNatClampNeg (mt (cv c).toNatClampNeg + 1 - (cv c).toNatClampNeg)
def cs_L (g : Nat → List Nat) : Nat → List Nat
  | 0 => []
  | n + 1 => cs_L g n ++ g n
def cs_W (g : Nat → Nat) : Nat → Nat
  | 0 => 0
  | n + 1 => cs_W g n + g n
variable {ot cnt cc : Nat} {kd mt ln wt tx os ck : Nat → Nat} {ag cv : Nat → Int32} {fw : Nat → List Nat}
/-- what is known of a quotation on the stack -/
def cl_q (kd mt ln wt : Nat → Nat) (ag : Nat → Int32) (fw : Nat → List Nat) (cnt w p : Nat) : Prop := w < cnt ∧ 32 * w ≤ p ∧ p < mt p ∧ mt p < 32 * w + ln w ∧ bs_M kd p (mt p) ∧ wd_W (wd_tW kd ag wt) p (mt p + 1 - p) ≤ 32 ∧ fl_P (wd_L (wd_tL kd ag fw) p (mt p + 1 - p)) ∧ (wd_L (wd_tL kd ag fw) p (mt p + 1 - p)).length ≤ wd_W (wd_tW kd ag wt) p (mt p + 1 - p) ∧ (∀ i, i < mt p + 1 - p → 1 ≤ kd (p + i) ∧ kd (p + i) ≤ 13 ∧ (kd (p + i) = 2 → rl_v cnt (ag (p + i))))
theorem cl_quot (A : rl_A ot cnt kd mt ln wt tx os ag fw) {w p : Nat} (hw : w < cnt) (h1 : 32 * w ≤ p) (h2 : p < 32 * w + ln w) (h3 : kd p = 3) : cl_q kd mt ln wt ag fw cnt w p := by
  obtain ⟨a1, a2, a3, a4, a5, a6⟩ := A
  obtain ⟨b1, b2, b3⟩ := a2 w hw
  obtain ⟨m1, m2⟩ := b3 p h1 h2 h3
  obtain ⟨x1, x2, x3, x4⟩ := a1.2 w hw
  have hc := a1.1
  have tk : ∀ i, i < mt p + 1 - p → 1 ≤ kd (p + i) ∧ kd (p + i) ≤ 13 ∧ (kd (p + i) = 2 → rl_v cnt (ag (p + i))) := fun i hi => by
    have pm := m1.1
    obtain ⟨y1, y2, y3⟩ := x4 (p + i - 32 * w) (by omega)
    rw [show 32 * w + (p + i - 32 * w) = p + i by omega] at y1 y2 y3
    exact ⟨y1, y2, fun z => by obtain ⟨v, v1, v2⟩ := y3 z; exact ⟨v, by omega, v2⟩⟩
  have FP := fl_word a1 a2
  obtain ⟨n1, n2, n3, n4, n5⟩ := id m1
  refine ⟨hw, h1, n1, m2, m1, ?_, ?_, ?_, tk⟩
  · have e1 := wd_W_app (g := wd_tW kd ag wt) (p - 32 * w) (32 * w) (32 * w + ln w - p)
    rw [show p - 32 * w + (32 * w + ln w - p) = ln w by omega, show 32 * w + (p - 32 * w) = p by omega] at e1
    have e2 := wd_W_app (g := wd_tW kd ag wt) (mt p + 1 - p) p (32 * w + ln w - (mt p + 1))
    rw [show mt p + 1 - p + (32 * w + ln w - (mt p + 1)) = 32 * w + ln w - p by omega] at e2
    omega
  · refine fl_bal (W := cnt) (by omega) FP tk (fun j j1 j2 => ?_) ?_
    · by_cases z : j = p
      · rw [z]; exact Int.le_refl _
      · by_cases z2 : j ≤ mt p
        · have := n4 j (by omega) z2; omega
        · rw [show j = mt p + 1 by omega, n5]; exact Int.le_refl _
    · rw [show p + (mt p + 1 - p) = mt p + 1 by omega]; exact n5
  · exact wd_len_seg (W := cnt) (fun v hv => wd_len a1 v hv) (by omega) _ _ (fun i hi e => (tk i hi).2.2 e)
theorem cl_at (A : rl_A ot cnt kd mt ln wt tx os ag fw) (hc : rl_c kd ln ck cv cnt cc) {c : Nat} (h : c < cc) : (ck c = 1 ∧ cl_L kd mt ck ag cv fw c = [1] ∧ cl_W kd mt wt ck ag cv c = 1) ∨ (ck c = 2 ∧ ∃ p w, cv c = nI p ∧ cl_q kd mt ln wt ag fw cnt w p ∧ cl_L kd mt ck ag cv fw c = wd_L (wd_tL kd ag fw) p (mt p + 1 - p) ∧ cl_W kd mt wt ck ag cv c = wd_W (wd_tW kd ag wt) p (mt p + 1 - p)) := by
  rcases hc c h with z | ⟨z1, p, w, z2, z3, z4, z5, z6⟩
  · exact Or.inl ⟨z, if_pos z, if_pos z⟩
  · have lnw := (wd_ln A.1 z3).2
    have hcn := A.1.1
    have cl : (nI p).toNatClampNeg = p := nI_clamp (by omega)
    refine Or.inr ⟨z1, p, w, z2, cl_quot A z3 z4 z5 z6, ?_, ?_⟩
    · unfold cl_L; rw [if_neg (by omega), z2, cl]
    · unfold cl_W; rw [if_neg (by omega), z2, cl]
/-- lengths and weights of the cells -/
theorem cs_len (A : rl_A ot cnt kd mt ln wt tx os ag fw) (hc : rl_c kd ln ck cv cnt cc) : ∀ n, n ≤ cc → (cs_L (cl_L kd mt ck ag cv fw) n).length ≤ cs_W (cl_W kd mt wt ck ag cv) n ∧ cs_W (cl_W kd mt wt ck ag cv) n ≤ 32 * n ∧ fl_P (cs_L (cl_L kd mt ck ag cv fw) n)
  | 0, _ => ⟨Nat.le_refl 0, Nat.le_refl 0, fun x hx => absurd hx List.not_mem_nil, fun h => ⟨trivial, rfl⟩⟩
  | n + 1, hn => by
    obtain ⟨i1, i2, i3, i4⟩ := cs_len A hc n (by omega)
    have key : (cl_L kd mt ck ag cv fw n).length ≤ cl_W kd mt wt ck ag cv n ∧ cl_W kd mt wt ck ag cv n ≤ 32 ∧ fl_P (cl_L kd mt ck ag cv fw n) := by
      rcases cl_at A hc (show n < cc by omega) with ⟨_, z1, z2⟩ | ⟨_, p, w, _, q, z1, z2⟩
      · rw [z1, z2]
        refine ⟨Nat.le_refl _, by omega, fun x hx => ?_, fun h => ⟨?_, ?_⟩⟩
        · rw [List.mem_singleton.mp hx]; omega
        · show (if 1 = 3 then sv_ok (h + 1) [] else if 1 = 4 then _ else sv_ok h []); simp; trivial
        · show sv_dp (if 1 = 3 then h + 1 else if 1 = 4 then h - 1 else h) [] = h; simp; rfl
      · obtain ⟨q1, q2, q3, q4, q5, q6, q7, q8, q9⟩ := q
        rw [z1, z2]; exact ⟨q8, q6, q7⟩
    obtain ⟨k1, k2, k3, k4⟩ := key
    refine ⟨?_, ?_, fun x hx => ?_, fun h => ⟨(sv_ok_app _ _ _).mpr ⟨(i4 h).1, by rw [(i4 h).2]; exact (k4 h).1⟩, ?_⟩⟩
    · show (cs_L _ n ++ _).length ≤ cs_W _ n + _
      rw [List.length_append]; omega
    · show cs_W _ n + _ ≤ _
      omega
    · rcases List.mem_append.mp hx with q | q
      · exact i3 x q
      · exact k3 x q
    · show sv_dp h (cs_L _ n ++ _) = h
      rw [sv_dp_app, (i4 h).2, (k4 h).2]
theorem cs_W_mono {g : Nat → Nat} : ∀ {a b : Nat}, a ≤ b → cs_W g a ≤ cs_W g b
  | a, 0, h => by rw [show a = 0 by omega]; exact Nat.le_refl _
  | a, b + 1, h => by
    by_cases e : a = b + 1
    · rw [e]; exact Nat.le_refl _
    · have := cs_W_mono (g := g) (a := a) (b := b) (by omega)
      show cs_W g a ≤ cs_W g b + g b
      omega
variable {mw mc ml mf : Nat}
theorem fx_qw {post : Int32 → Prop} {u : SX} {w p : Nat} (X : rl_X mw mc ml mf ot cnt cc kd mt ln wt tx os ck ag cv u) (A : rl_A ot cnt kd mt ln wt tx os ag fw) (q : cl_q kd mt ln wt ag fw cnt w p) (h : post (nI (wd_W (wd_tW kd ag wt) p (mt p + 1 - p)))) : wpX_quotationWeight post u (nI p) := by
  obtain ⟨q1, q2, q3, q4, q5, q6, q7, q8, q9⟩ := q
  have hcn := A.1.1
  have lnw := (wd_ln A.1 q1).2
  have x8 := X.2.2.2.2.2.2.2.1
  have x9 := X.2.2.2.2.2.2.2.2.1
  have x10 := X.2.2.2.2.2.2.2.2.2.1
  have x12 := X.2.2.2.2.2.2.2.2.2.2.2.1
  rw [we_X_quotationWeight]
  refine ⟨mt p + 1 - p + 1, ?_⟩
  have key : ∀ N j s, p ≤ j → j ≤ mt p + 1 → mt p + 1 - j < N → s + wd_W (wd_tW kd ag wt) j (mt p + 1 - j) = wd_W (wd_tW kd ag wt) p (mt p + 1 - p) → lqX_quotationWeight_4 post (nI p) N (nI s) (nI j) u := by
    intro N
    induction N with
    | zero => intro j s _ _ hN; omega
    | succ N ih =>
      intro j s h1 h2 hN e
      rw [lqX_quotationWeight_4_s, x10, x8, x9, sv_naA (by omega)]
      refine ⟨vp_in_nI (by omega) (by omega), pk_lt (mt p) j (fun hl => ?_) (fun hl => ⟨vp_in_nI (by omega) (by omega), vp_in_nI (by omega) (by omega), ?_⟩) rfl rfl (by omega) (by omega)⟩
      · have z : mt p + 1 - j = 0 := by omega
        rw [z] at e
        have e : s + 0 = _ := e
        rw [← e] at h
        exact h
      · rw [sv_naA (by omega), nI_clamp (show j < 2 ^ 31 by omega), we_X_tokenWeight, x12]
        obtain ⟨m, hm⟩ : ∃ m, mt p + 1 - j = m + 1 := ⟨mt p - j, by omega⟩
        have hm' : mt p + 1 - (j + 1) = m := by omega
        have eW : wd_W (wd_tW kd ag wt) j (mt p + 1 - j) = wd_tW kd ag wt j + wd_W (wd_tW kd ag wt) (j + 1) (mt p + 1 - (j + 1)) := by rw [hm, hm']; rfl
        rw [eW] at e
        obtain ⟨t1, t2, t3⟩ := q9 (j - p) (by omega)
        rw [show p + (j - p) = j by omega] at t1 t2 t3
        refine pk_eq (kd j) 2 (fun k => ?_) (fun k => ?_) rfl rfl (by omega) (by omega)
        · obtain ⟨v, v1, v2⟩ := t3 k
          rw [wd_tW2 k (by omega) v2] at e
          rw [v2, sv_naA (by omega), show (1 : Int32) + nI (wt v) = nI (1 + wt v) from nI_add 1 _]
          exact ⟨vp_in_nI (by omega) (by omega), nm_r (nI_add _ _) (nm_r (nI_1 j) (ih (j + 1) (s + (1 + wt v)) (by omega) (by omega) (by omega) (by omega)))⟩
        · rw [wd_tWn k] at e
          exact nm_r (nI_1 s) (nm_r (nI_1 j) (ih (j + 1) (s + 1) (by omega) (by omega) (by omega) (by omega)))
  exact key _ p 0 (Nat.le_refl p) (by omega) (by omega) (by omega)
theorem fx_sw {post : Int32 → Prop} {u : SX} (hcc : cc ≤ 16) (X : rl_X mw mc ml mf ot cnt cc kd mt ln wt tx os ck ag cv u) (A : rl_A ot cnt kd mt ln wt tx os ag fw) (hc : rl_c kd ln ck cv cnt cc) (h : post (nI (cs_W (cl_W kd mt wt ck ag cv) cc))) : wpX_stackWeight post u := by
  have x7 := X.2.2.2.2.2.2.1
  have x15 := X.2.2.2.2.2.2.2.2.2.2.2.2.2.2.1
  have x16 := X.2.2.2.2.2.2.2.2.2.2.2.2.2.2.2
  rw [we_X_stackWeight]
  refine ⟨cc + 1, ?_⟩
  have key : ∀ N c, c ≤ cc → cc - c < N → lqX_stackWeight_4 post N (nI (cs_W (cl_W kd mt wt ck ag cv) c)) (nI c) u := by
    intro N
    induction N with
    | zero => intro c _ hN; omega
    | succ N ih =>
      intro c h1 hN
      rw [lqX_stackWeight_4_s, x7, x15, x16]
      refine pk_le cc c (fun hge => ?_) (fun hlt => ⟨vp_in_nI (by omega) (by omega), ?_⟩) rfl rfl (by omega) (by omega)
      · rw [show c = cc by omega]; exact h
      · rw [sv_naA (by omega), nI_clamp (show c < 2 ^ 31 by omega)]
        have nx := ih (c + 1) (by omega) (by omega)
        rcases cl_at A hc hlt with ⟨z0, z1, z2⟩ | ⟨z0, p, w, z3, q, z1, z2⟩
        · have e : cs_W (cl_W kd mt wt ck ag cv) (c + 1) = cs_W (cl_W kd mt wt ck ag cv) c + 1 := by show _ + _ = _; rw [z2]
          rw [e] at nx
          exact br_t (by rw [z0]; rfl) (nm_r (nI_1 _) (nm_r (nI_1 c) nx))
        · have e : cs_W (cl_W kd mt wt ck ag cv) (c + 1) = cs_W (cl_W kd mt wt ck ag cv) c + wd_W (wd_tW kd ag wt) p (mt p + 1 - p) := by show _ + _ = _; rw [z2]
          rw [e] at nx
          rw [z3]
          exact br_f (by rw [z0]; decide) ⟨vp_in_nI (by omega) (by omega), fx_qw X A q (nm_r (nI_add _ _) (nm_r (nI_1 c) nx))⟩
  exact key _ 0 (Nat.zero_le _) (by omega)
/-- a walk that is over before it begins -/
theorem xw_stop {post : SX → Prop} {c : SX} {t : sv_TX} {p q : Int32} (e : tx_s t = 0) (h : post (gx c t)) : wpX_walk post (gx c t) p q := by
  rw [we_X_walk]
  refine ⟨1, ?_⟩
  rw [lqX_walk_11_s, gx_sound, e]
  exact br_f (by decide) (br_t rfl h)
theorem fx_cells {post : SX → Prop} {u : SX} {t0 : sv_TX} (hcc : cc ≤ 16) (X : rl_X mw mc ml mf ot cnt cc kd mt ln wt tx os ck ag cv u) (A : rl_A ot cnt kd mt ln wt tx os ag fw) (hc : rl_c kd ln ck cv cnt cc) (hW : cs_W (cl_W kd mt wt ck ag cv) cc ≤ 32) (n0 : tx_n t0 = 1) (ne0 : tx_ne t0 = 0) (I0 : xo_I t0)
    (h : ∀ t, xo_SL (cs_L (cl_L kd mt ck ag cv fw) cc) t0 t → post (gx u t)) : wpX_typeCells post (gx u t0) := by
  have hcn := A.1.1
  have x7 := X.2.2.2.2.2.2.1
  have x10 := X.2.2.2.2.2.2.2.2.2.1
  have x15 := X.2.2.2.2.2.2.2.2.2.2.2.2.2.2.1
  have x16 := X.2.2.2.2.2.2.2.2.2.2.2.2.2.2.2
  rw [we_X_typeCells]
  refine ⟨cc + 1, ?_⟩
  have key : ∀ N c t, c ≤ cc → cc - c < N → xo_SL (cs_L (cl_L kd mt ck ag cv fw) c) t0 t → lqX_typeCells_2 post N (nI c) (gx u t) := by
    intro N
    induction N with
    | zero => intro c t _ hN; omega
    | succ N ih =>
      intro c t h1 hN SL
      rw [lqX_typeCells_2_s, gx_cellCount, gx_cellKind, gx_cellValue, gx_match, x7, x10, x15, x16]
      refine pk_le cc c (fun hge => ?_) (fun hlt => ⟨vp_in_nI (by omega) (by omega), ?_⟩) rfl rfl (by omega) (by omega)
      · have e : c = cc := by omega
        rw [e] at SL; exact h t SL
      · rw [sv_naA (by omega), nI_clamp (show c < 2 ^ 31 by omega)]
        obtain ⟨l1, l2, l3⟩ := cs_len A hc c (by omega)
        obtain ⟨m1, m2, m3⟩ := cs_len A hc (c + 1) (by omega)
        have wm := cs_W_mono (g := cl_W kd mt wt ck ag cv) (show c + 1 ≤ cc by omega)
        have nb := SL.2.2.1
        have eW : cs_W (cl_W kd mt wt ck ag cv) (c + 1) = cs_W (cl_W kd mt wt ck ag cv) c + cl_W kd mt wt ck ag cv c := rfl
        have go : ∀ t', xo_SL (cl_L kd mt ck ag cv fw c) t t' → lqX_typeCells_2 post N (nI (c + 1)) (gx u t') := fun t' S' => ih (c + 1) t' (by omega) (by omega) (xo_SL_app SL S')
        rcases cl_at A hc hlt with ⟨z0, z1, z2⟩ | ⟨z0, p, w, z3, q, z1, z2⟩
        · rw [z1] at go
          refine br_t (by rw [z0]; rfl) (xo_t1 SL.1 (by omega) (fun t' S' => nm_r (nI_1 c) (go t' (xo_SL_one S'))))
        · rw [z1] at go
          obtain ⟨q1, q2, q3, q4, q5, q6, q7, q8, q9⟩ := q
          have lnw := (wd_ln A.1 q1).2
          rw [z3, sv_naA (by omega), nI_1 (mt p)]
          refine br_f (by rw [z0]; decide) ⟨vp_in_nI (by omega) (by omega), vp_in_nI (by omega) (by omega), vp_in_nI (by omega) (by omega), ?_⟩
          rcases SL.1.1.2.2.2.2.1 with s0 | s1
          · exact xw_stop s0 (nm_r (nI_1 c) (go t (xo_SL_stop SL.1 s0)))
          · have ne1 : tx_ne t = 0 := by rw [SL.2.2.2.2.1 s1, ne0]; exact (l3.2 0).2
            refine xw_walk X.2.2.2.2.2.2.2.1 X.2.2.2.2.2.2.2.2.1 X.2.2.2.2.2.2.2.2.2.2.1 A.1 (w := w) SL.1 q1 q2 (by omega) (by omega) q6 (by omega) (by omega) (by rw [ne1]; exact (q7.2 0).1) (fun t' S' => nm_r (nI_1 c) (go t' S'))
  exact key _ 0 t0 (Nat.zero_le _) (by omega) (xo_SL_nil I0)
/-- the component's fit of a word that is there -/
theorem fx_fit {post : Int32 → SX → Prop} {u : SX} {w : Nat} (hcc : cc ≤ 16) (X : rl_X mw mc ml mf ot cnt cc kd mt ln wt tx os ck ag cv u) (A : rl_A ot cnt kd mt ln wt tx os ag fw) (hc : rl_c kd ln ck cv cnt cc) (hw : w < cnt)
    (h2 : ¬ cs_W (cl_W kd mt wt ck ag cv) cc + wt w ≤ 32 → post 2 u)
    (h1 : cs_W (cl_W kd mt wt ck ag cv) cc + wt w ≤ 32 → ∀ t s' M Q, xo_I t → (s' = 1 ∧ sv_PG (cs_L (cl_L kd mt ck ag cv fw) cc ++ fw w) True (tx_n t) (tx_K t) (tx_A t) (tx_B t) (tx_R t) (tx_st t) (tx_rw t)) ∨ (s' = 0 ∧ ∀ s e, ¬ sv_Sol (cs_L (cl_L kd mt ck ag cv fw) cc ++ fw w) True s e) → post (nI s') (gx u (xo_mq t s' M Q))) : wpX_fit post u (nI w) := by
  have hcn := A.1.1
  have x6 := X.2.2.2.2.2.1
  have x11 := X.2.2.2.2.2.2.2.2.2.2.1
  have x12 := X.2.2.2.2.2.2.2.2.2.2.2.1
  have ww := (A.1.2 w hw).1
  have lnw := wd_ln A.1 hw
  have FP := fl_word A.1 A.2.1 w hw
  have LN := wd_len A.1 w hw
  obtain ⟨l1, l2, l3⟩ := cs_len A hc cc (Nat.le_refl _)
  have hi : vp_in (nI w) 8 := vp_in_nI (by omega) (by omega)
  rw [we_X_fit, we_X_isWord, x6, x12]
  refine br_f (nI_pos (by omega)) (br_f (nI_ge hw (by omega)) (br_f (by decide) (fx_sw hcc X A hc ⟨hi, ?_⟩)))
  rw [sv_naA (by omega), nI_add]
  refine pk_le (cs_W (cl_W kd mt wt ck ag cv) cc + wt w) 32 (fun hle => ?_) (fun hgt => h2 (by omega)) rfl rfl (by omega) (by omega)
  refine xg_begin (k := 4) (Or.inr rfl) (fun t0 h0 => ?_)
  refine fx_cells hcc X A hc (by omega) h0.2.1 h0.2.2.2.1 h0.1 (fun t1 SL => ⟨hi, ?_⟩)
  rw [gx_length, x11, show (32 : Int32) * nI w = nI (32 * w) from pk_mul 32 w, sv_naA (by omega), nI_add]
  have segL : wd_L (wd_tL kd ag fw) (32 * w) (32 * w + ln w - 32 * w) = fw w := by rw [show 32 * w + ln w - 32 * w = ln w by omega]; exact (A.1.2 w hw).2.2.1.symm
  have fin : ∀ t2, xo_SL (cs_L (cl_L kd mt ck ag cv fw) cc ++ fw w) t0 t2 → wpX_finishTyping (fun u4 => ((((xq_sound u4) = 0 → (post 0 u4)) ∧ (¬ (xq_sound u4) = 0 → (post 1 u4))))) (gx u t2) := by
    intro t2 S2
    refine xf_finish S2.1.1 (fun s' M' Q' E => ?_)
    have dp : sv_dp 0 (cs_L (cl_L kd mt ck ag cv fw) cc ++ fw w) = 0 := by rw [sv_dp_app, (l3.2 0).2, (FP.2 0).2]
    have P := xg_prin (z := True) (Or.inl ⟨rfl, trivial⟩) h0 S2 dp E
    rw [xo_mq_s]
    rcases E.1 with e0 | e0
    · rw [e0]
      have := h1 hle t2 0 M' Q' S2.1 (Or.inr ⟨rfl, P.2 (by omega)⟩)
      exact br_t rfl this
    · rw [e0]
      have := h1 hle t2 1 M' Q' S2.1 (Or.inl ⟨rfl, P.1 e0⟩)
      exact br_f (by decide) this
  have n0 := h0.2.1
  have nb := SL.2.2.1
  rcases SL.1.1.2.2.2.2.1 with s0 | s1
  · exact xw_stop s0 (fin t1 (xo_SL_app SL (xo_SL_stop SL.1 s0)))
  · have ne1 : tx_ne t1 = 0 := by rw [SL.2.2.2.2.1 s1, h0.2.2.2.1]; exact (l3.2 0).2
    refine xw_walk X.2.2.2.2.2.2.2.1 X.2.2.2.2.2.2.2.2.1 X.2.2.2.2.2.2.2.2.2.2.1 A.1 (w := w) SL.1 hw (Nat.le_refl _) (by omega) (Nat.le_refl _) ?_ ?_ ?_ ?_ (fun t2 S2 => ?_)
    · rw [show 32 * w + ln w - 32 * w = ln w by omega, ← (A.1.2 w hw).2.1]; exact ww
    · rw [segL]; omega
    · rw [segL]; omega
    · rw [segL, ne1]; exact (FP.2 0).1
    · rw [segL] at S2
      exact fin t2 (xo_SL_app SL S2)
end
end
section
/-! fit and result: the reference's side, and the claims -/
section
variable {mw mc ml mf ot cnt cc : Nat} {kd mt ln wt tx os ck : Nat → Nat} {ag cv : Nat → Int32} {fw : Nat → List Nat}
theorem fy_cells {post : Int32 → SY → Prop} {v : SY} {w : Nat} (hcc : cc ≤ 16) (Y : rl_Y mw mc ml mf cnt cc kd ln ck ag cv v) (A : rl_A ot cnt kd mt ln wt tx os ag fw) (hc : rl_c kd ln ck cv cnt cc) (hw : w < cnt)
    (h2 : ¬ cs_W (cl_W kd mt wt ck ag cv) cc + wt w ≤ 32 → ∀ v', rl_Y mw mc ml mf cnt cc kd ln ck ag cv v' → post 2 v')
    (h1 : cs_W (cl_W kd mt wt ck ag cv) cc + wt w ≤ 32 → ∀ u t C E F, rl_Y mw mc ml mf cnt cc kd ln ck ag cv u → yg_ok (cs_L (cl_L kd mt ck ag cv fw) cc ++ fw w) True t C E → post 1 (gy u (yo_ef t C E F)))
    (h0 : cs_W (cl_W kd mt wt ck ag cv) cc + wt w ≤ 32 → (∀ s e, ¬ sv_Sol (cs_L (cl_L kd mt ck ag cv fw) cc ++ fw w) True s e) → ∀ v', rl_Y mw mc ml mf cnt cc kd ln ck ag cv v' → post 0 v') :
    ∀ N c len ls pd, c ≤ cc → cc - c < N → yl_L ls 0 len = cs_L (cl_L kd mt ck ag cv fw) c → len ≤ 32 * c → lqY_fit_23 post (nI w) N (nI (cs_W (cl_W kd mt wt ck ag cv) c)) (nI c) (yl_g v len ls pd) := by
  have hcn := A.1.1
  have ww := (A.1.2 w hw).1
  have lnw := wd_ln A.1 hw
  have FP := fl_word A.1 A.2.1 w hw
  have LN := wd_len A.1 w hw
  obtain ⟨L1, L2, L3⟩ := cs_len A hc cc (Nat.le_refl _)
  intro N
  induction N with
  | zero => intro c len ls pd _ hN; omega
  | succ N ih =>
    intro c len ls pd hcl hN el ln32
    have Y1 := rlY_yl Y len ls pd
    have y6 := Y1.2.2.2.2.2.1
    have y7 := Y1.2.2.2.2.2.2.1
    have y9 := Y1.2.2.2.2.2.2.2.2.1
    have y10 := Y1.2.2.2.2.2.2.2.2.2.1
    have y11 := Y1.2.2.2.2.2.2.2.2.2.2
    rw [lqY_fit_23_s, y6, y9, y10, y11]
    refine pk_le cc c (fun hge => ⟨vp_in_nI (by omega) (by omega), ?_⟩) (fun hlt => ⟨vp_in_nI (by omega) (by omega), ?_⟩) rfl rfl (by omega) (by omega)
    · have e : c = cc := by omega
      subst e
      rw [show (32 : Int32) * nI w = nI (32 * w) from pk_mul 32 w, sv_naA (by omega), nI_add]
      refine tk_word hcn A.1 Y hw (by omega) (fun len' ls' pd' e1 e2 => nm_r (nI_add _ _) ?_)
      have Y2 := rlY_yl Y len' ls' pd'
      rw [el] at e1
      have lenE := congrArg List.length e1
      rw [yl_L_len, List.length_append] at lenE
      refine pk_le (cs_W (cl_W kd mt wt ck ag cv) c + wt w) 32 (fun hle => ?_) (fun hgt => h2 (by omega) _ Y2) rfl rfl (by omega) (by omega)
      refine yg_solve (k0 := 5) (len := len') (ls := ls') (z := True) (Or.inl ⟨rfl, trivial⟩) rfl rfl (by omega) (fun j hj => ?_) ?_ ?_ (fun t C E F ok => ?_) (fun t no => ?_)
      · have := yl_L_get (ls := ls') len' 0 j (Nat.zero_le _) (by omega)
        rw [e1] at this
        rcases List.mem_append.mp this with q | q
        · exact L3.1 _ q
        · exact FP.1 _ q
      · rw [e1]; exact (sv_ok_app _ _ _).mpr ⟨(L3.2 0).1, by rw [(L3.2 0).2]; exact (FP.2 0).1⟩
      · rw [e1, sv_dp_app, (L3.2 0).2, (FP.2 0).2]
      · rw [e1] at ok
        exact br_f (by decide) (h1 hle _ t C E F Y2 ok)
      · rw [e1] at no
        exact br_t rfl (h0 hle no _ (rlY_gy Y2))
    · rw [nI_clamp (show c < 2 ^ 31 by omega), sv_naA0]
      refine nm_e ⟨vp_in_nI (by omega) (by omega), ?_⟩
      have eLs : cs_L (cl_L kd mt ck ag cv fw) (c + 1) = cs_L (cl_L kd mt ck ag cv fw) c ++ cl_L kd mt ck ag cv fw c := rfl
      have eWs : cs_W (cl_W kd mt wt ck ag cv) (c + 1) = cs_W (cl_W kd mt wt ck ag cv) c + cl_W kd mt wt ck ag cv c := rfl
      rcases cl_at A hc hlt with ⟨z0, z1, z2⟩ | ⟨z0, p, w', z3, q, z1, z2⟩
      · rw [z1] at eLs
        rw [z2] at eWs
        have n2 : ¬ nI (ck c) = 2 := by rw [z0]; decide
        refine br_f n2 ?_
        rw [pqY_fit_59_e, y10, sv_naA (by omega)]
        refine ⟨vp_in_nI (by omega) (by omega), br_f n2 ?_⟩
        rw [yl_g_listSize, yl_g_list]
        have q1 : upd (sv_na ls) (nI len).toNatClampNeg 1 = sv_na (sv_un ls len 1) := sv_naU (x := 1) (by omega)
        rw [q1]
        refine nm_r (nI_1 len) ⟨vp_in_nI (by omega) (by omega), nm_e (nm_r (nI_1 _) (nm_r (nI_1 c) ?_))⟩
        rw [yl_sl, ← eWs]
        have ap := yl_L_app (ls := ls) (x := 1) len 0
        rw [Nat.zero_add, el, ← eLs] at ap
        exact ih (c + 1) (len + 1) _ pd (by omega) (by omega) ap (by omega)
      · rw [z1] at eLs
        rw [z2] at eWs
        obtain ⟨q1, q2, q3, q4, q5, q6, q7, q8, q9⟩ := q
        have lnw' := (wd_ln A.1 q1).2
        have e2 : nI (ck c) = 2 := by rw [z0]; rfl
        refine br_t e2 ?_
        rw [z3]
        refine yb_after y7 q5 (by omega) (fun j j1 j2 => ?_) ?_
        · have := (q9 (j - p) (by omega)).2.1
          rw [show p + (j - p) = j by omega] at this; exact this
        · rw [pqY_fit_59_e, y10, sv_naA (by omega)]
          refine ⟨vp_in_nI (by omega) (by omega), br_t e2 ?_⟩
          have em : mt p + 1 = p + (mt p + 1 - p) := by omega
          rw [em]
          refine yu_unfold Y.2.2.2.2.2.2.1 Y.2.2.2.2.2.2.2.1 Y.2.2.2.2.2.2.2.2.1 A.1 (by omega) (fun i hi => ⟨by omega, (q9 i hi).1, (q9 i hi).2.1, (q9 i hi).2.2⟩) q6 (by omega) (fun len' ls' pd' e1 e3 => nm_r (nI_add _ _) (nm_r (nI_1 c) ?_))
          rw [← eWs]
          rw [el, ← eLs] at e1
          exact ih (c + 1) len' ls' pd' (by omega) (by omega) e1 (by omega)
theorem fy_fit {post : Int32 → SY → Prop} {v : SY} {w : Nat} (hcc : cc ≤ 16) (Y : rl_Y mw mc ml mf cnt cc kd ln ck ag cv v) (A : rl_A ot cnt kd mt ln wt tx os ag fw) (hc : rl_c kd ln ck cv cnt cc) (hw : w < cnt)
    (h2 : ¬ cs_W (cl_W kd mt wt ck ag cv) cc + wt w ≤ 32 → ∀ v', rl_Y mw mc ml mf cnt cc kd ln ck ag cv v' → post 2 v')
    (h1 : cs_W (cl_W kd mt wt ck ag cv) cc + wt w ≤ 32 → ∀ u t C E F, rl_Y mw mc ml mf cnt cc kd ln ck ag cv u → yg_ok (cs_L (cl_L kd mt ck ag cv fw) cc ++ fw w) True t C E → post 1 (gy u (yo_ef t C E F)))
    (h0 : cs_W (cl_W kd mt wt ck ag cv) cc + wt w ≤ 32 → (∀ s e, ¬ sv_Sol (cs_L (cl_L kd mt ck ag cv fw) cc ++ fw w) True s e) → ∀ v', rl_Y mw mc ml mf cnt cc kd ln ck ag cv v' → post 0 v') : wpY_fit post v (nI w) := by
  have hcn := A.1.1
  have y5 := Y.2.2.2.2.1
  rw [we_Y_fit, y5, yl_0]
  exact br_f (nI_pos (by omega)) (br_t (nI_lt hw (by omega)) ⟨cc + 1, fy_cells hcc Y A hc hw h2 h1 h0 (cc + 1) 0 0 _ _ (Nat.zero_le _) (by omega) rfl (by omega)⟩)
theorem i_vc_fit {k : Nat} {u : SX} {v : SY} (I : i_Rel k u v) (hk : k + 3 ≤ 1540) (v1 : Int32) : wpX_fit (fun r u' => wpY_fit (fun r' v' => r' = r ∧ i_Rel (k + 3) u' v') v v1) u v1 := by
  obtain ⟨mw, mc, ml, mf, ot, cnt, cc, kd, mt, ln, wt, tx, os, ck, ag, cv, fw, hB, hA, hc, hX, hY⟩ := id I
  obtain ⟨b1, b2, b3, b4, b5, b6, b7, b8, b9, b10⟩ := id hB
  have x6 := hX.2.2.2.2.2.1
  have y5 := hY.2.2.2.2.1
  by_cases n0 : v1 < 0
  · rw [we_X_fit, we_X_isWord]
    refine br_t n0 (br_t rfl ?_)
    rw [we_Y_fit]
    exact br_t n0 ⟨rfl, I⟩
  by_cases nc : nI cnt ≤ v1
  · rw [we_X_fit, we_X_isWord, x6]
    refine br_f n0 (br_t nc (br_t rfl ?_))
    rw [we_Y_fit, y5]
    exact br_f n0 (br_f (Int32.not_lt.mpr nc) ⟨rfl, I⟩)
  obtain ⟨w, hw, rfl⟩ := nI_of n0
  have wl : w < cnt := (nI_ltI hw (by omega)).mp (Int32.not_le.mp nc)
  have rel : ∀ u' v', rl_X mw mc ml mf ot cnt cc kd mt ln wt tx os ck ag cv u' → rl_Y mw mc ml mf cnt cc kd ln ck ag cv v' → i_Rel (k + 3) u' v' := fun u' v' X' Y' => ⟨mw, mc, ml, mf, ot, cnt, cc, kd, mt, ln, wt, tx, os, ck, ag, cv, fw, hB, hA, hc, X', Y'⟩
  refine fx_fit (by omega) hX hA hc wl (fun hg => ?_) (fun hl t s' M Q It P => ?_)
  · exact fy_fit (by omega) hY hA hc wl (fun _ v' Y' => ⟨rfl, rel u v' hX Y'⟩) (fun z => absurd z hg) (fun z => absurd z hg)
  · rcases P with ⟨es, P⟩ | ⟨es, P⟩
    · rw [es]
      refine fy_fit (by omega) hY hA hc wl (fun z => absurd hl z) (fun _ u2 t2 C E F Y2 ok => ⟨rfl, rel _ _ (rlX_gx hX) (rlY_gy Y2)⟩) (fun _ no v' Y' => ?_)
      obtain ⟨s, e, q⟩ := sv_PG_sol P
      exact absurd q (no s e)
    · rw [es]
      refine fy_fit (by omega) hY hA hc wl (fun z => absurd hl z) (fun _ u2 t2 C E F Y2 ok => ?_) (fun _ no v' Y' => ⟨rfl, rel _ _ (rlX_gx hX) Y'⟩)
      obtain ⟨s, e, q⟩ := sv_PG_sol ok.2.2.2.2.2.2
      exact absurd q (P s e)
theorem i_vc_result {k : Nat} {u : SX} {v : SY} (I : i_Rel k u v) (hk : k + 3 ≤ 1540) (v1 : Int32) (v2 : Int32) : wpX_result (fun r u' => wpY_result (fun r' v' => r' = r ∧ i_Rel (k + 3) u' v') v v1 v2) u v1 v2 := by
  obtain ⟨mw, mc, ml, mf, ot, cnt, cc, kd, mt, ln, wt, tx, os, ck, ag, cv, fw, hB, hA, hc, hX, hY⟩ := id I
  obtain ⟨b1, b2, b3, b4, b5, b6, b7, b8, b9, b10⟩ := id hB
  have x6 := hX.2.2.2.2.2.1
  have y5 := hY.2.2.2.2.1
  rw [we_X_result]
  by_cases n0 : v1 < 0
  · rw [we_X_fit, we_X_isWord]
    refine br_t n0 (br_t rfl (br_f (by decide) ?_))
    rw [we_Y_result, we_Y_fit]
    exact br_t n0 (br_f (by decide) ⟨rfl, I⟩)
  by_cases nc : nI cnt ≤ v1
  · rw [we_X_fit, we_X_isWord, x6]
    refine br_f n0 (br_t nc (br_t rfl (br_f (by decide) ?_)))
    rw [we_Y_result, we_Y_fit, y5]
    exact br_f n0 (br_f (Int32.not_lt.mpr nc) (br_f (by decide) ⟨rfl, I⟩))
  obtain ⟨w, hw, rfl⟩ := nI_of n0
  have wl : w < cnt := (nI_ltI hw (by omega)).mp (Int32.not_le.mp nc)
  have rel : ∀ u' v', rl_X mw mc ml mf ot cnt cc kd mt ln wt tx os ck ag cv u' → rl_Y mw mc ml mf cnt cc kd ln ck ag cv v' → i_Rel (k + 3) u' v' := fun u' v' X' Y' => ⟨mw, mc, ml, mf, ot, cnt, cc, kd, mt, ln, wt, tx, os, ck, ag, cv, fw, hB, hA, hc, X', Y'⟩
  refine fx_fit (by omega) hX hA hc wl (fun hg => ?_) (fun hl t s' M Q It P => ?_)
  · refine br_f (by decide) ?_
    rw [we_Y_result]
    exact fy_fit (by omega) hY hA hc wl (fun _ v' Y' => br_f (by decide) ⟨rfl, rel u v' hX Y'⟩) (fun z => absurd z hg) (fun z => absurd z hg)
  · rcases P with ⟨es, P⟩ | ⟨es, P⟩
    · rw [es]
      refine br_t rfl ?_
      by_cases p0 : 0 ≤ v2
      · obtain ⟨i, hi, rfl⟩ := nI_of (x := v2) (Int32.not_lt.mpr p0)
        refine br_t p0 ?_
        obtain ⟨g1, g2, g3, g4, g5, g6⟩ := It.1
        have xrow : xq_row (gx u (xo_mq t 1 M Q)) = nI (tx_rw t) := rfl
        rw [xrow]
        obtain ⟨p1, p2, p3, ⟨d, p4⟩, p5, p6, p7, p8, p9, p10, p11⟩ := id P
        have val := tv_val (d := d) ⟨p1, p2, p3, p4⟩
        refine xo_find_mq g1 g2 It.2.2.1.1 ⟨sv_tc (tx_K t) (tx_A t) (tx_B t) (tx_R t) d (tx_rw t) + 1, ?_⟩
        refine xr_27 g1 g2 g3 val hi _ (tx_rw t) 0 It.2.2.1.1 (Nat.zero_le _) (by omega) ?_
        rw [we_Y_result]
        refine fy_fit (by omega) hY hA hc wl (fun z => absurd hl z) (fun _ u2 t2 C E F Y2 ok => br_t rfl (br_t p0 ?_)) (fun _ no v' Y' => ?_)
        · obtain ⟨o1, o2, o3, o4, o5, o6, o7⟩ := ok
          obtain ⟨r1, r2, r3, ⟨d2, r4⟩, r5, r6, r7, r8, r9, r10, r11⟩ := id o7
          have val2 := tv_val (d := d2) ⟨r1, r2, r3, r4⟩
          have eq := tv_res_two P o7 i
          have c1 : yq_cls (gy u2 (yo_ef t2 C E F)) = sv_na C := rfl
          have c2 : yq_def (gy u2 (yo_ef t2 C E F)) = sv_na E := rfl
          have c3 : yq_last (gy u2 (yo_ef t2 C E F)) = nI (ty_la t2) := rfl
          have n320 := o1.1
          have cb := (o5 _ o3).1
          rw [c1, c2, c3, sv_naA (by omega), sv_naA (by omega), show E (C (ty_la t2)) = yf_r C E (ty_la t2) from rfl]
          refine ⟨vp_in_nI (by omega) (by omega), vp_in_nI (by omega) (by omega), nm_e ⟨320, ?_⟩⟩
          have rk := sv_rk_n (n := ty_n t2) (m := sv_tc (yn_K t2) (yn_A t2) (yn_B t2) (yf_r C E) d2) o3
          refine yr_33 o1 ye_of (fun i hi => (o5 i hi).1) r1 val2 hi 320 (ty_la t2) 0 o3 (Nat.zero_le _) (by omega) (by omega) ⟨congrArg nI ?_, rel _ _ (rlX_gx hX) (rlY_gy Y2)⟩
          exact eq.symm
        · obtain ⟨s, e, q⟩ := sv_PG_sol P
          exact absurd q (no s e)
      · refine br_f p0 ?_
        rw [we_Y_result]
        refine fy_fit (by omega) hY hA hc wl (fun z => absurd hl z) (fun _ u2 t2 C E F Y2 ok => br_t rfl (br_f p0 ⟨rfl, rel _ _ (rlX_gx hX) (rlY_gy Y2)⟩)) (fun _ no v' Y' => ?_)
        obtain ⟨s, e, q⟩ := sv_PG_sol P
        exact absurd q (no s e)
    · rw [es]
      refine br_f (by decide) ?_
      rw [we_Y_result]
      refine fy_fit (by omega) hY hA hc wl (fun z => absurd hl z) (fun _ u2 t2 C E F Y2 ok => ?_) (fun _ no v' Y' => br_f (by decide) ⟨rfl, rel _ _ (rlX_gx hX) Y'⟩)
      obtain ⟨s, e, q⟩ := sv_PG_sol ok.2.2.2.2.2.2
      exact absurd q (P s e)
end
end
section
/-! run: frames and agenda, the pure side -/
section
def ag_L (k : Nat → Nat) (v : Nat → Int32) (l : Nat → Nat) : Nat → List (Nat × Int32 × Nat)
  | 0 => []
  | n + 1 => (k n, v n, l n) :: ag_L k v l n
theorem ag_congr {k k' l l' : Nat → Nat} {v v' : Nat → Int32} : ∀ n, (∀ j, j < n → k' j = k j ∧ v' j = v j ∧ l' j = l j) → ag_L k' v' l' n = ag_L k v l n
  | 0, _ => rfl
  | n + 1, h => by
    show (k' n, v' n, l' n) :: ag_L k' v' l' n = (k n, v n, l n) :: ag_L k v l n
    obtain ⟨h1, h2, h3⟩ := h n (by omega)
    rw [h1, h2, h3, ag_congr n (fun j hj => h j (by omega))]
theorem ag_push {k l : Nat → Nat} {v : Nat → Int32} {n a b : Nat} {x : Int32} : ag_L (sv_un k n a) (upd v n x) (sv_un l n b) (n + 1) = (a, x, b) :: ag_L k v l n := by
  show (sv_un k n a n, upd v n x n, sv_un l n b n) :: ag_L (sv_un k n a) (upd v n x) (sv_un l n b) n = _
  rw [sv_us, pk_us, sv_us, ag_congr n (fun j hj => ⟨sv_uo (by omega), pk_un (by omega), sv_uo (by omega)⟩)]
theorem ag_len {k l : Nat → Nat} {v : Nat → Int32} : ∀ n, (ag_L k v l n).length = n
  | 0 => rfl
  | n + 1 => by show (ag_L k v l n).length + 1 = n + 1; rw [ag_len n]
def it_L (kd : Nat → Nat) (b lv : Nat) : Nat → Nat → List (Nat × Int32 × Nat)
  | _, 0 => []
  | p, m + 1 => if bs_S kd p = bs_S kd b then (0, nI p, lv) :: it_L kd b lv (p + 1) m else it_L kd b lv (p + 1) m
variable {kd : Nat → Nat}
theorem it_len {b lv : Nat} : ∀ m p, (it_L kd b lv p m).length ≤ m
  | 0, _ => Nat.le_refl 0
  | m + 1, p => by
    have := it_len (b := b) (lv := lv) m (p + 1)
    unfold it_L
    split
    · show (it_L kd b lv (p + 1) m).length + 1 ≤ m + 1; omega
    · omega
theorem it_base {b b' lv : Nat} (e : bs_S kd b = bs_S kd b') : ∀ m p, it_L kd b lv p m = it_L kd b' lv p m
  | 0, _ => rfl
  | m + 1, p => by unfold it_L; rw [e, it_base e m (p + 1)]
theorem it_skip {b lv : Nat} : ∀ n m p, (∀ j, p ≤ j → j < p + n → bs_S kd j ≠ bs_S kd b) → it_L kd b lv p (n + m) = it_L kd b lv (p + n) m
  | 0, m, p, _ => by rw [Nat.zero_add, Nat.add_zero]
  | n + 1, m, p, h => by
    rw [show n + 1 + m = (n + m) + 1 by omega]
    show (if bs_S kd p = bs_S kd b then (0, nI p, lv) :: it_L kd b lv (p + 1) (n + m) else it_L kd b lv (p + 1) (n + m)) = _
    rw [if_neg (h p (Nat.le_refl p) (by omega)), it_skip n m (p + 1) (fun j j1 j2 => h j (by omega) (by omega)), show p + 1 + n = p + (n + 1) by omega]
theorem it_snoc {b lv : Nat} : ∀ m p, it_L kd b lv p (m + 1) = it_L kd b lv p m ++ (if bs_S kd (p + m) = bs_S kd b then [(0, nI (p + m), lv)] else [])
  | 0, p => by
    show (if bs_S kd p = bs_S kd b then (0, nI p, lv) :: [] else []) = [] ++ _
    rw [Nat.add_zero]; rfl
  | m + 1, p => by
    have ih := it_snoc (b := b) (lv := lv) m (p + 1)
    rw [show p + 1 + m = p + (m + 1) by omega] at ih
    show (if bs_S kd p = bs_S kd b then (0, nI p, lv) :: it_L kd b lv (p + 1) (m + 1) else it_L kd b lv (p + 1) (m + 1)) = (if bs_S kd p = bs_S kd b then (0, nI p, lv) :: it_L kd b lv (p + 1) m else it_L kd b lv (p + 1) m) ++ _
    rw [ih]
    by_cases e : bs_S kd p = bs_S kd b
    · rw [if_pos e, if_pos e]; rfl
    · rw [if_neg e, if_neg e]
/-- a body: a balanced run of tokens of a word -/
def fr_ok (kd ln : Nat → Nat) (cnt p e : Nat) : Prop := ∃ w, w < cnt ∧ 32 * w ≤ p ∧ p ≤ e ∧ e ≤ 32 * w + ln w ∧ bs_S kd e = bs_S kd p ∧ ∀ j, p ≤ j → j ≤ e → bs_S kd p ≤ bs_S kd j
def fr_nx (kd mt : Nat → Nat) (p : Nat) : Nat := if kd p = 3 then mt p + 1 else p + 1
variable {ot cnt : Nat} {mt ln wt tx os : Nat → Nat} {ag : Nat → Int32} {fw : Nat → List Nat}
theorem fr_next (A : rl_A ot cnt kd mt ln wt tx os ag fw) {p e : Nat} (h : fr_ok kd ln cnt p e) (hl : p < e) : fr_ok kd ln cnt (fr_nx kd mt p) e ∧ kd p ≠ 4 ∧ 1 ≤ kd p ∧ kd p ≤ 13 ∧ (kd p = 2 → rl_v cnt (ag p)) ∧ (kd p = 3 → rl_q kd ln cnt (nI p)) ∧ fr_nx kd mt p ≤ 256 ∧ p < fr_nx kd mt p ∧ ∀ lv, it_L kd p lv p (e - p) = (0, nI p, lv) :: it_L kd (fr_nx kd mt p) lv (fr_nx kd mt p) (e - fr_nx kd mt p) := by
  obtain ⟨w, w1, w2, w3, w4, w5, w6⟩ := h
  obtain ⟨y1, y2, y3⟩ := (A.1.2 w w1).2.2.2 (p - 32 * w) (by omega)
  rw [show 32 * w + (p - 32 * w) = p by omega] at y1 y2 y3
  have hcn := A.1.1
  have lnw := (wd_ln A.1 w1).2
  have s1 := w6 (p + 1) (by omega) (by omega)
  have n4 : kd p ≠ 4 := fun z => by have := bs_4 (kd := kd) z; omega
  have call : kd p = 2 → rl_v cnt (ag p) := fun z => by obtain ⟨v, v1, v2⟩ := y3 z; exact ⟨v, by omega, v2⟩
  have hd : ∀ lv, it_L kd p lv p (e - p) = (0, nI p, lv) :: it_L kd p lv (p + 1) (e - (p + 1)) := fun lv => by
    rw [show e - p = (e - (p + 1)) + 1 by omega]
    show (if bs_S kd p = bs_S kd p then _ else _) = _
    rw [if_pos rfl]
  by_cases k3 : kd p = 3
  · have en : fr_nx kd mt p = mt p + 1 := if_pos k3
    obtain ⟨m1, m2⟩ := (A.2.1 w w1).2.2 p w2 (by omega) k3
    obtain ⟨n1, n2, n3, n5, n6⟩ := m1
    have le : mt p + 1 ≤ e := by
      by_cases z : e ≤ mt p
      · have := n5 e hl z; omega
      · omega
    rw [en]
    refine ⟨⟨w, w1, by omega, le, w4, by rw [w5, n6], fun j j1 j2 => by rw [n6]; exact w6 j (by omega) j2⟩, n4, y1, y2, call, fun _ => ⟨p, w, rfl, w1, w2, by omega, k3⟩, by omega, by omega, fun lv => ?_⟩
    rw [hd lv, show e - (p + 1) = (mt p - p) + (e - (mt p + 1)) by omega, it_skip (mt p - p) _ (p + 1) (fun j j1 j2 => by have := n5 j (by omega) (by omega); omega), show p + 1 + (mt p - p) = mt p + 1 by omega, it_base (b' := mt p + 1) n6.symm]
  · have en : fr_nx kd mt p = p + 1 := if_neg k3
    have sn := bs_n (kd := kd) k3 n4
    rw [en]
    refine ⟨⟨w, w1, by omega, by omega, w4, by rw [w5, sn], fun j j1 j2 => by rw [sn]; exact w6 j (by omega) j2⟩, n4, y1, y2, call, fun z => absurd z k3, by omega, by omega, fun lv => ?_⟩
    rw [hd lv, it_base (b' := p + 1) sn.symm]
theorem fr_word (A : rl_A ot cnt kd mt ln wt tx os ag fw) {w : Nat} (hw : w < cnt) : fr_ok kd ln cnt (32 * w) (32 * w + ln w) := ⟨w, hw, Nat.le_refl _, by omega, Nat.le_refl _, (A.2.1 w hw).2.1, (A.2.1 w hw).1⟩
/-- the body of a quotation -/
theorem fr_quot (A : rl_A ot cnt kd mt ln wt tx os ag fw) {x : Int32} (h : rl_q kd ln cnt x) : ∃ p, x = nI p ∧ p < mt p ∧ mt p < 255 ∧ bs_M kd p (mt p) ∧ fr_ok kd ln cnt (p + 1) (mt p) ∧ (∀ j, p ≤ j → j ≤ mt p → kd j ≤ 13) := by
  obtain ⟨p, w, e, w1, w2, w3, k3⟩ := h
  obtain ⟨m1, m2⟩ := (A.2.1 w w1).2.2 p w2 w3 k3
  have hcn := A.1.1
  have lnw := (wd_ln A.1 w1).2
  obtain ⟨n1, n2, n3, n4, n5⟩ := id m1
  have s := bs_3 (kd := kd) k3
  have s4 := bs_4 (kd := kd) n3
  refine ⟨p, e, n1, by omega, m1, ⟨w, w1, by omega, by omega, by omega, by omega, fun j j1 j2 => by have := n4 j (by omega) j2; omega⟩, fun j j1 j2 => ?_⟩
  have := ((A.1.2 w w1).2.2.2 (j - 32 * w) (by omega)).2.1
  rw [show 32 * w + (j - 32 * w) = j by omega] at this; exact this
def fr_c (sk : Nat → Nat) (sv : Nat → Int32) (l : Nat) : List (Nat × Int32 × Nat) := if sk l = 0 then [] else [(sk l, sv l, l - 1)]
def fr_L (kd fp fe sk : Nat → Nat) (sv : Nat → Int32) : Nat → List (Nat × Int32 × Nat)
  | 0 => []
  | l + 1 => it_L kd (fp (l + 1)) (l + 1) (fp (l + 1)) (fe (l + 1) - fp (l + 1)) ++ (fr_c sk sv (l + 1) ++ fr_L kd fp fe sk sv l)
theorem fr_congr {fp fe sk fp' fe' sk' : Nat → Nat} {sv sv' : Nat → Int32} : ∀ n, (∀ l, l ≤ n → fp' l = fp l ∧ fe' l = fe l ∧ sk' l = sk l ∧ sv' l = sv l) → fr_L kd fp' fe' sk' sv' n = fr_L kd fp fe sk sv n
  | 0, _ => rfl
  | n + 1, h => by
    obtain ⟨h1, h2, h3, h4⟩ := h (n + 1) (Nat.le_refl _)
    show it_L kd (fp' (n + 1)) (n + 1) (fp' (n + 1)) (fe' (n + 1) - fp' (n + 1)) ++ (fr_c sk' sv' (n + 1) ++ fr_L kd fp' fe' sk' sv' n) = _
    unfold fr_c
    rw [h1, h2, h3, h4, fr_congr n (fun l hl => h l (by omega))]
    rfl
def cc_n (sk : Nat → Nat) : Nat → Nat
  | 0 => 0
  | l + 1 => cc_n sk l + (if sk (l + 1) = 0 then 0 else 1)
theorem cc_congr {sk sk' : Nat → Nat} : ∀ n, (∀ l, l ≤ n → sk' l = sk l) → cc_n sk' n = cc_n sk n
  | 0, _ => rfl
  | n + 1, h => by
    show cc_n sk' n + (if sk' (n + 1) = 0 then 0 else 1) = _
    rw [h (n + 1) (Nat.le_refl _), cc_congr n (fun l hl => h l (by omega))]; rfl
theorem fr_len {fp fe sk : Nat → Nat} {sv : Nat → Int32} : ∀ n, (∀ l, 1 ≤ l → l ≤ n → fe l - fp l ≤ 32) → (fr_L kd fp fe sk sv n).length ≤ 33 * n
  | 0, _ => Nat.le_refl 0
  | n + 1, h => by
    have ih := fr_len (sv := sv) (sk := sk) n (fun l l1 l2 => h l l1 (by omega))
    have i1 := it_len (kd := kd) (b := fp (n + 1)) (lv := n + 1) (fe (n + 1) - fp (n + 1)) (fp (n + 1))
    have h1 := h (n + 1) (by omega) (Nat.le_refl _)
    show (it_L kd (fp (n + 1)) (n + 1) (fp (n + 1)) (fe (n + 1) - fp (n + 1)) ++ (fr_c sk sv (n + 1) ++ fr_L kd fp fe sk sv n)).length ≤ _
    rw [List.length_append, List.length_append]
    have : (fr_c sk sv (n + 1)).length ≤ 1 := by unfold fr_c; split <;> simp
    omega
end
end
section
/-! run: pushes, entries and bodies -/
section
variable {c : SX} {v : SY} {mw mc ml mf ot cnt cc : Nat} {kd mt ln wt tx os ck0 : Nat → Nat} {ag cv0 : Nat → Int32} {fw : Nat → List Nat}
variable {rd lv sp : Nat} {rk fp fe sk : Nat → Nat} {rv sv : Nat → Int32}
theorem xr_s1 {d : Nat} : xs_runDepth (xr_g c rd lv sp rk rv fp fe sk sv) (nI d) = xr_g c d lv sp rk rv fp fe sk sv := rfl
theorem xr_s2 {d : Nat} {rk' : Nat → Nat} {rv' : Nat → Int32} : xs_runDepth_runKind_runValue (xr_g c rd lv sp rk rv fp fe sk sv) (nI d) (sv_na rk') rv' = xr_g c d lv sp rk' rv' fp fe sk sv := rfl
theorem xr_s3 {l : Nat} {fp' fe' sk' : Nat → Nat} : xs_level_framePos_frameEnd_savedKind (xr_g c rd lv sp rk rv fp fe sk sv) (nI l) (sv_na fp') (sv_na fe') (sv_na sk') = xr_g c rd l sp rk rv fp' fe' sk' sv := rfl
theorem xr_s4 {fp' : Nat → Nat} : xs_framePos (xr_g c rd lv sp rk rv fp fe sk sv) (sv_na fp') = xr_g c rd lv sp rk rv fp' fe sk sv := rfl
theorem xr_s5 {s : Nat} : xs_spent (xr_g c rd lv sp rk rv fp fe sk sv) (nI s) = xr_g c rd lv s rk rv fp fe sk sv := rfl
theorem xr_s6 {l : Nat} : xs_level (xr_g c rd lv sp rk rv fp fe sk sv) (nI l) = xr_g c rd l sp rk rv fp fe sk sv := rfl
theorem xr_s7 {rk' : Nat → Nat} {rv' : Nat → Int32} : xs_runKind_runValue (xr_g c rd lv sp rk rv fp fe sk sv) (sv_na rk') rv' = xr_g c rd lv sp rk' rv' fp fe sk sv := rfl
theorem xr_s8 {rv' : Nat → Int32} : xs_runValue (xr_g c rd lv sp rk rv fp fe sk sv) rv' = xr_g c rd lv sp rk rv' fp fe sk sv := rfl
theorem xr_s9 {sk' : Nat → Nat} {sv' : Nat → Int32} : xs_savedKind_savedValue (xr_g c rd lv sp rk rv fp fe sk sv) (sv_na sk') sv' = xr_g c rd lv sp rk rv fp fe sk' sv' := rfl
theorem rx_push {post : Int32 → SX → Prop} {k : Nat} {x : Int32} (m1 : xq_maxCells c = nI mc) (hm : mc ≤ 16) (hr : rd ≤ mc) (h4 : rd = mc → post 4 (xr_g c rd lv sp rk rv fp fe sk sv)) (h0 : rd ≠ mc → post 0 (xr_g c (rd + 1) lv sp (sv_un rk rd k) (upd rv rd x) fp fe sk sv)) : wpX_runPush post (xr_g c rd lv sp rk rv fp fe sk sv) (nI k) x := by
  rw [we_X_runPush, xr_g_runDepth, xr_g_maxCells, xr_g_runKind, xr_g_runValue, m1]
  refine pk_eq rd mc h4 (fun e => ?_) rfl rfl (by omega) (by omega)
  have hi : vp_in (nI rd) 16 := vp_in_nI (by omega) (by omega)
  rw [sv_naU (by omega), nI_clamp (show rd < 2 ^ 31 by omega)]
  refine ⟨hi, nm_e ⟨hi, nm_e (nm_r (nI_1 rd) ?_)⟩⟩
  rw [xr_s2]; exact h0 e
theorem rx_enter {post : SX → Prop} {a b : Nat} (hl : lv < 33) (h : post (xr_g c rd (lv + 1) sp rk rv (sv_un fp (lv + 1) a) (sv_un fe (lv + 1) b) (sv_un sk (lv + 1) 0) sv)) : wpX_enter post (xr_g c rd lv sp rk rv fp fe sk sv) (nI a) (nI b) := by
  rw [we_X_enter, xr_g_level, xr_g_framePos, xr_g_frameEnd, xr_g_savedKind]
  have hi : vp_in (nI (lv + 1)) 34 := vp_in_nI (by omega) (by omega)
  have q : upd (sv_na sk) (nI (lv + 1)).toNatClampNeg 0 = sv_na (sv_un sk (lv + 1) 0) := sv_naU (x := 0) (by omega)
  refine nm_r (nI_1 lv) ⟨hi, ?_⟩
  rw [sv_naU (by omega), sv_naU (by omega), q]
  refine nm_e ⟨hi, nm_e ⟨hi, nm_e ?_⟩⟩
  rw [xr_s3]; exact h
variable {n : Nat} {ck agk agl : Nat → Nat} {cv agv : Nat → Int32}
theorem yr_s1 {d : Nat} : ys_copyDepth (yr_g v rd n ck cv agk agv agl) (nI d) = yr_g v d n ck cv agk agv agl := rfl
theorem yr_s2 {d : Nat} {ck' : Nat → Nat} {cv' : Nat → Int32} : ys_copyDepth_copyKind_copyVal (yr_g v rd n ck cv agk agv agl) (nI d) (sv_na ck') cv' = yr_g v d n ck' cv' agk agv agl := rfl
theorem yr_s3 {m : Nat} {k' l' : Nat → Nat} {v' : Nat → Int32} : ys_agenda_agKind_agVal_agLevel (yr_g v rd n ck cv agk agv agl) (nI m) (sv_na k') v' (sv_na l') = yr_g v rd m ck cv k' v' l' := rfl
theorem yr_s4 {m : Nat} : ys_agenda (yr_g v rd n ck cv agk agv agl) (nI m) = yr_g v rd m ck cv agk agv agl := rfl
theorem ry_put {post : Int32 → SY → Prop} {k : Nat} {x : Int32} (m1 : yq_maxCells v = nI mc) (hm : mc ≤ 16) (hr : rd ≤ mc) (h4 : rd = mc → post 4 (yr_g v rd n ck cv agk agv agl)) (h0 : rd ≠ mc → post 1 (yr_g v (rd + 1) n (sv_un ck rd k) (upd cv rd x) agk agv agl)) : wpY_put post (yr_g v rd n ck cv agk agv agl) (nI k) x := by
  rw [we_Y_put, yr_g_copyDepth, yr_g_maxCells, yr_g_copyKind, yr_g_copyVal, m1]
  refine pk_eq rd mc h4 (fun e => ?_) rfl rfl (by omega) (by omega)
  have hi : vp_in (nI rd) 16 := vp_in_nI (by omega) (by omega)
  rw [sv_naU (by omega), nI_clamp (show rd < 2 ^ 31 by omega)]
  refine ⟨hi, nm_e (nm_r (nI_1 rd) ⟨hi, nm_e ?_⟩)⟩
  rw [yr_s2]; exact h0 e
theorem ry_later {post : SY → Prop} {k l : Nat} {x : Int32} (hn : n < 1100) (h : post (yr_g v rd (n + 1) ck cv (sv_un agk n k) (upd agv n x) (sv_un agl n l))) : wpY_later post (yr_g v rd n ck cv agk agv agl) (nI k) x (nI l) := by
  rw [we_Y_later, yr_g_agenda, yr_g_agKind, yr_g_agVal, yr_g_agLevel, sv_naU (by omega), sv_naU (by omega), nI_clamp (show n < 2 ^ 31 by omega)]
  have hi : vp_in (nI n) 1100 := vp_in_nI hn (by omega)
  refine ⟨hi, nm_e ⟨hi, nm_e (nm_r (nI_1 n) ⟨hi, nm_e ?_⟩)⟩⟩
  rw [yr_s3]; exact h
theorem ry_bl {p l : Nat} (hK : yq_kinds v = sv_na kd) : ∀ r n agk agv agl, p + r ≤ 256 → n + r ≤ 1100 → (∀ j, p ≤ j → j < p + r → kd j ≤ 13) → (∀ j, p ≤ j → j < p + r → bs_S kd p ≤ bs_S kd j) → ∃ n' k' v' l', ag_L k' v' l' n' = it_L kd p l p r ++ ag_L agk agv agl n ∧ ∀ post : Int32 → SY → Prop, post 1 (yr_g v rd n' ck cv k' v' l') → lqY_body_5 post (nI p) (nI l) (r + 1) (nI (p + r) - 1) (yr_g v rd n ck cv agk agv agl) := by
  intro r
  induction r with
  | zero =>
    intro n agk agv agl hb hn hk hS
    refine ⟨n, agk, agv, agl, rfl, fun post h => ?_⟩
    rw [lqY_body_5_s]
    exact br_t (sv_lt_m1 (by omega)) h
  | succ r ih =>
    intro n agk agv agl hb hn hk hS
    have sn := it_snoc (kd := kd) (b := p) (lv := l) r p
    have K' : yq_kinds (yr_g v rd n ck cv agk agv agl) = sv_na kd := hK
    by_cases e : bs_S kd (p + r) = bs_S kd p
    · obtain ⟨n', k', v', l', e1, g⟩ := ih (n + 1) (sv_un agk n 0) (upd agv n (nI (p + r))) (sv_un agl n l) (by omega) (by omega) (fun j j1 j2 => hk j j1 (by omega)) (fun j j1 j2 => hS j j1 (by omega))
      rw [if_pos e] at sn
      refine ⟨n', k', v', l', by rw [e1, ag_push, sn, List.append_assoc]; rfl, fun post h => ?_⟩
      rw [lqY_body_5_s, show p + (r + 1) = (p + r) + 1 by omega, nI_pred]
      refine br_f (nI_nlt (by omega) (by omega)) ?_
      refine yb_bal K' (by omega) (by omega) (fun j j1 j2 => hk j j1 (by omega)) (fun j j1 j2 => hS j j1 (by omega)) (fun m em hm => ?_)
      refine pk_eq m 0 (fun z => ?_) (fun z => absurd (show m = 0 by omega) z) rfl rfl (by omega) (by omega)
      refine ry_later (k := 0) (by omega) ?_
      rw [sv_m1]
      exact nm_e (g post h)
    · obtain ⟨n', k', v', l', e1, g⟩ := ih n agk agv agl (by omega) (by omega) (fun j j1 j2 => hk j j1 (by omega)) (fun j j1 j2 => hS j j1 (by omega))
      rw [if_neg e, List.append_nil] at sn
      refine ⟨n', k', v', l', by rw [e1, sn], fun post h => ?_⟩
      rw [lqY_body_5_s, show p + (r + 1) = (p + r) + 1 by omega, nI_pred]
      refine br_f (nI_nlt (by omega) (by omega)) ?_
      refine yb_bal K' (by omega) (by omega) (fun j j1 j2 => hk j j1 (by omega)) (fun j j1 j2 => hS j j1 (by omega)) (fun m em hm => ?_)
      refine pk_eq m 0 (fun z => absurd (show bs_S kd (p + r) = bs_S kd p by omega) e) (fun z => ?_) rfl rfl (by omega) (by omega)
      rw [sv_m1]
      exact nm_e (g post h)
theorem ry_body (rd n : Nat) (ck : Nat → Nat) (cv : Nat → Int32) (agk : Nat → Nat) (agv : Nat → Int32) (agl : Nat → Nat) (l : Nat) {p e : Nat} (A : rl_A ot cnt kd mt ln wt tx os ag fw) (hK : yq_kinds v = sv_na kd) (F : fr_ok kd ln cnt p e) (hn : n ≤ 1056) : ∃ n' k' v' l', ag_L k' v' l' n' = it_L kd p l p (e - p) ++ ag_L agk agv agl n ∧ ∀ post : Int32 → SY → Prop, post 1 (yr_g v rd n' ck cv k' v' l') → wpY_body post (yr_g v rd n ck cv agk agv agl) (nI p) (nI e) (nI l) := by
  obtain ⟨w, w1, w2, w3, w4, w5, w6⟩ := F
  have hcn := A.1.1
  have lnw := (wd_ln A.1 w1).2
  obtain ⟨n', k', v', l', e1, g⟩ := ry_bl (v := v) (rd := rd) (ck := ck) (cv := cv) (p := p) (l := l) hK (e - p) n agk agv agl (by omega) (by omega) (fun j j1 j2 => by
    have := ((A.1.2 w w1).2.2.2 (j - 32 * w) (by omega)).2.1
    rw [show 32 * w + (j - 32 * w) = j by omega] at this; exact this) (fun j j1 j2 => w6 j j1 (by omega))
  refine ⟨n', k', v', l', e1, fun post h => ?_⟩
  rw [we_Y_body]
  refine nm_e ⟨e - p + 1, ?_⟩
  have := g post h
  rw [show p + (e - p) = e by omega] at this
  exact this
end
end
section
/-! printed by gen/runk.py: one item of a run, kind by kind -/
section
variable {c : SX} {v : SY} {mw mc ml mf ot cnt cc : Nat} {kd mt ln wt tx os ck0 : Nat → Nat} {ag cv0 : Nat → Int32} {fw : Nat → List Nat}
variable {rd lv sp : Nat} {rk fp fe sk : Nat → Nat} {rv sv : Nat → Int32} {n : Nat} {ck agk agl : Nat → Nat} {cv agv : Nat → Int32} {p nx : Nat}
/-- what an item may do: fail; change the stack; enter a body -/
def rn_O (c : SX) (v : SY) (kd ln : Nat → Nat) (cnt mc ml rd lv sp : Nat) (rk : Nat → Nat) (rv : Nat → Int32) (fp fe sk : Nat → Nat) (sv : Nat → Int32) (n : Nat) (ck : Nat → Nat) (cv : Nat → Int32) (agk : Nat → Nat) (agv : Nat → Int32) (agl : Nat → Nat) (p nx : Nat) : Prop :=
  (∃ r, 2 ≤ r ∧ r < 8 ∧ (∀ post : Int32 → SX → Prop, (∀ d l s a b e f g h, post (nI r) (xr_g c d l s a b e f g h)) → pqX_runItem_65 post (nI p) (nI nx) (nI lv) (xr_g c rd lv sp rk rv fp fe sk sv)) ∧ (∀ post : Int32 → SY → Prop, (∀ d m a b e f g, post (nI r) (yr_g v d m a b e f g)) → wpY_item post (yr_g v rd n ck cv agk agv agl) (nI p) (nI lv))) ∨
  (∃ d K V K' V', d ≤ mc ∧ rl_c kd ln K V cnt d ∧ (∀ i, i < d → K' i = K i ∧ V' i = V i) ∧ (∀ post : Int32 → SX → Prop, post 0 (xr_g c d lv sp K V (sv_un fp lv nx) fe sk sv) → pqX_runItem_65 post (nI p) (nI nx) (nI lv) (xr_g c rd lv sp rk rv fp fe sk sv)) ∧ (∀ post : Int32 → SY → Prop, post 1 (yr_g v d n K' V' agk agv agl) → wpY_item post (yr_g v rd n ck cv agk agv agl) (nI p) (nI lv))) ∨
  (∃ d a b s x, lv < ml ∧ d ≤ rd ∧ fr_ok kd ln cnt a b ∧ (s = 0 ∨ s = 1 ∨ (s = 2 ∧ rl_q kd ln cnt x)) ∧ (∀ post : Int32 → SX → Prop, (∀ sv', (s ≠ 0 → sv' = upd sv (lv + 1) x) → (s = 0 → sv' = sv) → post 0 (xr_g c d (lv + 1) sp rk rv (sv_un (sv_un fp lv nx) (lv + 1) a) (sv_un fe (lv + 1) b) (sv_un sk (lv + 1) s) sv')) → pqX_runItem_65 post (nI p) (nI nx) (nI lv) (xr_g c rd lv sp rk rv fp fe sk sv)) ∧ (∃ n' k' v' l', ag_L k' v' l' n' = it_L kd a (lv + 1) a (b - a) ++ ((if s = 0 then [] else [(s, x, lv)]) ++ ag_L agk agv agl n) ∧ ∀ post : Int32 → SY → Prop, post 1 (yr_g v d n' ck cv k' v' l') → wpY_item post (yr_g v rd n ck cv agk agv agl) (nI p) (nI lv)))
def rn_h (lv ml n : Nat) : Prop := lv < ml → n ≤ 1023
theorem sv_un2 {f : Nat → Nat} {k a b : Nat} : sv_un (sv_un f k a) k b = sv_un f k b := by
  funext j
  by_cases e : j = k
  · rw [e, sv_us, sv_us]
  · rw [sv_uo e, sv_uo e, sv_uo e]
theorem rl_c_push {K : Nat → Nat} {V : Nat → Int32} {d k : Nat} {x : Int32} (h : rl_c kd ln K V cnt d) (hx : k = 1 ∨ (k = 2 ∧ rl_q kd ln cnt x)) : rl_c kd ln (sv_un K d k) (upd V d x) cnt (d + 1) := fun i hi => by
  by_cases e : i = d
  · rw [e, sv_us, pk_us]; exact hx
  · rw [sv_uo e, pk_un e]; exact h i (by omega)
theorem ag_push2 {K K' : Nat → Nat} {V V' : Nat → Int32} {d k : Nat} {x : Int32} (h : ∀ i, i < d → K' i = K i ∧ V' i = V i) : ∀ i, i < d + 1 → sv_un K' d k i = sv_un K d k i ∧ upd V' d x i = upd V d x i := fun i hi => by
  by_cases e : i = d
  · rw [e, sv_us, sv_us, pk_us, pk_us]; exact ⟨rfl, rfl⟩
  · rw [sv_uo e, sv_uo e, pk_un e, pk_un e]; exact h i (by omega)
theorem rn_1 (B : mc ≤ 16 ∧ ml ≤ 32) (hX : rl_X mw mc ml mf ot cnt cc kd mt ln wt tx os ck0 ag cv0 c) (hY : rl_Y mw mc ml mf cnt cc kd ln ck0 ag cv0 v) (A : rl_A ot cnt kd mt ln wt tx os ag fw) (hr : rd ≤ mc) (hl : lv ≤ ml) (hc : rl_c kd ln rk rv cnt rd) (hag : ∀ i, i < rd → ck i = rk i ∧ cv i = rv i) (hn : rn_h lv ml n) (hp : p < 256) (hnx : nx ≤ 256) (hk : kd p = 1) : rn_O c v kd ln cnt mc ml rd lv sp rk rv fp fe sk sv n ck cv agk agv agl p nx := by
  have x2 := hX.2.1
  have x3 := hX.2.2.1
  have x8 := hX.2.2.2.2.2.2.2.1
  have x9 := hX.2.2.2.2.2.2.2.2.1
  have x10 := hX.2.2.2.2.2.2.2.2.2.1
  have x11 := hX.2.2.2.2.2.2.2.2.2.2.1
  have y2 := hY.2.1
  have y3 := hY.2.2.1
  have y7 := hY.2.2.2.2.2.2.1
  have y8 := hY.2.2.2.2.2.2.2.1
  have y9 := hY.2.2.2.2.2.2.2.2.1
  have hcn := A.1.1
  have hb : vp_in (nI p) 256 := vp_in_nI hp (by omega)
  have toX : ∀ post : Int32 → SX → Prop, (vp_in (nI p) 256 ∧ wpX_runPush (fun r u => post r u) (xr_g c rd lv sp rk rv (sv_un fp lv nx) fe sk sv) 1 (ag p)) → pqX_runItem_65 post (nI p) (nI nx) (nI lv) (xr_g c rd lv sp rk rv fp fe sk sv) := by
    intro post h
    rw [pqX_runItem_65_e, xr_g_framePos, xr_g_tokKind, xr_g_tokArg, x8, x9, sv_naU (by omega)]
    refine ⟨vp_in_nI (by omega) (by omega), nm_e ⟨hb, ?_⟩⟩
    rw [sv_naA (by omega), hk, nI_clamp (show p < 2 ^ 31 by omega), xr_s4]
    refine nm_e ?_
    exact br_f (by decide) (br_f (by decide) (br_t rfl h))
  have toY : ∀ post : Int32 → SY → Prop, (wpY_put (fun r u => post r u) (yr_g v rd n ck cv agk agv agl) 1 (ag p)) → wpY_item post (yr_g v rd n ck cv agk agv agl) (nI p) (nI lv) := by
    intro post h
    rw [we_Y_item, yr_g_kinds, yr_g_args, yr_g_copyDepth, y7, y8, sv_naA (by omega), hk, nI_clamp (show p < 2 ^ 31 by omega)]
    refine ⟨hb, nm_e ⟨hb, nm_e ?_⟩⟩
    refine br_f (by decide) (br_f (by decide) (br_f (by decide) (br_f (by decide) (?_))))
    rw [pqY_item_53_e]
    exact br_t rfl h
  by_cases e : rd = mc
  · exact Or.inl ⟨4, by omega, by omega, fun post h => toX post ⟨hb, (rx_push (k := 1) x2 B.1 hr (fun _ => h _ _ _ _ _ _ _ _ _) (fun z => absurd e z))⟩, fun post h => toY post (ry_put (k := 1) y2 B.1 hr (fun _ => h _ _ _ _ _ _ _) (fun z => absurd e z))⟩
  · exact Or.inr (Or.inl ⟨rd + 1, sv_un rk rd 1, upd rv rd (ag p), sv_un ck rd 1, upd cv rd (ag p), by omega, rl_c_push hc (Or.inl rfl), ag_push2 hag, fun post h => toX post ⟨hb, (rx_push (k := 1) x2 B.1 hr (fun z => absurd z e) (fun _ => h))⟩, fun post h => toY post (ry_put (k := 1) y2 B.1 hr (fun z => absurd z e) (fun _ => h))⟩)
theorem rn_3 (B : mc ≤ 16 ∧ ml ≤ 32) (hX : rl_X mw mc ml mf ot cnt cc kd mt ln wt tx os ck0 ag cv0 c) (hY : rl_Y mw mc ml mf cnt cc kd ln ck0 ag cv0 v) (A : rl_A ot cnt kd mt ln wt tx os ag fw) (hr : rd ≤ mc) (hl : lv ≤ ml) (hc : rl_c kd ln rk rv cnt rd) (hag : ∀ i, i < rd → ck i = rk i ∧ cv i = rv i) (hn : rn_h lv ml n) (hp : p < 256) (hnx : nx ≤ 256) (hk : kd p = 3) (hq : rl_q kd ln cnt (nI p)) : rn_O c v kd ln cnt mc ml rd lv sp rk rv fp fe sk sv n ck cv agk agv agl p nx := by
  have x2 := hX.2.1
  have x3 := hX.2.2.1
  have x8 := hX.2.2.2.2.2.2.2.1
  have x9 := hX.2.2.2.2.2.2.2.2.1
  have x10 := hX.2.2.2.2.2.2.2.2.2.1
  have x11 := hX.2.2.2.2.2.2.2.2.2.2.1
  have y2 := hY.2.1
  have y3 := hY.2.2.1
  have y7 := hY.2.2.2.2.2.2.1
  have y8 := hY.2.2.2.2.2.2.2.1
  have y9 := hY.2.2.2.2.2.2.2.2.1
  have hcn := A.1.1
  have hb : vp_in (nI p) 256 := vp_in_nI hp (by omega)
  have toX : ∀ post : Int32 → SX → Prop, (wpX_runPush (fun r u => post r u) (xr_g c rd lv sp rk rv (sv_un fp lv nx) fe sk sv) 2 (nI p)) → pqX_runItem_65 post (nI p) (nI nx) (nI lv) (xr_g c rd lv sp rk rv fp fe sk sv) := by
    intro post h
    rw [pqX_runItem_65_e, xr_g_framePos, xr_g_tokKind, xr_g_tokArg, x8, x9, sv_naU (by omega)]
    refine ⟨vp_in_nI (by omega) (by omega), nm_e ⟨hb, ?_⟩⟩
    rw [sv_naA (by omega), hk, nI_clamp (show p < 2 ^ 31 by omega), xr_s4]
    refine nm_e ?_
    exact br_f (by decide) (br_f (by decide) (br_f (by decide) (br_f (by decide) (br_t rfl h))))
  have toY : ∀ post : Int32 → SY → Prop, (wpY_put (fun r u => post r u) (yr_g v rd n ck cv agk agv agl) 2 (nI p)) → wpY_item post (yr_g v rd n ck cv agk agv agl) (nI p) (nI lv) := by
    intro post h
    rw [we_Y_item, yr_g_kinds, yr_g_args, yr_g_copyDepth, y7, y8, sv_naA (by omega), hk, nI_clamp (show p < 2 ^ 31 by omega)]
    refine ⟨hb, nm_e ⟨hb, nm_e ?_⟩⟩
    refine br_f (by decide) (br_f (by decide) (br_f (by decide) (br_f (by decide) (?_))))
    rw [pqY_item_53_e]
    exact br_f (by decide) (br_t rfl h)
  by_cases e : rd = mc
  · exact Or.inl ⟨4, by omega, by omega, fun post h => toX post (rx_push (k := 2) x2 B.1 hr (fun _ => h _ _ _ _ _ _ _ _ _) (fun z => absurd e z)), fun post h => toY post (ry_put (k := 2) y2 B.1 hr (fun _ => h _ _ _ _ _ _ _) (fun z => absurd e z))⟩
  · exact Or.inr (Or.inl ⟨rd + 1, sv_un rk rd 2, upd rv rd (nI p), sv_un ck rd 2, upd cv rd (nI p), by omega, rl_c_push hc (Or.inr ⟨rfl, hq⟩), ag_push2 hag, fun post h => toX post (rx_push (k := 2) x2 B.1 hr (fun z => absurd z e) (fun _ => h)), fun post h => toY post (ry_put (k := 2) y2 B.1 hr (fun z => absurd z e) (fun _ => h))⟩)
theorem rn_2 (B : mc ≤ 16 ∧ ml ≤ 32) (hX : rl_X mw mc ml mf ot cnt cc kd mt ln wt tx os ck0 ag cv0 c) (hY : rl_Y mw mc ml mf cnt cc kd ln ck0 ag cv0 v) (A : rl_A ot cnt kd mt ln wt tx os ag fw) (hr : rd ≤ mc) (hl : lv ≤ ml) (hc : rl_c kd ln rk rv cnt rd) (hag : ∀ i, i < rd → ck i = rk i ∧ cv i = rv i) (hn : rn_h lv ml n) (hp : p < 256) (hnx : nx ≤ 256) (hk : kd p = 2) (hv : rl_v cnt (ag p)) : rn_O c v kd ln cnt mc ml rd lv sp rk rv fp fe sk sv n ck cv agk agv agl p nx := by
  have x2 := hX.2.1
  have x3 := hX.2.2.1
  have x8 := hX.2.2.2.2.2.2.2.1
  have x9 := hX.2.2.2.2.2.2.2.2.1
  have x10 := hX.2.2.2.2.2.2.2.2.2.1
  have x11 := hX.2.2.2.2.2.2.2.2.2.2.1
  have y2 := hY.2.1
  have y3 := hY.2.2.1
  have y7 := hY.2.2.2.2.2.2.1
  have y8 := hY.2.2.2.2.2.2.2.1
  have y9 := hY.2.2.2.2.2.2.2.2.1
  have hcn := A.1.1
  have hb : vp_in (nI p) 256 := vp_in_nI hp (by omega)
  have toX : ∀ post : Int32 → SX → Prop, (vp_in (nI p) 256 ∧ wpX_runCall (fun r u => post r u) (xr_g c rd lv sp rk rv (sv_un fp lv nx) fe sk sv) (ag p)) → pqX_runItem_65 post (nI p) (nI nx) (nI lv) (xr_g c rd lv sp rk rv fp fe sk sv) := by
    intro post h
    rw [pqX_runItem_65_e, xr_g_framePos, xr_g_tokKind, xr_g_tokArg, x8, x9, sv_naU (by omega)]
    refine ⟨vp_in_nI (by omega) (by omega), nm_e ⟨hb, ?_⟩⟩
    rw [sv_naA (by omega), hk, nI_clamp (show p < 2 ^ 31 by omega), xr_s4]
    refine nm_e ?_
    exact br_f (by decide) (br_f (by decide) (br_f (by decide) (br_t rfl h)))
  have toY : ∀ post : Int32 → SY → Prop, ((nI lv = nI ml → post 3 (yr_g v rd n ck cv agk agv agl)) ∧ (¬ nI lv = nI ml → (vp_in (ag p) 8 ∧ wpY_body (fun r u => post r u) (yr_g v rd n ck cv agk agv agl) (32 * ag p) (32 * ag p + sv_na ln (ag p).toNatClampNeg) (nI lv + 1)))) → wpY_item post (yr_g v rd n ck cv agk agv agl) (nI p) (nI lv) := by
    intro post h
    rw [we_Y_item, yr_g_kinds, yr_g_args, yr_g_copyDepth, y7, y8, sv_naA (by omega), hk, nI_clamp (show p < 2 ^ 31 by omega)]
    refine ⟨hb, nm_e ⟨hb, nm_e ?_⟩⟩
    refine br_f (by decide) (br_f (by decide) (br_f (by decide) (br_f (by decide) (?_))))
    rw [pqY_item_53_e]
    rw [yr_g_maxLevels, yr_g_size, y3, y9]
    exact br_f (by decide) (br_f (by decide) (br_t rfl h))
  obtain ⟨w, w1, w2⟩ := hv
  have lnw := (wd_ln A.1 w1).2
  have hb8 : vp_in (nI w) 8 := vp_in_nI (by omega) (by omega)
  rw [w2] at toX toY
  have q1 : (32 : Int32) * nI w = nI (32 * w) := pk_mul 32 w
  have q2 : nI (32 * w) + sv_na ln (nI w).toNatClampNeg = nI (32 * w + ln w) := by rw [sv_naA (by omega), nI_add]
  by_cases e : lv = ml
  · refine Or.inl ⟨3, by omega, by omega, fun post h => toX post ⟨hb, ?_⟩, fun post h => toY post (br_t (by rw [e]) (h _ _ _ _ _ _ _))⟩
    rw [we_X_runCall, xr_g_level, xr_g_maxLevels, x3]
    exact br_t (by rw [e]) (h _ _ _ _ _ _ _ _ _)
  · have ne : ¬ nI lv = nI ml := by rw [nI_eq (by omega) (by omega)]; exact e
    have hn' := hn (by omega)
    obtain ⟨n', k', v', l', e1, gb⟩ := ry_body rd n ck cv agk agv agl (lv + 1) A y7 (fr_word A w1) (by omega)
    refine Or.inr (Or.inr ⟨rd, 32 * w, 32 * w + ln w, 0, 0, by omega, Nat.le_refl _, fr_word A w1, Or.inl rfl, fun post h => toX post ⟨hb, ?_⟩, n', k', v', l', e1, fun post h => toY post (br_f ne ⟨hb8, ?_⟩)⟩)
    · rw [we_X_runCall, xr_g_level, xr_g_maxLevels, xr_g_length, x3, x11, q1, q2]
      exact br_f ne ⟨hb8, rx_enter (by omega) (h sv (fun z => absurd rfl z) (fun _ => rfl))⟩
    · rw [q1, q2, nI_1]
      exact gb _ h
theorem rn_5 (B : mc ≤ 16 ∧ ml ≤ 32) (hX : rl_X mw mc ml mf ot cnt cc kd mt ln wt tx os ck0 ag cv0 c) (hY : rl_Y mw mc ml mf cnt cc kd ln ck0 ag cv0 v) (A : rl_A ot cnt kd mt ln wt tx os ag fw) (hr : rd ≤ mc) (hl : lv ≤ ml) (hc : rl_c kd ln rk rv cnt rd) (hag : ∀ i, i < rd → ck i = rk i ∧ cv i = rv i) (hn : rn_h lv ml n) (hp : p < 256) (hnx : nx ≤ 256) (hk : kd p = 5) : rn_O c v kd ln cnt mc ml rd lv sp rk rv fp fe sk sv n ck cv agk agv agl p nx := by
  have x2 := hX.2.1
  have x3 := hX.2.2.1
  have x8 := hX.2.2.2.2.2.2.2.1
  have x9 := hX.2.2.2.2.2.2.2.2.1
  have x10 := hX.2.2.2.2.2.2.2.2.2.1
  have x11 := hX.2.2.2.2.2.2.2.2.2.2.1
  have y2 := hY.2.1
  have y3 := hY.2.2.1
  have y7 := hY.2.2.2.2.2.2.1
  have y8 := hY.2.2.2.2.2.2.2.1
  have y9 := hY.2.2.2.2.2.2.2.2.1
  have hcn := A.1.1
  have hb : vp_in (nI p) 256 := vp_in_nI hp (by omega)
  have toX : ∀ post : Int32 → SX → Prop, (wpX_runDup (fun r u => post r u) (xr_g c rd lv sp rk rv (sv_un fp lv nx) fe sk sv)) → pqX_runItem_65 post (nI p) (nI nx) (nI lv) (xr_g c rd lv sp rk rv fp fe sk sv) := by
    intro post h
    rw [pqX_runItem_65_e, xr_g_framePos, xr_g_tokKind, xr_g_tokArg, x8, x9, sv_naU (by omega)]
    refine ⟨vp_in_nI (by omega) (by omega), nm_e ⟨hb, ?_⟩⟩
    rw [sv_naA (by omega), hk, nI_clamp (show p < 2 ^ 31 by omega), xr_s4]
    refine nm_e ?_
    exact br_f (by decide) (br_f (by decide) (br_f (by decide) (br_f (by decide) (br_f (by decide) (br_f (by decide) (br_t rfl h))))))
  have toY : ∀ post : Int32 → SY → Prop, ((rd < 1 → post 5 (yr_g v rd n ck cv agk agv agl)) ∧ (1 ≤ rd → pqY_item_194 post (nI lv) (nI 5) (nI rd) (nI 1) (cv (rd - 1)) (nI (ck (rd - 1))) 0 0 (yr_g v rd n ck cv agk agv agl))) → wpY_item post (yr_g v rd n ck cv agk agv agl) (nI p) (nI lv) := by
    intro post h
    rw [we_Y_item, yr_g_kinds, yr_g_args, yr_g_copyDepth, y7, y8, sv_naA (by omega), hk, nI_clamp (show p < 2 ^ 31 by omega)]
    refine ⟨hb, nm_e ⟨hb, nm_e ?_⟩⟩
    refine br_f (by decide) (br_t rfl ?_)
    rw [pqY_item_48_e]
    rw [pqY_item_53_e]
    refine br_f (by decide) (br_f (by decide) (br_f (by decide) (pk_le 1 rd (fun hle => ?_) (fun hgt => h.1 (by omega)) rfl rfl (by omega) (by omega))))
    have e1 : nI rd - 1 = nI (rd - 1) := pk_sub (b := 1) (by omega)
    have i1 : vp_in (nI (rd - 1)) 16 := vp_in_nI (by omega) (by omega)
    rw [e1, yr_g_copyVal, yr_g_copyKind, sv_naA (by omega), nI_clamp (show rd - 1 < 2 ^ 31 by omega)]
    refine ⟨i1, nm_e ⟨i1, nm_e ?_⟩⟩
    refine br_t (by decide) ?_
    rw [pqY_item_173_e]
    exact br_t (by decide) (h.2 hle)
  by_cases e1 : rd < 1
  · refine Or.inl ⟨5, by omega, by omega, fun post h => toX post ?_, fun post h => toY post ⟨fun _ => h _ _ _ _ _ _ _, fun z => by omega⟩⟩
    rw [we_X_runDup, xr_g_runDepth]
    exact br_f (show ¬ nI 1 ≤ nI rd from nI_ge e1 (by omega)) (h _ _ _ _ _ _ _ _ _)
  · have ex : nI rd - 1 = nI (rd - 1) := pk_sub (b := 1) (by omega)
    have i1 : vp_in (nI (rd - 1)) 16 := vp_in_nI (by omega) (by omega)
    have c1 : (1 : Int32) ≤ nI rd := nI_le (a := 1) (by omega) (by omega)
    have goX : ∀ post : Int32 → SX → Prop, wpX_runPush (fun r u => post r u) (xr_g c rd lv sp rk rv (sv_un fp lv nx) fe sk sv) (nI (rk (rd - 1))) (rv (rd - 1)) → wpX_runDup (fun r u => post r u) (xr_g c rd lv sp rk rv (sv_un fp lv nx) fe sk sv) := by
      intro post h
      rw [we_X_runDup, xr_g_runDepth, xr_g_runKind, xr_g_runValue, ex, sv_naA (by omega), nI_clamp (show rd - 1 < 2 ^ 31 by omega)]
      exact br_t c1 ⟨i1, i1, h⟩
    obtain ⟨g1, g2⟩ := hag (rd - 1) (by omega)
    rw [g1, g2] at toY
    have goY : ∀ post : Int32 → SY → Prop, wpY_put (fun r u => post r u) (yr_g v rd n ck cv agk agv agl) (nI (rk (rd - 1))) (rv (rd - 1)) → wpY_item post (yr_g v rd n ck cv agk agv agl) (nI p) (nI lv) := by
      intro post h
      refine toY post ⟨fun z => by omega, fun _ => ?_⟩
      rw [pqY_item_194_e]
      exact br_t rfl h
    by_cases e : rd = mc
    · exact Or.inl ⟨4, by omega, by omega, fun post h => toX post (goX post (rx_push x2 B.1 hr (fun _ => h _ _ _ _ _ _ _ _ _) (fun z => absurd e z))), fun post h => goY post (ry_put y2 B.1 hr (fun _ => h _ _ _ _ _ _ _) (fun z => absurd e z))⟩
    · exact Or.inr (Or.inl ⟨rd + 1, sv_un rk rd (rk (rd - 1)), upd rv rd (rv (rd - 1)), sv_un ck rd (rk (rd - 1)), upd cv rd (rv (rd - 1)), by omega, rl_c_push hc (hc (rd - 1) (by omega)), ag_push2 hag, fun post h => toX post (goX post (rx_push x2 B.1 hr (fun z => absurd z e) (fun _ => h))), fun post h => goY post (ry_put y2 B.1 hr (fun z => absurd z e) (fun _ => h))⟩)
theorem rn_6 (B : mc ≤ 16 ∧ ml ≤ 32) (hX : rl_X mw mc ml mf ot cnt cc kd mt ln wt tx os ck0 ag cv0 c) (hY : rl_Y mw mc ml mf cnt cc kd ln ck0 ag cv0 v) (A : rl_A ot cnt kd mt ln wt tx os ag fw) (hr : rd ≤ mc) (hl : lv ≤ ml) (hc : rl_c kd ln rk rv cnt rd) (hag : ∀ i, i < rd → ck i = rk i ∧ cv i = rv i) (hn : rn_h lv ml n) (hp : p < 256) (hnx : nx ≤ 256) (hk : kd p = 6) : rn_O c v kd ln cnt mc ml rd lv sp rk rv fp fe sk sv n ck cv agk agv agl p nx := by
  have x2 := hX.2.1
  have x3 := hX.2.2.1
  have x8 := hX.2.2.2.2.2.2.2.1
  have x9 := hX.2.2.2.2.2.2.2.2.1
  have x10 := hX.2.2.2.2.2.2.2.2.2.1
  have x11 := hX.2.2.2.2.2.2.2.2.2.2.1
  have y2 := hY.2.1
  have y3 := hY.2.2.1
  have y7 := hY.2.2.2.2.2.2.1
  have y8 := hY.2.2.2.2.2.2.2.1
  have y9 := hY.2.2.2.2.2.2.2.2.1
  have hcn := A.1.1
  have hb : vp_in (nI p) 256 := vp_in_nI hp (by omega)
  have toX : ∀ post : Int32 → SX → Prop, (wpX_runDrop (fun r u => post r u) (xr_g c rd lv sp rk rv (sv_un fp lv nx) fe sk sv)) → pqX_runItem_65 post (nI p) (nI nx) (nI lv) (xr_g c rd lv sp rk rv fp fe sk sv) := by
    intro post h
    rw [pqX_runItem_65_e, xr_g_framePos, xr_g_tokKind, xr_g_tokArg, x8, x9, sv_naU (by omega)]
    refine ⟨vp_in_nI (by omega) (by omega), nm_e ⟨hb, ?_⟩⟩
    rw [sv_naA (by omega), hk, nI_clamp (show p < 2 ^ 31 by omega), xr_s4]
    refine nm_e ?_
    exact br_f (by decide) (br_f (by decide) (br_f (by decide) (br_f (by decide) (br_f (by decide) (br_f (by decide) (br_f (by decide) (br_t rfl h)))))))
  have toY : ∀ post : Int32 → SY → Prop, ((rd < 1 → post 5 (yr_g v rd n ck cv agk agv agl)) ∧ (1 ≤ rd → pqY_item_194 post (nI lv) (nI 6) (nI rd) (nI 1) (cv (rd - 1)) (nI (ck (rd - 1))) 0 0 (yr_g v rd n ck cv agk agv agl))) → wpY_item post (yr_g v rd n ck cv agk agv agl) (nI p) (nI lv) := by
    intro post h
    rw [we_Y_item, yr_g_kinds, yr_g_args, yr_g_copyDepth, y7, y8, sv_naA (by omega), hk, nI_clamp (show p < 2 ^ 31 by omega)]
    refine ⟨hb, nm_e ⟨hb, nm_e ?_⟩⟩
    refine br_f (by decide) (br_f (by decide) (br_t rfl ?_))
    rw [pqY_item_48_e]
    rw [pqY_item_53_e]
    refine br_f (by decide) (br_f (by decide) (br_f (by decide) (pk_le 1 rd (fun hle => ?_) (fun hgt => h.1 (by omega)) rfl rfl (by omega) (by omega))))
    have e1 : nI rd - 1 = nI (rd - 1) := pk_sub (b := 1) (by omega)
    have i1 : vp_in (nI (rd - 1)) 16 := vp_in_nI (by omega) (by omega)
    rw [e1, yr_g_copyVal, yr_g_copyKind, sv_naA (by omega), nI_clamp (show rd - 1 < 2 ^ 31 by omega)]
    refine ⟨i1, nm_e ⟨i1, nm_e ?_⟩⟩
    refine br_t (by decide) ?_
    rw [pqY_item_173_e]
    exact br_t (by decide) (h.2 hle)
  by_cases e1 : rd < 1
  · refine Or.inl ⟨5, by omega, by omega, fun post h => toX post ?_, fun post h => toY post ⟨fun _ => h _ _ _ _ _ _ _, fun z => by omega⟩⟩
    rw [we_X_runDrop, xr_g_runDepth]
    exact br_f (show ¬ nI 1 ≤ nI rd from nI_ge e1 (by omega)) (h _ _ _ _ _ _ _ _ _)
  · refine Or.inr (Or.inl ⟨rd - 1, rk, rv, ck, cv, by omega, fun i hi => hc i (by omega), fun i hi => hag i (by omega), fun post h => toX post ?_, fun post h => toY post ⟨fun z => by omega, fun _ => ?_⟩⟩)
    · rw [we_X_runDrop, xr_g_runDepth]
      refine br_t (nI_le (a := 1) (by omega) (by omega)) (nm_r (pk_sub (b := 1) (by omega)) ?_)
      rw [xr_s1]; exact h
    · rw [pqY_item_194_e, yr_g_copyDepth]
      refine br_f (by decide) (nm_r (pk_sub (b := 1) (by omega)) (br_t rfl ?_))
      rw [yr_s1]; exact h
theorem rn_7 (B : mc ≤ 16 ∧ ml ≤ 32) (hX : rl_X mw mc ml mf ot cnt cc kd mt ln wt tx os ck0 ag cv0 c) (hY : rl_Y mw mc ml mf cnt cc kd ln ck0 ag cv0 v) (A : rl_A ot cnt kd mt ln wt tx os ag fw) (hr : rd ≤ mc) (hl : lv ≤ ml) (hc : rl_c kd ln rk rv cnt rd) (hag : ∀ i, i < rd → ck i = rk i ∧ cv i = rv i) (hn : rn_h lv ml n) (hp : p < 256) (hnx : nx ≤ 256) (hk : kd p = 7) : rn_O c v kd ln cnt mc ml rd lv sp rk rv fp fe sk sv n ck cv agk agv agl p nx := by
  have x2 := hX.2.1
  have x3 := hX.2.2.1
  have x8 := hX.2.2.2.2.2.2.2.1
  have x9 := hX.2.2.2.2.2.2.2.2.1
  have x10 := hX.2.2.2.2.2.2.2.2.2.1
  have x11 := hX.2.2.2.2.2.2.2.2.2.2.1
  have y2 := hY.2.1
  have y3 := hY.2.2.1
  have y7 := hY.2.2.2.2.2.2.1
  have y8 := hY.2.2.2.2.2.2.2.1
  have y9 := hY.2.2.2.2.2.2.2.2.1
  have hcn := A.1.1
  have hb : vp_in (nI p) 256 := vp_in_nI hp (by omega)
  have toX : ∀ post : Int32 → SX → Prop, (wpX_runSwap (fun r u => post r u) (xr_g c rd lv sp rk rv (sv_un fp lv nx) fe sk sv)) → pqX_runItem_65 post (nI p) (nI nx) (nI lv) (xr_g c rd lv sp rk rv fp fe sk sv) := by
    intro post h
    rw [pqX_runItem_65_e, xr_g_framePos, xr_g_tokKind, xr_g_tokArg, x8, x9, sv_naU (by omega)]
    refine ⟨vp_in_nI (by omega) (by omega), nm_e ⟨hb, ?_⟩⟩
    rw [sv_naA (by omega), hk, nI_clamp (show p < 2 ^ 31 by omega), xr_s4]
    refine nm_e ?_
    exact br_f (by decide) (br_f (by decide) (br_f (by decide) (br_f (by decide) (br_f (by decide) (br_f (by decide) (br_f (by decide) (br_f (by decide) (br_t rfl h))))))))
  have toY : ∀ post : Int32 → SY → Prop, ((rd < 2 → post 5 (yr_g v rd n ck cv agk agv agl)) ∧ (2 ≤ rd → pqY_item_194 post (nI lv) (nI 7) (nI rd) (nI 2) (cv (rd - 1)) (nI (ck (rd - 1))) (cv (rd - 2)) (nI (ck (rd - 2))) (yr_g v rd n ck cv agk agv agl))) → wpY_item post (yr_g v rd n ck cv agk agv agl) (nI p) (nI lv) := by
    intro post h
    rw [we_Y_item, yr_g_kinds, yr_g_args, yr_g_copyDepth, y7, y8, sv_naA (by omega), hk, nI_clamp (show p < 2 ^ 31 by omega)]
    refine ⟨hb, nm_e ⟨hb, nm_e ?_⟩⟩
    refine br_f (by decide) (br_f (by decide) (br_f (by decide) (br_f (by decide) (?_))))
    rw [pqY_item_53_e]
    refine br_f (by decide) (br_f (by decide) (br_f (by decide) (pk_le 2 rd (fun hle => ?_) (fun hgt => h.1 (by omega)) rfl rfl (by omega) (by omega))))
    have e1 : nI rd - 1 = nI (rd - 1) := pk_sub (b := 1) (by omega)
    have e2 : nI rd - 2 = nI (rd - 2) := pk_sub (b := 2) (by omega)
    have i1 : vp_in (nI (rd - 1)) 16 := vp_in_nI (by omega) (by omega)
    rw [e1, yr_g_copyVal, yr_g_copyKind, sv_naA (by omega), nI_clamp (show rd - 1 < 2 ^ 31 by omega)]
    refine ⟨i1, nm_e ⟨i1, nm_e ?_⟩⟩
    have i2 : vp_in (nI (rd - 2)) 16 := vp_in_nI (by omega) (by omega)
    rw [e2, nI_clamp (show rd - 2 < 2 ^ 31 by omega)]
    refine br_f (by decide) ⟨i2, ?_⟩
    rw [pqY_item_173_e, yr_g_copyKind, e2, sv_naA (by omega)]
    exact br_f (by decide) ⟨i2, h.2 hle⟩
  by_cases e1 : rd < 2
  · refine Or.inl ⟨5, by omega, by omega, fun post h => toX post ?_, fun post h => toY post ⟨fun _ => h _ _ _ _ _ _ _, fun z => by omega⟩⟩
    rw [we_X_runSwap, xr_g_runDepth]
    exact br_f (show ¬ nI 2 ≤ nI rd from nI_ge e1 (by omega)) (h _ _ _ _ _ _ _ _ _)
  · have ex : nI rd - 1 = nI (rd - 1) := pk_sub (b := 1) (by omega)
    have ex2 : nI rd - 2 = nI (rd - 2) := pk_sub (b := 2) (by omega)
    have i1 : vp_in (nI (rd - 1)) 16 := vp_in_nI (by omega) (by omega)
    have i2 : vp_in (nI (rd - 2)) 16 := vp_in_nI (by omega) (by omega)
    obtain ⟨g1, g2⟩ := hag (rd - 1) (by omega)
    obtain ⟨g3, g4⟩ := hag (rd - 2) (by omega)
    rw [g1, g2, g3, g4] at toY
    refine Or.inr (Or.inl ⟨rd, sv_un (sv_un rk (rd - 1) (rk (rd - 2))) (rd - 2) (rk (rd - 1)), upd (upd rv (rd - 1) (rv (rd - 2))) (rd - 2) (rv (rd - 1)), sv_un (sv_un ck (rd - 2) (rk (rd - 1))) (rd - 1) (rk (rd - 2)), upd (upd cv (rd - 2) (rv (rd - 1))) (rd - 1) (rv (rd - 2)), hr, fun i hi => ?_, fun i hi => ?_, fun post h => toX post ?_, fun post h => toY post ⟨fun z => by omega, fun _ => ?_⟩⟩)
    · by_cases z : i = rd - 2
      · rw [z, sv_us, pk_us]; exact hc (rd - 1) (by omega)
      · rw [sv_uo z, pk_un z]
        by_cases z2 : i = rd - 1
        · rw [z2, sv_us, pk_us]; exact hc (rd - 2) (by omega)
        · rw [sv_uo z2, pk_un z2]; exact hc i hi
    · by_cases z : i = rd - 2
      · rw [z, sv_us, pk_us, sv_uo (by omega), pk_un (by omega), sv_us, pk_us]; exact ⟨rfl, rfl⟩
      · rw [sv_uo (k := rd - 2) z, pk_un (k := rd - 2) z]
        by_cases z2 : i = rd - 1
        · rw [z2, sv_us, pk_us, sv_us, pk_us]; exact ⟨rfl, rfl⟩
        · rw [sv_uo z2, pk_un z2, sv_uo z2, pk_un z2, sv_uo z, pk_un z]; exact hag i hi
    · rw [we_X_runSwap, xr_g_runDepth, xr_g_runKind, xr_g_runValue, ex, ex2]
      refine br_t (nI_le (a := 2) (by omega) (by omega)) (nm_e (nm_e ⟨i1, ?_⟩))
      rw [sv_naA (by omega), sv_naA (by omega), nI_clamp (show rd - 1 < 2 ^ 31 by omega), nI_clamp (show rd - 2 < 2 ^ 31 by omega), sv_naU0]
      refine nm_e ⟨i1, nm_e ⟨i2, i1, nm_e ⟨i2, i1, nm_e ⟨i2, ?_⟩⟩⟩⟩
      rw [sv_naU0]
      refine nm_e ⟨i2, nm_e ?_⟩
      rw [xr_s7]; exact h
    · rw [pqY_item_194_e, yr_g_copyDepth]
      refine br_f (by decide) (nm_r (pk_sub (b := 2) (by omega)) (br_f (by decide) (br_t rfl ?_)))
      rw [yr_s1]
      refine ry_put y2 B.1 (by omega) (fun z => by omega) (fun _ => ?_)
      rw [show rd - 2 + 1 = rd - 1 by omega]
      refine ry_put y2 B.1 (by omega) (fun z => by omega) (fun _ => ?_)
      rw [show rd - 1 + 1 = rd by omega]
      exact h
theorem rn_8 (B : mc ≤ 16 ∧ ml ≤ 32) (hX : rl_X mw mc ml mf ot cnt cc kd mt ln wt tx os ck0 ag cv0 c) (hY : rl_Y mw mc ml mf cnt cc kd ln ck0 ag cv0 v) (A : rl_A ot cnt kd mt ln wt tx os ag fw) (hr : rd ≤ mc) (hl : lv ≤ ml) (hc : rl_c kd ln rk rv cnt rd) (hag : ∀ i, i < rd → ck i = rk i ∧ cv i = rv i) (hn : rn_h lv ml n) (hp : p < 256) (hnx : nx ≤ 256) (hk : kd p = 8) : rn_O c v kd ln cnt mc ml rd lv sp rk rv fp fe sk sv n ck cv agk agv agl p nx := by
  have x2 := hX.2.1
  have x3 := hX.2.2.1
  have x8 := hX.2.2.2.2.2.2.2.1
  have x9 := hX.2.2.2.2.2.2.2.2.1
  have x10 := hX.2.2.2.2.2.2.2.2.2.1
  have x11 := hX.2.2.2.2.2.2.2.2.2.2.1
  have y2 := hY.2.1
  have y3 := hY.2.2.1
  have y7 := hY.2.2.2.2.2.2.1
  have y8 := hY.2.2.2.2.2.2.2.1
  have y9 := hY.2.2.2.2.2.2.2.2.1
  have hcn := A.1.1
  have hb : vp_in (nI p) 256 := vp_in_nI hp (by omega)
  have toX : ∀ post : Int32 → SX → Prop, (wpX_runArithmetic (fun r u => post r u) (xr_g c rd lv sp rk rv (sv_un fp lv nx) fe sk sv) (nI 8)) → pqX_runItem_65 post (nI p) (nI nx) (nI lv) (xr_g c rd lv sp rk rv fp fe sk sv) := by
    intro post h
    rw [pqX_runItem_65_e, xr_g_framePos, xr_g_tokKind, xr_g_tokArg, x8, x9, sv_naU (by omega)]
    refine ⟨vp_in_nI (by omega) (by omega), nm_e ⟨hb, ?_⟩⟩
    rw [sv_naA (by omega), hk, nI_clamp (show p < 2 ^ 31 by omega), xr_s4]
    refine nm_e ?_
    refine br_f (by decide) (br_f (by decide) (br_f (by decide) (br_f (by decide) (br_f (by decide) (br_f (by decide) (br_f (by decide) (br_f (by decide) (br_f (by decide) (br_t rfl ?_)))))))))
    rw [pqX_runItem_200_e, xr_g_tokKind, x8, sv_naA (by omega), hk]
    exact ⟨hb, h⟩
  have toY : ∀ post : Int32 → SY → Prop, ((rd < 2 → post 5 (yr_g v rd n ck cv agk agv agl)) ∧ (2 ≤ rd → pqY_item_194 post (nI lv) (nI 8) (nI rd) (nI 2) (cv (rd - 1)) (nI (ck (rd - 1))) (cv (rd - 2)) (nI (ck (rd - 2))) (yr_g v rd n ck cv agk agv agl))) → wpY_item post (yr_g v rd n ck cv agk agv agl) (nI p) (nI lv) := by
    intro post h
    rw [we_Y_item, yr_g_kinds, yr_g_args, yr_g_copyDepth, y7, y8, sv_naA (by omega), hk, nI_clamp (show p < 2 ^ 31 by omega)]
    refine ⟨hb, nm_e ⟨hb, nm_e ?_⟩⟩
    refine br_f (by decide) (br_f (by decide) (br_f (by decide) (br_f (by decide) (?_))))
    rw [pqY_item_53_e]
    refine br_f (by decide) (br_f (by decide) (br_f (by decide) (pk_le 2 rd (fun hle => ?_) (fun hgt => h.1 (by omega)) rfl rfl (by omega) (by omega))))
    have e1 : nI rd - 1 = nI (rd - 1) := pk_sub (b := 1) (by omega)
    have e2 : nI rd - 2 = nI (rd - 2) := pk_sub (b := 2) (by omega)
    have i1 : vp_in (nI (rd - 1)) 16 := vp_in_nI (by omega) (by omega)
    rw [e1, yr_g_copyVal, yr_g_copyKind, sv_naA (by omega), nI_clamp (show rd - 1 < 2 ^ 31 by omega)]
    refine ⟨i1, nm_e ⟨i1, nm_e ?_⟩⟩
    have i2 : vp_in (nI (rd - 2)) 16 := vp_in_nI (by omega) (by omega)
    rw [e2, nI_clamp (show rd - 2 < 2 ^ 31 by omega)]
    refine br_f (by decide) ⟨i2, ?_⟩
    rw [pqY_item_173_e, yr_g_copyKind, e2, sv_naA (by omega)]
    exact br_f (by decide) ⟨i2, h.2 hle⟩
  by_cases e1 : rd < 2
  · refine Or.inl ⟨5, by omega, by omega, fun post h => toX post ?_, fun post h => toY post ⟨fun _ => h _ _ _ _ _ _ _, fun z => by omega⟩⟩
    rw [we_X_runArithmetic, xr_g_runDepth]
    exact br_f (show ¬ nI 2 ≤ nI rd from nI_ge e1 (by omega)) (h _ _ _ _ _ _ _ _ _)
  · have ex : nI rd - 1 = nI (rd - 1) := pk_sub (b := 1) (by omega)
    have ex2 : nI rd - 2 = nI (rd - 2) := pk_sub (b := 2) (by omega)
    have ex3 : nI (rd - 1) - 1 = nI (rd - 2) := by rw [show (1 : Int32) = nI 1 from rfl, pk_sub (by omega), show rd - 1 - 1 = rd - 2 by omega]
    have i1 : vp_in (nI (rd - 1)) 16 := vp_in_nI (by omega) (by omega)
    have i2 : vp_in (nI (rd - 2)) 16 := vp_in_nI (by omega) (by omega)
    have c2 : (2 : Int32) ≤ nI rd := nI_le (a := 2) (by omega) (by omega)
    obtain ⟨g1, g2⟩ := hag (rd - 1) (by omega)
    obtain ⟨g3, g4⟩ := hag (rd - 2) (by omega)
    rw [g1, g2, g3, g4] at toY
    have hk1 : rk (rd - 1) ≤ 2 := by rcases hc (rd - 1) (by omega) with z | z <;> omega
    have hk2 : rk (rd - 2) ≤ 2 := by rcases hc (rd - 2) (by omega) with z | z <;> omega
    have openX : ∀ post : Int32 → SX → Prop, (rk (rd - 1) = 1 → (rk (rd - 2) = 1 → ((rv (rd - 1) ≤ rv (rd - 2) → pqX_runArithmetic_85 (fun r u => post r u) (nI 8) (rv (rd - 1)) (rv (rd - 2)) 0 (xr_g c (rd - 1) lv sp rk rv (sv_un fp lv nx) fe sk sv)) ∧ (¬ rv (rd - 1) ≤ rv (rd - 2) → pqX_runArithmetic_85 (fun r u => post r u) (nI 8) (rv (rd - 1)) (rv (rd - 2)) 1 (xr_g c (rd - 1) lv sp rk rv (sv_un fp lv nx) fe sk sv))))) → ((rk (rd - 1) ≠ 1 ∨ rk (rd - 2) ≠ 1) → post 6 (xr_g c rd lv sp rk rv (sv_un fp lv nx) fe sk sv)) → wpX_runArithmetic (fun r u => post r u) (xr_g c rd lv sp rk rv (sv_un fp lv nx) fe sk sv) (nI 8) := by
      intro post h1 h2
      rw [we_X_runArithmetic, xr_g_runDepth, xr_g_runKind, xr_g_runValue, ex, ex2, sv_naA (by omega), sv_naA (by omega)]
      refine br_t c2 ⟨i1, pk_eq (rk (rd - 1)) 1 (fun z => ⟨i2, pk_eq (rk (rd - 2)) 1 (fun z2 => nm_e ⟨i1, ?_⟩) (fun z2 => h2 (Or.inr z2)) rfl rfl (by omega) (by omega)⟩) (fun z => h2 (Or.inl z)) rfl rfl (by omega) (by omega)⟩
      rw [ex3, nI_clamp (show rd - 1 < 2 ^ 31 by omega), nI_clamp (show rd - 2 < 2 ^ 31 by omega), xr_s1]
      exact nm_e ⟨i2, nm_e (h1 z z2)⟩
    have openY : ∀ post : Int32 → SY → Prop, (∀ m, pqY_item_271 post (nI 8) (rv (rd - 1)) (nI (rk (rd - 1))) (rv (rd - 2)) (nI (rk (rd - 2))) (yr_g v (rd - 2) m ck cv agk agv agl) ∨ m ≠ n) → wpY_item post (yr_g v rd n ck cv agk agv agl) (nI p) (nI lv) := by
      intro post h
      refine toY post ⟨fun z => by omega, fun _ => ?_⟩
      rw [pqY_item_194_e, yr_g_copyDepth]
      refine br_f (by decide) (nm_r (pk_sub (b := 2) (by omega)) ?_)
      rw [yr_s1]
      rcases h n with h | h
      · exact br_f (by decide) (br_f (by decide) (br_t rfl h))
      · exact absurd rfl h
    by_cases ok : rk (rd - 1) = 1 ∧ rk (rd - 2) = 1
    · refine Or.inr (Or.inl ⟨rd - 1, rk, upd rv (rd - 2) (rv (rd - 2) + rv (rd - 1)), sv_un ck (rd - 2) 1, upd cv (rd - 2) (rv (rd - 2) + rv (rd - 1)), by omega, fun i hi => ?_, fun i hi => ?_, fun post h => toX post (openX post (fun _ _ => ?_) (fun z => by omega)), fun post h => openY post (fun m => ?_)⟩)
      · by_cases z : i = rd - 2
        · rw [z]; exact Or.inl ok.2
        · rw [pk_un z]; exact hc i (by omega)
      · by_cases z : i = rd - 2
        · rw [z, sv_us, pk_us, pk_us]; exact ⟨ok.2.symm, rfl⟩
        · rw [sv_uo z, pk_un z, pk_un z]; exact hag i (by omega)
      · have f : ∀ z0, pqX_runArithmetic_85 (fun r u => post r u) (nI 8) (rv (rd - 1)) (rv (rd - 2)) z0 (xr_g c (rd - 1) lv sp rk rv (sv_un fp lv nx) fe sk sv) := fun z0 => by
          rw [pqX_runArithmetic_85_e]
          refine br_t rfl (nm_e ?_)
          rw [pqX_runArithmetic_112_e, xr_g_runDepth, xr_g_runValue, ex3, nI_clamp (show rd - 2 < 2 ^ 31 by omega)]; exact ⟨i2, nm_e (by rw [xr_s8]; exact h)⟩
        exact br_c (fun _ => f 0) (fun _ => f 1)
      · by_cases em : m = n
        · left
          rw [em, pqY_item_271_e, ok.1, ok.2]
          refine br_t rfl (br_t rfl (br_t rfl ?_))
          rw [pqY_item_330_e]
          exact (ry_put (k := 1) y2 B.1 (by omega) (fun z => by omega) (fun _ => by rw [show rd - 2 + 1 = rd - 1 by omega]; exact h))
        · exact Or.inr em
    · refine Or.inl ⟨6, by omega, by omega, fun post h => toX post (openX post (fun z z2 => absurd ⟨z, z2⟩ ok) (fun _ => h _ _ _ _ _ _ _ _ _)), fun post h => openY post (fun m => Or.inl ?_)⟩
      rw [pqY_item_271_e]
      refine pk_eq (rk (rd - 1)) 1 (fun z => pk_eq (rk (rd - 2)) 1 (fun z2 => absurd ⟨z, z2⟩ ok) (fun _ => h _ _ _ _ _ _ _) rfl rfl (by omega) (by omega)) (fun _ => h _ _ _ _ _ _ _) rfl rfl (by omega) (by omega)
theorem rn_9 (B : mc ≤ 16 ∧ ml ≤ 32) (hX : rl_X mw mc ml mf ot cnt cc kd mt ln wt tx os ck0 ag cv0 c) (hY : rl_Y mw mc ml mf cnt cc kd ln ck0 ag cv0 v) (A : rl_A ot cnt kd mt ln wt tx os ag fw) (hr : rd ≤ mc) (hl : lv ≤ ml) (hc : rl_c kd ln rk rv cnt rd) (hag : ∀ i, i < rd → ck i = rk i ∧ cv i = rv i) (hn : rn_h lv ml n) (hp : p < 256) (hnx : nx ≤ 256) (hk : kd p = 9) : rn_O c v kd ln cnt mc ml rd lv sp rk rv fp fe sk sv n ck cv agk agv agl p nx := by
  have x2 := hX.2.1
  have x3 := hX.2.2.1
  have x8 := hX.2.2.2.2.2.2.2.1
  have x9 := hX.2.2.2.2.2.2.2.2.1
  have x10 := hX.2.2.2.2.2.2.2.2.2.1
  have x11 := hX.2.2.2.2.2.2.2.2.2.2.1
  have y2 := hY.2.1
  have y3 := hY.2.2.1
  have y7 := hY.2.2.2.2.2.2.1
  have y8 := hY.2.2.2.2.2.2.2.1
  have y9 := hY.2.2.2.2.2.2.2.2.1
  have hcn := A.1.1
  have hb : vp_in (nI p) 256 := vp_in_nI hp (by omega)
  have toX : ∀ post : Int32 → SX → Prop, (wpX_runArithmetic (fun r u => post r u) (xr_g c rd lv sp rk rv (sv_un fp lv nx) fe sk sv) (nI 9)) → pqX_runItem_65 post (nI p) (nI nx) (nI lv) (xr_g c rd lv sp rk rv fp fe sk sv) := by
    intro post h
    rw [pqX_runItem_65_e, xr_g_framePos, xr_g_tokKind, xr_g_tokArg, x8, x9, sv_naU (by omega)]
    refine ⟨vp_in_nI (by omega) (by omega), nm_e ⟨hb, ?_⟩⟩
    rw [sv_naA (by omega), hk, nI_clamp (show p < 2 ^ 31 by omega), xr_s4]
    refine nm_e ?_
    refine br_f (by decide) (br_f (by decide) (br_f (by decide) (br_f (by decide) (br_f (by decide) (br_f (by decide) (br_f (by decide) (br_f (by decide) (br_f (by decide) (br_f (by decide) (br_t rfl ?_))))))))))
    rw [pqX_runItem_200_e, xr_g_tokKind, x8, sv_naA (by omega), hk]
    exact ⟨hb, h⟩
  have toY : ∀ post : Int32 → SY → Prop, ((rd < 2 → post 5 (yr_g v rd n ck cv agk agv agl)) ∧ (2 ≤ rd → pqY_item_194 post (nI lv) (nI 9) (nI rd) (nI 2) (cv (rd - 1)) (nI (ck (rd - 1))) (cv (rd - 2)) (nI (ck (rd - 2))) (yr_g v rd n ck cv agk agv agl))) → wpY_item post (yr_g v rd n ck cv agk agv agl) (nI p) (nI lv) := by
    intro post h
    rw [we_Y_item, yr_g_kinds, yr_g_args, yr_g_copyDepth, y7, y8, sv_naA (by omega), hk, nI_clamp (show p < 2 ^ 31 by omega)]
    refine ⟨hb, nm_e ⟨hb, nm_e ?_⟩⟩
    refine br_f (by decide) (br_f (by decide) (br_f (by decide) (br_f (by decide) (?_))))
    rw [pqY_item_53_e]
    refine br_f (by decide) (br_f (by decide) (br_f (by decide) (pk_le 2 rd (fun hle => ?_) (fun hgt => h.1 (by omega)) rfl rfl (by omega) (by omega))))
    have e1 : nI rd - 1 = nI (rd - 1) := pk_sub (b := 1) (by omega)
    have e2 : nI rd - 2 = nI (rd - 2) := pk_sub (b := 2) (by omega)
    have i1 : vp_in (nI (rd - 1)) 16 := vp_in_nI (by omega) (by omega)
    rw [e1, yr_g_copyVal, yr_g_copyKind, sv_naA (by omega), nI_clamp (show rd - 1 < 2 ^ 31 by omega)]
    refine ⟨i1, nm_e ⟨i1, nm_e ?_⟩⟩
    have i2 : vp_in (nI (rd - 2)) 16 := vp_in_nI (by omega) (by omega)
    rw [e2, nI_clamp (show rd - 2 < 2 ^ 31 by omega)]
    refine br_f (by decide) ⟨i2, ?_⟩
    rw [pqY_item_173_e, yr_g_copyKind, e2, sv_naA (by omega)]
    exact br_f (by decide) ⟨i2, h.2 hle⟩
  by_cases e1 : rd < 2
  · refine Or.inl ⟨5, by omega, by omega, fun post h => toX post ?_, fun post h => toY post ⟨fun _ => h _ _ _ _ _ _ _, fun z => by omega⟩⟩
    rw [we_X_runArithmetic, xr_g_runDepth]
    exact br_f (show ¬ nI 2 ≤ nI rd from nI_ge e1 (by omega)) (h _ _ _ _ _ _ _ _ _)
  · have ex : nI rd - 1 = nI (rd - 1) := pk_sub (b := 1) (by omega)
    have ex2 : nI rd - 2 = nI (rd - 2) := pk_sub (b := 2) (by omega)
    have ex3 : nI (rd - 1) - 1 = nI (rd - 2) := by rw [show (1 : Int32) = nI 1 from rfl, pk_sub (by omega), show rd - 1 - 1 = rd - 2 by omega]
    have i1 : vp_in (nI (rd - 1)) 16 := vp_in_nI (by omega) (by omega)
    have i2 : vp_in (nI (rd - 2)) 16 := vp_in_nI (by omega) (by omega)
    have c2 : (2 : Int32) ≤ nI rd := nI_le (a := 2) (by omega) (by omega)
    obtain ⟨g1, g2⟩ := hag (rd - 1) (by omega)
    obtain ⟨g3, g4⟩ := hag (rd - 2) (by omega)
    rw [g1, g2, g3, g4] at toY
    have hk1 : rk (rd - 1) ≤ 2 := by rcases hc (rd - 1) (by omega) with z | z <;> omega
    have hk2 : rk (rd - 2) ≤ 2 := by rcases hc (rd - 2) (by omega) with z | z <;> omega
    have openX : ∀ post : Int32 → SX → Prop, (rk (rd - 1) = 1 → (rk (rd - 2) = 1 → ((rv (rd - 1) ≤ rv (rd - 2) → pqX_runArithmetic_85 (fun r u => post r u) (nI 9) (rv (rd - 1)) (rv (rd - 2)) 0 (xr_g c (rd - 1) lv sp rk rv (sv_un fp lv nx) fe sk sv)) ∧ (¬ rv (rd - 1) ≤ rv (rd - 2) → pqX_runArithmetic_85 (fun r u => post r u) (nI 9) (rv (rd - 1)) (rv (rd - 2)) 1 (xr_g c (rd - 1) lv sp rk rv (sv_un fp lv nx) fe sk sv))))) → ((rk (rd - 1) ≠ 1 ∨ rk (rd - 2) ≠ 1) → post 6 (xr_g c rd lv sp rk rv (sv_un fp lv nx) fe sk sv)) → wpX_runArithmetic (fun r u => post r u) (xr_g c rd lv sp rk rv (sv_un fp lv nx) fe sk sv) (nI 9) := by
      intro post h1 h2
      rw [we_X_runArithmetic, xr_g_runDepth, xr_g_runKind, xr_g_runValue, ex, ex2, sv_naA (by omega), sv_naA (by omega)]
      refine br_t c2 ⟨i1, pk_eq (rk (rd - 1)) 1 (fun z => ⟨i2, pk_eq (rk (rd - 2)) 1 (fun z2 => nm_e ⟨i1, ?_⟩) (fun z2 => h2 (Or.inr z2)) rfl rfl (by omega) (by omega)⟩) (fun z => h2 (Or.inl z)) rfl rfl (by omega) (by omega)⟩
      rw [ex3, nI_clamp (show rd - 1 < 2 ^ 31 by omega), nI_clamp (show rd - 2 < 2 ^ 31 by omega), xr_s1]
      exact nm_e ⟨i2, nm_e (h1 z z2)⟩
    have openY : ∀ post : Int32 → SY → Prop, (∀ m, pqY_item_271 post (nI 9) (rv (rd - 1)) (nI (rk (rd - 1))) (rv (rd - 2)) (nI (rk (rd - 2))) (yr_g v (rd - 2) m ck cv agk agv agl) ∨ m ≠ n) → wpY_item post (yr_g v rd n ck cv agk agv agl) (nI p) (nI lv) := by
      intro post h
      refine toY post ⟨fun z => by omega, fun _ => ?_⟩
      rw [pqY_item_194_e, yr_g_copyDepth]
      refine br_f (by decide) (nm_r (pk_sub (b := 2) (by omega)) ?_)
      rw [yr_s1]
      rcases h n with h | h
      · exact br_f (by decide) (br_f (by decide) (br_f (by decide) (br_t rfl h)))
      · exact absurd rfl h
    by_cases ok : rk (rd - 1) = 1 ∧ rk (rd - 2) = 1
    · refine Or.inr (Or.inl ⟨rd - 1, rk, upd rv (rd - 2) (rv (rd - 2) - rv (rd - 1)), sv_un ck (rd - 2) 1, upd cv (rd - 2) (rv (rd - 2) - rv (rd - 1)), by omega, fun i hi => ?_, fun i hi => ?_, fun post h => toX post (openX post (fun _ _ => ?_) (fun z => by omega)), fun post h => openY post (fun m => ?_)⟩)
      · by_cases z : i = rd - 2
        · rw [z]; exact Or.inl ok.2
        · rw [pk_un z]; exact hc i (by omega)
      · by_cases z : i = rd - 2
        · rw [z, sv_us, pk_us, pk_us]; exact ⟨ok.2.symm, rfl⟩
        · rw [sv_uo z, pk_un z, pk_un z]; exact hag i (by omega)
      · have f : ∀ z0, pqX_runArithmetic_85 (fun r u => post r u) (nI 9) (rv (rd - 1)) (rv (rd - 2)) z0 (xr_g c (rd - 1) lv sp rk rv (sv_un fp lv nx) fe sk sv) := fun z0 => by
          rw [pqX_runArithmetic_85_e]
          refine br_f (by decide) (br_t rfl (nm_e ?_))
          rw [pqX_runArithmetic_112_e, xr_g_runDepth, xr_g_runValue, ex3, nI_clamp (show rd - 2 < 2 ^ 31 by omega)]; exact ⟨i2, nm_e (by rw [xr_s8]; exact h)⟩
        exact br_c (fun _ => f 0) (fun _ => f 1)
      · by_cases em : m = n
        · left
          rw [em, pqY_item_271_e, ok.1, ok.2]
          refine br_t rfl (br_t rfl (br_f (by decide) (br_t rfl ?_)))
          rw [pqY_item_330_e]
          exact (ry_put (k := 1) y2 B.1 (by omega) (fun z => by omega) (fun _ => by rw [show rd - 2 + 1 = rd - 1 by omega]; exact h))
        · exact Or.inr em
    · refine Or.inl ⟨6, by omega, by omega, fun post h => toX post (openX post (fun z z2 => absurd ⟨z, z2⟩ ok) (fun _ => h _ _ _ _ _ _ _ _ _)), fun post h => openY post (fun m => Or.inl ?_)⟩
      rw [pqY_item_271_e]
      refine pk_eq (rk (rd - 1)) 1 (fun z => pk_eq (rk (rd - 2)) 1 (fun z2 => absurd ⟨z, z2⟩ ok) (fun _ => h _ _ _ _ _ _ _) rfl rfl (by omega) (by omega)) (fun _ => h _ _ _ _ _ _ _) rfl rfl (by omega) (by omega)
theorem rn_10 (B : mc ≤ 16 ∧ ml ≤ 32) (hX : rl_X mw mc ml mf ot cnt cc kd mt ln wt tx os ck0 ag cv0 c) (hY : rl_Y mw mc ml mf cnt cc kd ln ck0 ag cv0 v) (A : rl_A ot cnt kd mt ln wt tx os ag fw) (hr : rd ≤ mc) (hl : lv ≤ ml) (hc : rl_c kd ln rk rv cnt rd) (hag : ∀ i, i < rd → ck i = rk i ∧ cv i = rv i) (hn : rn_h lv ml n) (hp : p < 256) (hnx : nx ≤ 256) (hk : kd p = 10) : rn_O c v kd ln cnt mc ml rd lv sp rk rv fp fe sk sv n ck cv agk agv agl p nx := by
  have x2 := hX.2.1
  have x3 := hX.2.2.1
  have x8 := hX.2.2.2.2.2.2.2.1
  have x9 := hX.2.2.2.2.2.2.2.2.1
  have x10 := hX.2.2.2.2.2.2.2.2.2.1
  have x11 := hX.2.2.2.2.2.2.2.2.2.2.1
  have y2 := hY.2.1
  have y3 := hY.2.2.1
  have y7 := hY.2.2.2.2.2.2.1
  have y8 := hY.2.2.2.2.2.2.2.1
  have y9 := hY.2.2.2.2.2.2.2.2.1
  have hcn := A.1.1
  have hb : vp_in (nI p) 256 := vp_in_nI hp (by omega)
  have toX : ∀ post : Int32 → SX → Prop, (wpX_runArithmetic (fun r u => post r u) (xr_g c rd lv sp rk rv (sv_un fp lv nx) fe sk sv) (nI 10)) → pqX_runItem_65 post (nI p) (nI nx) (nI lv) (xr_g c rd lv sp rk rv fp fe sk sv) := by
    intro post h
    rw [pqX_runItem_65_e, xr_g_framePos, xr_g_tokKind, xr_g_tokArg, x8, x9, sv_naU (by omega)]
    refine ⟨vp_in_nI (by omega) (by omega), nm_e ⟨hb, ?_⟩⟩
    rw [sv_naA (by omega), hk, nI_clamp (show p < 2 ^ 31 by omega), xr_s4]
    refine nm_e ?_
    refine br_f (by decide) (br_f (by decide) (br_f (by decide) (br_f (by decide) (br_f (by decide) (br_f (by decide) (br_f (by decide) (br_f (by decide) (br_f (by decide) (br_f (by decide) (br_f (by decide) (br_t rfl ?_)))))))))))
    rw [pqX_runItem_200_e, xr_g_tokKind, x8, sv_naA (by omega), hk]
    exact ⟨hb, h⟩
  have toY : ∀ post : Int32 → SY → Prop, ((rd < 2 → post 5 (yr_g v rd n ck cv agk agv agl)) ∧ (2 ≤ rd → pqY_item_194 post (nI lv) (nI 10) (nI rd) (nI 2) (cv (rd - 1)) (nI (ck (rd - 1))) (cv (rd - 2)) (nI (ck (rd - 2))) (yr_g v rd n ck cv agk agv agl))) → wpY_item post (yr_g v rd n ck cv agk agv agl) (nI p) (nI lv) := by
    intro post h
    rw [we_Y_item, yr_g_kinds, yr_g_args, yr_g_copyDepth, y7, y8, sv_naA (by omega), hk, nI_clamp (show p < 2 ^ 31 by omega)]
    refine ⟨hb, nm_e ⟨hb, nm_e ?_⟩⟩
    refine br_f (by decide) (br_f (by decide) (br_f (by decide) (br_f (by decide) (?_))))
    rw [pqY_item_53_e]
    refine br_f (by decide) (br_f (by decide) (br_f (by decide) (pk_le 2 rd (fun hle => ?_) (fun hgt => h.1 (by omega)) rfl rfl (by omega) (by omega))))
    have e1 : nI rd - 1 = nI (rd - 1) := pk_sub (b := 1) (by omega)
    have e2 : nI rd - 2 = nI (rd - 2) := pk_sub (b := 2) (by omega)
    have i1 : vp_in (nI (rd - 1)) 16 := vp_in_nI (by omega) (by omega)
    rw [e1, yr_g_copyVal, yr_g_copyKind, sv_naA (by omega), nI_clamp (show rd - 1 < 2 ^ 31 by omega)]
    refine ⟨i1, nm_e ⟨i1, nm_e ?_⟩⟩
    have i2 : vp_in (nI (rd - 2)) 16 := vp_in_nI (by omega) (by omega)
    rw [e2, nI_clamp (show rd - 2 < 2 ^ 31 by omega)]
    refine br_f (by decide) ⟨i2, ?_⟩
    rw [pqY_item_173_e, yr_g_copyKind, e2, sv_naA (by omega)]
    exact br_f (by decide) ⟨i2, h.2 hle⟩
  by_cases e1 : rd < 2
  · refine Or.inl ⟨5, by omega, by omega, fun post h => toX post ?_, fun post h => toY post ⟨fun _ => h _ _ _ _ _ _ _, fun z => by omega⟩⟩
    rw [we_X_runArithmetic, xr_g_runDepth]
    exact br_f (show ¬ nI 2 ≤ nI rd from nI_ge e1 (by omega)) (h _ _ _ _ _ _ _ _ _)
  · have ex : nI rd - 1 = nI (rd - 1) := pk_sub (b := 1) (by omega)
    have ex2 : nI rd - 2 = nI (rd - 2) := pk_sub (b := 2) (by omega)
    have ex3 : nI (rd - 1) - 1 = nI (rd - 2) := by rw [show (1 : Int32) = nI 1 from rfl, pk_sub (by omega), show rd - 1 - 1 = rd - 2 by omega]
    have i1 : vp_in (nI (rd - 1)) 16 := vp_in_nI (by omega) (by omega)
    have i2 : vp_in (nI (rd - 2)) 16 := vp_in_nI (by omega) (by omega)
    have c2 : (2 : Int32) ≤ nI rd := nI_le (a := 2) (by omega) (by omega)
    obtain ⟨g1, g2⟩ := hag (rd - 1) (by omega)
    obtain ⟨g3, g4⟩ := hag (rd - 2) (by omega)
    rw [g1, g2, g3, g4] at toY
    have hk1 : rk (rd - 1) ≤ 2 := by rcases hc (rd - 1) (by omega) with z | z <;> omega
    have hk2 : rk (rd - 2) ≤ 2 := by rcases hc (rd - 2) (by omega) with z | z <;> omega
    have openX : ∀ post : Int32 → SX → Prop, (rk (rd - 1) = 1 → (rk (rd - 2) = 1 → ((rv (rd - 1) ≤ rv (rd - 2) → pqX_runArithmetic_85 (fun r u => post r u) (nI 10) (rv (rd - 1)) (rv (rd - 2)) 0 (xr_g c (rd - 1) lv sp rk rv (sv_un fp lv nx) fe sk sv)) ∧ (¬ rv (rd - 1) ≤ rv (rd - 2) → pqX_runArithmetic_85 (fun r u => post r u) (nI 10) (rv (rd - 1)) (rv (rd - 2)) 1 (xr_g c (rd - 1) lv sp rk rv (sv_un fp lv nx) fe sk sv))))) → ((rk (rd - 1) ≠ 1 ∨ rk (rd - 2) ≠ 1) → post 6 (xr_g c rd lv sp rk rv (sv_un fp lv nx) fe sk sv)) → wpX_runArithmetic (fun r u => post r u) (xr_g c rd lv sp rk rv (sv_un fp lv nx) fe sk sv) (nI 10) := by
      intro post h1 h2
      rw [we_X_runArithmetic, xr_g_runDepth, xr_g_runKind, xr_g_runValue, ex, ex2, sv_naA (by omega), sv_naA (by omega)]
      refine br_t c2 ⟨i1, pk_eq (rk (rd - 1)) 1 (fun z => ⟨i2, pk_eq (rk (rd - 2)) 1 (fun z2 => nm_e ⟨i1, ?_⟩) (fun z2 => h2 (Or.inr z2)) rfl rfl (by omega) (by omega)⟩) (fun z => h2 (Or.inl z)) rfl rfl (by omega) (by omega)⟩
      rw [ex3, nI_clamp (show rd - 1 < 2 ^ 31 by omega), nI_clamp (show rd - 2 < 2 ^ 31 by omega), xr_s1]
      exact nm_e ⟨i2, nm_e (h1 z z2)⟩
    have openY : ∀ post : Int32 → SY → Prop, (∀ m, pqY_item_271 post (nI 10) (rv (rd - 1)) (nI (rk (rd - 1))) (rv (rd - 2)) (nI (rk (rd - 2))) (yr_g v (rd - 2) m ck cv agk agv agl) ∨ m ≠ n) → wpY_item post (yr_g v rd n ck cv agk agv agl) (nI p) (nI lv) := by
      intro post h
      refine toY post ⟨fun z => by omega, fun _ => ?_⟩
      rw [pqY_item_194_e, yr_g_copyDepth]
      refine br_f (by decide) (nm_r (pk_sub (b := 2) (by omega)) ?_)
      rw [yr_s1]
      rcases h n with h | h
      · exact br_f (by decide) (br_f (by decide) (br_f (by decide) (br_f (by decide) (br_t rfl h))))
      · exact absurd rfl h
    by_cases ok : rk (rd - 1) = 1 ∧ rk (rd - 2) = 1
    · refine Or.inr (Or.inl ⟨rd - 1, rk, upd rv (rd - 2) ((if rv (rd - 1) ≤ rv (rd - 2) then 0 else 1)), sv_un ck (rd - 2) 1, upd cv (rd - 2) ((if rv (rd - 1) ≤ rv (rd - 2) then 0 else 1)), by omega, fun i hi => ?_, fun i hi => ?_, fun post h => toX post (openX post (fun _ _ => ?_) (fun z => by omega)), fun post h => openY post (fun m => ?_)⟩)
      · by_cases z : i = rd - 2
        · rw [z]; exact Or.inl ok.2
        · rw [pk_un z]; exact hc i (by omega)
      · by_cases z : i = rd - 2
        · rw [z, sv_us, pk_us, pk_us]; exact ⟨ok.2.symm, rfl⟩
        · rw [sv_uo z, pk_un z, pk_un z]; exact hag i (by omega)
      · refine br_c (fun z => ?_) (fun z => ?_)
        · rw [if_pos z] at h
          rw [pqX_runArithmetic_85_e]
          refine br_f (by decide) (br_f (by decide) ?_)
          rw [pqX_runArithmetic_112_e, xr_g_runDepth, xr_g_runValue, ex3, nI_clamp (show rd - 2 < 2 ^ 31 by omega)]; exact ⟨i2, nm_e (by rw [xr_s8]; exact h)⟩
        · rw [if_neg z] at h
          rw [pqX_runArithmetic_85_e]
          refine br_f (by decide) (br_f (by decide) ?_)
          rw [pqX_runArithmetic_112_e, xr_g_runDepth, xr_g_runValue, ex3, nI_clamp (show rd - 2 < 2 ^ 31 by omega)]; exact ⟨i2, nm_e (by rw [xr_s8]; exact h)⟩
      · by_cases em : m = n
        · left
          rw [em, pqY_item_271_e, ok.1, ok.2]
          refine br_t rfl (br_t rfl (br_f (by decide) (br_f (by decide) (br_c (fun z => ?_) (fun z => ?_)))))
          · rw [if_pos z] at h
            rw [pqY_item_330_e]
            exact (ry_put (k := 1) y2 B.1 (by omega) (fun z => by omega) (fun _ => by rw [show rd - 2 + 1 = rd - 1 by omega]; exact h))
          · rw [if_neg z] at h
            rw [pqY_item_330_e]
            exact (ry_put (k := 1) y2 B.1 (by omega) (fun z => by omega) (fun _ => by rw [show rd - 2 + 1 = rd - 1 by omega]; exact h))
        · exact Or.inr em
    · refine Or.inl ⟨6, by omega, by omega, fun post h => toX post (openX post (fun z z2 => absurd ⟨z, z2⟩ ok) (fun _ => h _ _ _ _ _ _ _ _ _)), fun post h => openY post (fun m => Or.inl ?_)⟩
      rw [pqY_item_271_e]
      refine pk_eq (rk (rd - 1)) 1 (fun z => pk_eq (rk (rd - 2)) 1 (fun z2 => absurd ⟨z, z2⟩ ok) (fun _ => h _ _ _ _ _ _ _) rfl rfl (by omega) (by omega)) (fun _ => h _ _ _ _ _ _ _) rfl rfl (by omega) (by omega)
end
end
section
/-! printed by gen/runk.py: apply, dip, if -/
section
variable {c : SX} {v : SY} {mw mc ml mf ot cnt cc : Nat} {kd mt ln wt tx os ck0 : Nat → Nat} {ag cv0 : Nat → Int32} {fw : Nat → List Nat}
variable {rd lv sp : Nat} {rk fp fe sk : Nat → Nat} {rv sv : Nat → Int32} {n : Nat} {ck agk agl : Nat → Nat} {cv agv : Nat → Int32} {p nx : Nat}
theorem ry_427 (lv d n : Nat) (ck : Nat → Nat) (cv : Nat → Int32) (agk : Nat → Nat) (agv : Nat → Int32) (agl : Nat → Nat) {q : Nat} (A : rl_A ot cnt kd mt ln wt tx os ag fw) (y7 : yq_kinds v = sv_na kd) (M : bs_M kd q (mt q)) (q2 : mt q < 255) (F : fr_ok kd ln cnt (q + 1) (mt q)) (hk : ∀ j, q ≤ j → j ≤ mt q → kd j ≤ 13) (hn : n ≤ 1056) : ∃ n' k' v' l', ag_L k' v' l' n' = it_L kd (q + 1) (lv + 1) (q + 1) (mt q - (q + 1)) ++ ag_L agk agv agl n ∧ ∀ post : Int32 → SY → Prop, post 1 (yr_g v d n' ck cv k' v' l') → pqY_item_427 post (nI lv) (nI q) (yr_g v d n ck cv agk agv agl) := by
  obtain ⟨n', k', v', l', e1, gb⟩ := ry_body d n ck cv agk agv agl (lv + 1) A y7 F hn
  refine ⟨n', k', v', l', e1, fun post h => ?_⟩
  rw [pqY_item_427_e]
  have K' : yq_kinds (yr_g v d n ck cv agk agv agl) = sv_na kd := y7
  refine yb_after K' M q2 hk ?_
  rw [nI_1 q, nI_1 lv, nI_pred]
  exact gb _ h
theorem rn_11 (B : mc ≤ 16 ∧ ml ≤ 32) (hX : rl_X mw mc ml mf ot cnt cc kd mt ln wt tx os ck0 ag cv0 c) (hY : rl_Y mw mc ml mf cnt cc kd ln ck0 ag cv0 v) (A : rl_A ot cnt kd mt ln wt tx os ag fw) (hr : rd ≤ mc) (hl : lv ≤ ml) (hc : rl_c kd ln rk rv cnt rd) (hag : ∀ i, i < rd → ck i = rk i ∧ cv i = rv i) (hn : rn_h lv ml n) (hp : p < 256) (hnx : nx ≤ 256) (hk : kd p = 11) : rn_O c v kd ln cnt mc ml rd lv sp rk rv fp fe sk sv n ck cv agk agv agl p nx := by
  have x2 := hX.2.1
  have x3 := hX.2.2.1
  have x8 := hX.2.2.2.2.2.2.2.1
  have x9 := hX.2.2.2.2.2.2.2.2.1
  have x10 := hX.2.2.2.2.2.2.2.2.2.1
  have x11 := hX.2.2.2.2.2.2.2.2.2.2.1
  have y2 := hY.2.1
  have y3 := hY.2.2.1
  have y7 := hY.2.2.2.2.2.2.1
  have y8 := hY.2.2.2.2.2.2.2.1
  have y9 := hY.2.2.2.2.2.2.2.2.1
  have hcn := A.1.1
  have hb : vp_in (nI p) 256 := vp_in_nI hp (by omega)
  have toX : ∀ post : Int32 → SX → Prop, (wpX_runApply (fun r u => post r u) (xr_g c rd lv sp rk rv (sv_un fp lv nx) fe sk sv)) → pqX_runItem_65 post (nI p) (nI nx) (nI lv) (xr_g c rd lv sp rk rv fp fe sk sv) := by
    intro post h
    rw [pqX_runItem_65_e, xr_g_framePos, xr_g_tokKind, xr_g_tokArg, x8, x9, sv_naU (by omega)]
    refine ⟨vp_in_nI (by omega) (by omega), nm_e ⟨hb, ?_⟩⟩
    rw [sv_naA (by omega), hk, nI_clamp (show p < 2 ^ 31 by omega), xr_s4]
    refine nm_e ?_
    exact br_f (by decide) (br_f (by decide) (br_f (by decide) (br_f (by decide) (br_f (by decide) (br_f (by decide) (br_f (by decide) (br_f (by decide) (br_f (by decide) (br_f (by decide) (br_f (by decide) (br_f (by decide) (br_t rfl h))))))))))))
  have toY : ∀ post : Int32 → SY → Prop, ((rd < 1 → post 5 (yr_g v rd n ck cv agk agv agl)) ∧ (1 ≤ rd → pqY_item_194 post (nI lv) (nI 11) (nI rd) (nI 1) (cv (rd - 1)) (nI (ck (rd - 1))) 0 0 (yr_g v rd n ck cv agk agv agl))) → wpY_item post (yr_g v rd n ck cv agk agv agl) (nI p) (nI lv) := by
    intro post h
    rw [we_Y_item, yr_g_kinds, yr_g_args, yr_g_copyDepth, y7, y8, sv_naA (by omega), hk, nI_clamp (show p < 2 ^ 31 by omega)]
    refine ⟨hb, nm_e ⟨hb, nm_e ?_⟩⟩
    refine br_f (by decide) (br_f (by decide) (br_f (by decide) (br_t rfl ?_)))
    rw [pqY_item_48_e]
    rw [pqY_item_53_e]
    refine br_f (by decide) (br_f (by decide) (br_f (by decide) (pk_le 1 rd (fun hle => ?_) (fun hgt => h.1 (by omega)) rfl rfl (by omega) (by omega))))
    have e1 : nI rd - 1 = nI (rd - 1) := pk_sub (b := 1) (by omega)
    have i1 : vp_in (nI (rd - 1)) 16 := vp_in_nI (by omega) (by omega)
    rw [e1, yr_g_copyVal, yr_g_copyKind, sv_naA (by omega), nI_clamp (show rd - 1 < 2 ^ 31 by omega)]
    refine ⟨i1, nm_e ⟨i1, nm_e ?_⟩⟩
    refine br_t (by decide) ?_
    rw [pqY_item_173_e]
    exact br_t (by decide) (h.2 hle)
  by_cases e1 : rd < 1
  · refine Or.inl ⟨5, by omega, by omega, fun post h => toX post ?_, fun post h => toY post ⟨fun _ => h _ _ _ _ _ _ _, fun z => by omega⟩⟩
    rw [we_X_runApply, xr_g_runDepth]
    exact br_f (show ¬ nI 1 ≤ nI rd from nI_ge e1 (by omega)) (h _ _ _ _ _ _ _ _ _)
  have e1' : 1 ≤ rd := by omega
  have ex : nI rd - 1 = nI (rd - 1) := pk_sub (b := 1) (by omega)
  have i1 : vp_in (nI (rd - 1)) 16 := vp_in_nI (by omega) (by omega)
  have c1 : nI 1 ≤ nI rd := nI_le (by omega) (by omega)
  obtain ⟨g1, g2⟩ := hag (rd - 1) (by omega)
  rw [g1, g2] at toY
  have hk1 : rk (rd - 1) ≤ 2 := by rcases hc (rd - 1) (by omega) with z | z <;> omega
  have openY : ∀ post : Int32 → SY → Prop, (rk (rd - 1) = 2 → (lv = ml → post 3 (yr_g v (rd - 1) n ck cv agk agv agl)) ∧ (lv ≠ ml → pqY_item_427 post (nI lv) (rv (rd - 1)) (yr_g v (rd - 1) n ck cv agk agv agl))) → (rk (rd - 1) ≠ 2 → post 7 (yr_g v (rd - 1) n ck cv agk agv agl)) → wpY_item post (yr_g v rd n ck cv agk agv agl) (nI p) (nI lv) := by
    intro post h1 h2
    refine toY post ⟨fun z => by omega, fun _ => ?_⟩
    rw [pqY_item_194_e, yr_g_copyDepth]
    refine br_f (by decide) (nm_r (pk_sub (a := rd) (b := 1) (by omega)) ?_)
    rw [yr_s1]
    refine br_f (by decide) (br_f (by decide) (br_f (by decide) (br_f (by decide) (br_f (by decide) (pk_eq (rk (rd - 1)) 2 (fun z => ?_) h2 rfl rfl (by omega) (by omega))))))
    refine br_f (by decide) ?_
    rw [pqY_item_355_e]
    refine br_f (by decide) ?_
    rw [pqY_item_377_e, yr_g_maxLevels, y3]
    refine pk_eq lv ml (h1 z).1 (fun ne => br_f (by decide) ?_) rfl rfl (by omega) (by omega)
    rw [pqY_item_402_e]
    refine br_f (by decide) ?_
    rw [pqY_item_425_e]
    exact (h1 z).2 ne
  have openX : ∀ post : Int32 → SX → Prop, (rk (rd - 1) = 2 → (lv = ml → post 3 (xr_g c rd lv sp rk rv (sv_un fp lv nx) fe sk sv)) ∧ (lv ≠ ml → vp_in (rv (rd - 1)) 256 ∧ wpX_enter (fun u1 => post 0 u1) (xr_g c (rd - 1) lv sp rk rv (sv_un fp lv nx) fe sk sv) (rv (rd - 1) + 1) (sv_na mt (rv (rd - 1)).toNatClampNeg))) → (rk (rd - 1) ≠ 2 → post 7 (xr_g c rd lv sp rk rv (sv_un fp lv nx) fe sk sv)) → wpX_runApply (fun r u => post r u) (xr_g c rd lv sp rk rv (sv_un fp lv nx) fe sk sv) := by
    intro post h1 h2
    rw [we_X_runApply, xr_g_runDepth, xr_g_runKind, xr_g_level, xr_g_maxLevels, xr_g_runValue, xr_g_match, x3, x10, ex, sv_naA (by omega)]
    refine br_t c1 ⟨i1, pk_eq (rk (rd - 1)) 2 (fun z => pk_eq lv ml (h1 z).1 (fun ne => nm_e ⟨i1, ?_⟩) rfl rfl (by omega) (by omega)) h2 rfl rfl (by omega) (by omega)⟩
    rw [nI_clamp (show rd - 1 < 2 ^ 31 by omega), xr_s1]
    exact nm_e ((h1 z).2 ne)
  by_cases k2 : rk (rd - 1) = 2
  · by_cases e : lv = ml
    · exact Or.inl ⟨3, by omega, by omega, fun post h => toX post (openX post (fun _ => ⟨fun _ => h _ _ _ _ _ _ _ _ _, fun z => absurd e z⟩) (fun z => absurd k2 z)), fun post h => openY post (fun _ => ⟨fun _ => h _ _ _ _ _ _ _, fun z => absurd e z⟩) (fun z => absurd k2 z)⟩
    · have hq : rl_q kd ln cnt (rv (rd - 1)) := by
        rcases hc (rd - 1) (by omega) with z | z
        · omega
        · exact z.2
      obtain ⟨q, qe, q1, q2, M, F, hkq⟩ := fr_quot A hq
      rw [qe] at openX openY
      have hn' := hn (by omega)
      obtain ⟨n', k', v', l', e1, gb⟩ := ry_427 lv (rd - 1) n ck cv agk agv agl A y7 M q2 F hkq (by omega)
      refine Or.inr (Or.inr ⟨rd - 1, q + 1, mt q, 0, 0, by omega, by omega, F, Or.inl rfl, fun post h => toX post (openX post (fun _ => ⟨fun z => absurd z e, fun _ => ⟨vp_in_nI (by omega) (by omega), ?_⟩⟩) (fun z => absurd k2 z)), n', k', v', l', e1, fun post h => openY post (fun _ => ⟨fun z => absurd z e, fun _ => gb _ h⟩) (fun z => absurd k2 z)⟩)
      rw [nI_1 q, sv_naA (by omega)]
      exact rx_enter (by omega) (h sv (fun z => absurd rfl z) (fun _ => rfl))
  · exact Or.inl ⟨7, by omega, by omega, fun post h => toX post (openX post (fun z => absurd z k2) (fun _ => h _ _ _ _ _ _ _ _ _)), fun post h => openY post (fun z => absurd z k2) (fun _ => h _ _ _ _ _ _ _)⟩
theorem rn_12 (B : mc ≤ 16 ∧ ml ≤ 32) (hX : rl_X mw mc ml mf ot cnt cc kd mt ln wt tx os ck0 ag cv0 c) (hY : rl_Y mw mc ml mf cnt cc kd ln ck0 ag cv0 v) (A : rl_A ot cnt kd mt ln wt tx os ag fw) (hr : rd ≤ mc) (hl : lv ≤ ml) (hc : rl_c kd ln rk rv cnt rd) (hag : ∀ i, i < rd → ck i = rk i ∧ cv i = rv i) (hn : rn_h lv ml n) (hp : p < 256) (hnx : nx ≤ 256) (hk : kd p = 12) : rn_O c v kd ln cnt mc ml rd lv sp rk rv fp fe sk sv n ck cv agk agv agl p nx := by
  have x2 := hX.2.1
  have x3 := hX.2.2.1
  have x8 := hX.2.2.2.2.2.2.2.1
  have x9 := hX.2.2.2.2.2.2.2.2.1
  have x10 := hX.2.2.2.2.2.2.2.2.2.1
  have x11 := hX.2.2.2.2.2.2.2.2.2.2.1
  have y2 := hY.2.1
  have y3 := hY.2.2.1
  have y7 := hY.2.2.2.2.2.2.1
  have y8 := hY.2.2.2.2.2.2.2.1
  have y9 := hY.2.2.2.2.2.2.2.2.1
  have hcn := A.1.1
  have hb : vp_in (nI p) 256 := vp_in_nI hp (by omega)
  have toX : ∀ post : Int32 → SX → Prop, (wpX_runDip (fun r u => post r u) (xr_g c rd lv sp rk rv (sv_un fp lv nx) fe sk sv)) → pqX_runItem_65 post (nI p) (nI nx) (nI lv) (xr_g c rd lv sp rk rv fp fe sk sv) := by
    intro post h
    rw [pqX_runItem_65_e, xr_g_framePos, xr_g_tokKind, xr_g_tokArg, x8, x9, sv_naU (by omega)]
    refine ⟨vp_in_nI (by omega) (by omega), nm_e ⟨hb, ?_⟩⟩
    rw [sv_naA (by omega), hk, nI_clamp (show p < 2 ^ 31 by omega), xr_s4]
    refine nm_e ?_
    exact br_f (by decide) (br_f (by decide) (br_f (by decide) (br_f (by decide) (br_f (by decide) (br_f (by decide) (br_f (by decide) (br_f (by decide) (br_f (by decide) (br_f (by decide) (br_f (by decide) (br_f (by decide) (br_f (by decide) (br_t rfl h)))))))))))))
  have toY : ∀ post : Int32 → SY → Prop, ((rd < 2 → post 5 (yr_g v rd n ck cv agk agv agl)) ∧ (2 ≤ rd → pqY_item_194 post (nI lv) (nI 12) (nI rd) (nI 2) (cv (rd - 1)) (nI (ck (rd - 1))) (cv (rd - 2)) (nI (ck (rd - 2))) (yr_g v rd n ck cv agk agv agl))) → wpY_item post (yr_g v rd n ck cv agk agv agl) (nI p) (nI lv) := by
    intro post h
    rw [we_Y_item, yr_g_kinds, yr_g_args, yr_g_copyDepth, y7, y8, sv_naA (by omega), hk, nI_clamp (show p < 2 ^ 31 by omega)]
    refine ⟨hb, nm_e ⟨hb, nm_e ?_⟩⟩
    refine br_f (by decide) (br_f (by decide) (br_f (by decide) (br_f (by decide) (?_))))
    rw [pqY_item_53_e]
    refine br_f (by decide) (br_f (by decide) (br_f (by decide) (pk_le 2 rd (fun hle => ?_) (fun hgt => h.1 (by omega)) rfl rfl (by omega) (by omega))))
    have e1 : nI rd - 1 = nI (rd - 1) := pk_sub (b := 1) (by omega)
    have e2 : nI rd - 2 = nI (rd - 2) := pk_sub (b := 2) (by omega)
    have i1 : vp_in (nI (rd - 1)) 16 := vp_in_nI (by omega) (by omega)
    rw [e1, yr_g_copyVal, yr_g_copyKind, sv_naA (by omega), nI_clamp (show rd - 1 < 2 ^ 31 by omega)]
    refine ⟨i1, nm_e ⟨i1, nm_e ?_⟩⟩
    have i2 : vp_in (nI (rd - 2)) 16 := vp_in_nI (by omega) (by omega)
    rw [e2, nI_clamp (show rd - 2 < 2 ^ 31 by omega)]
    refine br_f (by decide) ⟨i2, ?_⟩
    rw [pqY_item_173_e, yr_g_copyKind, e2, sv_naA (by omega)]
    exact br_f (by decide) ⟨i2, h.2 hle⟩
  by_cases e1 : rd < 2
  · refine Or.inl ⟨5, by omega, by omega, fun post h => toX post ?_, fun post h => toY post ⟨fun _ => h _ _ _ _ _ _ _, fun z => by omega⟩⟩
    rw [we_X_runDip, xr_g_runDepth]
    exact br_f (show ¬ nI 2 ≤ nI rd from nI_ge e1 (by omega)) (h _ _ _ _ _ _ _ _ _)
  have ex : nI rd - 1 = nI (rd - 1) := pk_sub (b := 1) (by omega)
  have i1 : vp_in (nI (rd - 1)) 16 := vp_in_nI (by omega) (by omega)
  have c1 : nI 2 ≤ nI rd := nI_le (by omega) (by omega)
  obtain ⟨g1, g2⟩ := hag (rd - 1) (by omega)
  rw [g1, g2] at toY
  have hk1 : rk (rd - 1) ≤ 2 := by rcases hc (rd - 1) (by omega) with z | z <;> omega
  have ex2 : nI rd - 2 = nI (rd - 2) := pk_sub (b := 2) (by omega)
  have i2 : vp_in (nI (rd - 2)) 16 := vp_in_nI (by omega) (by omega)
  obtain ⟨g3, g4⟩ := hag (rd - 2) (by omega)
  rw [g3, g4] at toY
  have hk2 : rk (rd - 2) ≤ 2 := by rcases hc (rd - 2) (by omega) with z | z <;> omega
  have openY : ∀ post : Int32 → SY → Prop, (rk (rd - 1) = 2 → (lv = ml → post 3 (yr_g v (rd - 2) n ck cv agk agv agl)) ∧ (lv ≠ ml → pqY_item_427 post (nI lv) (rv (rd - 1)) (yr_g v (rd - 2) (n + 1) ck cv (sv_un agk n (rk (rd - 2))) (upd agv n (rv (rd - 2))) (sv_un agl n lv)))) → (rk (rd - 1) ≠ 2 → post 7 (yr_g v (rd - 2) n ck cv agk agv agl)) → wpY_item post (yr_g v rd n ck cv agk agv agl) (nI p) (nI lv) := by
    intro post h1 h2
    refine toY post ⟨fun z => by omega, fun _ => ?_⟩
    rw [pqY_item_194_e, yr_g_copyDepth]
    refine br_f (by decide) (nm_r (pk_sub (a := rd) (b := 2) (by omega)) ?_)
    rw [yr_s1]
    refine br_f (by decide) (br_f (by decide) (br_f (by decide) (br_f (by decide) (br_f (by decide) (pk_eq (rk (rd - 1)) 2 (fun z => ?_) h2 rfl rfl (by omega) (by omega))))))
    refine br_f (by decide) ?_
    rw [pqY_item_355_e]
    refine br_f (by decide) ?_
    rw [pqY_item_377_e, yr_g_maxLevels, y3]
    refine pk_eq lv ml (h1 z).1 (fun ne => br_t rfl ?_) rfl rfl (by omega) (by omega)
    have hn' := hn (by omega)
    refine ry_later (by omega) ?_
    rw [pqY_item_402_e]
    refine br_f (by decide) ?_
    rw [pqY_item_425_e]
    exact (h1 z).2 ne
  have openX : ∀ post : Int32 → SX → Prop, (rk (rd - 1) = 2 → (lv = ml → post 3 (xr_g c rd lv sp rk rv (sv_un fp lv nx) fe sk sv)) ∧ (lv ≠ ml → vp_in (rv (rd - 1)) 256 ∧ ∃ a b, rv (rd - 1) + 1 = nI a ∧ sv_na mt (rv (rd - 1)).toNatClampNeg = nI b ∧ post 0 (xr_g c (rd - 2) (lv + 1) sp rk rv (sv_un (sv_un fp lv nx) (lv + 1) a) (sv_un fe (lv + 1) b) (sv_un sk (lv + 1) (rk (rd - 2))) (upd sv (lv + 1) (rv (rd - 2)))))) → (rk (rd - 1) ≠ 2 → post 7 (xr_g c rd lv sp rk rv (sv_un fp lv nx) fe sk sv)) → wpX_runDip (fun r u => post r u) (xr_g c rd lv sp rk rv (sv_un fp lv nx) fe sk sv) := by
    intro post h1 h2
    rw [we_X_runDip, xr_g_runDepth, xr_g_runKind, xr_g_level, xr_g_maxLevels, xr_g_runValue, xr_g_match, x3, x10, ex, ex2, sv_naA (by omega)]
    have ex4 : nI (rd - 2) + 1 = nI (rd - 1) := by rw [nI_1, show rd - 2 + 1 = rd - 1 by omega]
    refine br_t c1 ⟨i1, pk_eq (rk (rd - 1)) 2 (fun z => pk_eq lv ml (h1 z).1 (fun ne => nm_e ?_) rfl rfl (by omega) (by omega)) h2 rfl rfl (by omega) (by omega)⟩
    obtain ⟨v1, a, b, ea, eb, hh⟩ := (h1 z).2 ne
    rw [ex4, nI_clamp (show rd - 1 < 2 ^ 31 by omega), xr_s1]
    refine ⟨i1, nm_e ⟨v1, ?_⟩⟩
    rw [ea, eb]
    refine rx_enter (by omega) ?_
    have il : vp_in (nI (lv + 1)) 34 := vp_in_nI (by omega) (by omega)
    rw [xr_g_runDepth, xr_g_level, xr_g_savedKind, xr_g_runKind, xr_g_savedValue, xr_g_runValue, sv_naA (by omega), sv_naU (by omega), nI_clamp (show lv + 1 < 2 ^ 31 by omega), nI_clamp (show rd - 2 < 2 ^ 31 by omega), sv_un2]
    refine ⟨i2, il, nm_e ⟨i2, il, nm_e ?_⟩⟩
    rw [xr_s9]; exact hh
  by_cases k2 : rk (rd - 1) = 2
  · by_cases e : lv = ml
    · exact Or.inl ⟨3, by omega, by omega, fun post h => toX post (openX post (fun _ => ⟨fun _ => h _ _ _ _ _ _ _ _ _, fun z => absurd e z⟩) (fun z => absurd k2 z)), fun post h => openY post (fun _ => ⟨fun _ => h _ _ _ _ _ _ _, fun z => absurd e z⟩) (fun z => absurd k2 z)⟩
    · have hq : rl_q kd ln cnt (rv (rd - 1)) := by
        rcases hc (rd - 1) (by omega) with z | z
        · omega
        · exact z.2
      obtain ⟨q, qe, q1, q2, M, F, hkq⟩ := fr_quot A hq
      rw [qe] at openX openY
      have s0 : rk (rd - 2) ≠ 0 := by rcases hc (rd - 2) (by omega) with z | z <;> omega
      have hn' := hn (by omega)
      obtain ⟨n', k', v', l', e1, gb⟩ := ry_427 lv (rd - 2) (n + 1) ck cv (sv_un agk n (rk (rd - 2))) (upd agv n (rv (rd - 2))) (sv_un agl n lv) A y7 M q2 F hkq (by omega)
      refine Or.inr (Or.inr ⟨rd - 2, q + 1, mt q, rk (rd - 2), rv (rd - 2), by omega, by omega, F, Or.inr (hc (rd - 2) (by omega)), fun post h => toX post (openX post (fun _ => ⟨fun z => absurd z e, fun _ => ⟨vp_in_nI (by omega) (by omega), q + 1, mt q, nI_1 q, sv_naA (by omega), h _ (fun _ => rfl) (fun z => absurd z s0)⟩⟩) (fun z => absurd k2 z)), n', k', v', l', by rw [e1, ag_push, if_neg s0]; rfl, fun post h => openY post (fun _ => ⟨fun z => absurd z e, fun _ => gb _ h⟩) (fun z => absurd k2 z)⟩)
  · exact Or.inl ⟨7, by omega, by omega, fun post h => toX post (openX post (fun z => absurd z k2) (fun _ => h _ _ _ _ _ _ _ _ _)), fun post h => openY post (fun z => absurd z k2) (fun _ => h _ _ _ _ _ _ _)⟩
theorem rn_13 (B : mc ≤ 16 ∧ ml ≤ 32) (hX : rl_X mw mc ml mf ot cnt cc kd mt ln wt tx os ck0 ag cv0 c) (hY : rl_Y mw mc ml mf cnt cc kd ln ck0 ag cv0 v) (A : rl_A ot cnt kd mt ln wt tx os ag fw) (hr : rd ≤ mc) (hl : lv ≤ ml) (hc : rl_c kd ln rk rv cnt rd) (hag : ∀ i, i < rd → ck i = rk i ∧ cv i = rv i) (hn : rn_h lv ml n) (hp : p < 256) (hnx : nx ≤ 256) (hk : kd p = 13) : rn_O c v kd ln cnt mc ml rd lv sp rk rv fp fe sk sv n ck cv agk agv agl p nx := by
  have x2 := hX.2.1
  have x3 := hX.2.2.1
  have x8 := hX.2.2.2.2.2.2.2.1
  have x9 := hX.2.2.2.2.2.2.2.2.1
  have x10 := hX.2.2.2.2.2.2.2.2.2.1
  have x11 := hX.2.2.2.2.2.2.2.2.2.2.1
  have y2 := hY.2.1
  have y3 := hY.2.2.1
  have y7 := hY.2.2.2.2.2.2.1
  have y8 := hY.2.2.2.2.2.2.2.1
  have y9 := hY.2.2.2.2.2.2.2.2.1
  have hcn := A.1.1
  have hb : vp_in (nI p) 256 := vp_in_nI hp (by omega)
  have toX : ∀ post : Int32 → SX → Prop, (wpX_runIf (fun r u => post r u) (xr_g c rd lv sp rk rv (sv_un fp lv nx) fe sk sv)) → pqX_runItem_65 post (nI p) (nI nx) (nI lv) (xr_g c rd lv sp rk rv fp fe sk sv) := by
    intro post h
    rw [pqX_runItem_65_e, xr_g_framePos, xr_g_tokKind, xr_g_tokArg, x8, x9, sv_naU (by omega)]
    refine ⟨vp_in_nI (by omega) (by omega), nm_e ⟨hb, ?_⟩⟩
    rw [sv_naA (by omega), hk, nI_clamp (show p < 2 ^ 31 by omega), xr_s4]
    refine nm_e ?_
    exact br_f (by decide) (br_f (by decide) (br_f (by decide) (br_f (by decide) (br_f (by decide) (br_f (by decide) (br_f (by decide) (br_f (by decide) (br_f (by decide) (br_f (by decide) (br_f (by decide) (br_f (by decide) (br_f (by decide) (br_f (by decide) (br_t rfl h))))))))))))))
  have toY : ∀ post : Int32 → SY → Prop, ((rd < 3 → post 5 (yr_g v rd n ck cv agk agv agl)) ∧ (3 ≤ rd → pqY_item_194 post (nI lv) (nI 13) (nI rd) (nI 3) (cv (rd - 1)) (nI (ck (rd - 1))) (cv (rd - 2)) (nI (ck (rd - 2))) (yr_g v rd n ck cv agk agv agl))) → wpY_item post (yr_g v rd n ck cv agk agv agl) (nI p) (nI lv) := by
    intro post h
    rw [we_Y_item, yr_g_kinds, yr_g_args, yr_g_copyDepth, y7, y8, sv_naA (by omega), hk, nI_clamp (show p < 2 ^ 31 by omega)]
    refine ⟨hb, nm_e ⟨hb, nm_e ?_⟩⟩
    refine br_t rfl ?_
    rw [pqY_item_53_e]
    refine br_f (by decide) (br_f (by decide) (br_f (by decide) (pk_le 3 rd (fun hle => ?_) (fun hgt => h.1 (by omega)) rfl rfl (by omega) (by omega))))
    have e1 : nI rd - 1 = nI (rd - 1) := pk_sub (b := 1) (by omega)
    have e2 : nI rd - 2 = nI (rd - 2) := pk_sub (b := 2) (by omega)
    have i1 : vp_in (nI (rd - 1)) 16 := vp_in_nI (by omega) (by omega)
    rw [e1, yr_g_copyVal, yr_g_copyKind, sv_naA (by omega), nI_clamp (show rd - 1 < 2 ^ 31 by omega)]
    refine ⟨i1, nm_e ⟨i1, nm_e ?_⟩⟩
    have i2 : vp_in (nI (rd - 2)) 16 := vp_in_nI (by omega) (by omega)
    rw [e2, nI_clamp (show rd - 2 < 2 ^ 31 by omega)]
    refine br_f (by decide) ⟨i2, ?_⟩
    rw [pqY_item_173_e, yr_g_copyKind, e2, sv_naA (by omega)]
    exact br_f (by decide) ⟨i2, h.2 hle⟩
  by_cases e1 : rd < 3
  · refine Or.inl ⟨5, by omega, by omega, fun post h => toX post ?_, fun post h => toY post ⟨fun _ => h _ _ _ _ _ _ _, fun z => by omega⟩⟩
    rw [we_X_runIf, xr_g_runDepth]
    exact br_f (show ¬ nI 3 ≤ nI rd from nI_ge e1 (by omega)) (h _ _ _ _ _ _ _ _ _)
  have ex : nI rd - 1 = nI (rd - 1) := pk_sub (b := 1) (by omega)
  have i1 : vp_in (nI (rd - 1)) 16 := vp_in_nI (by omega) (by omega)
  have c1 : nI 3 ≤ nI rd := nI_le (by omega) (by omega)
  obtain ⟨g1, g2⟩ := hag (rd - 1) (by omega)
  rw [g1, g2] at toY
  have hk1 : rk (rd - 1) ≤ 2 := by rcases hc (rd - 1) (by omega) with z | z <;> omega
  have ex2 : nI rd - 2 = nI (rd - 2) := pk_sub (b := 2) (by omega)
  have ex3 : nI rd - 3 = nI (rd - 3) := pk_sub (b := 3) (by omega)
  have i2 : vp_in (nI (rd - 2)) 16 := vp_in_nI (by omega) (by omega)
  have i3 : vp_in (nI (rd - 3)) 16 := vp_in_nI (by omega) (by omega)
  obtain ⟨g3, g4⟩ := hag (rd - 2) (by omega)
  obtain ⟨g5, g6⟩ := hag (rd - 3) (by omega)
  rw [g3, g4] at toY
  have hk2 : rk (rd - 2) ≤ 2 := by rcases hc (rd - 2) (by omega) with z | z <;> omega
  have hk3 : rk (rd - 3) ≤ 2 := by rcases hc (rd - 3) (by omega) with z | z <;> omega
  have openY : ∀ post : Int32 → SY → Prop, (rk (rd - 1) = 2 → rk (rd - 2) = 2 → rk (rd - 3) = 1 → (lv = ml → post 3 (yr_g v (rd - 3) n ck cv agk agv agl)) ∧ (lv ≠ ml → (rv (rd - 3) = 0 → pqY_item_427 post (nI lv) (rv (rd - 1)) (yr_g v (rd - 3) n ck cv agk agv agl)) ∧ (¬ rv (rd - 3) = 0 → pqY_item_427 post (nI lv) (rv (rd - 2)) (yr_g v (rd - 3) n ck cv agk agv agl)))) → (¬ (rk (rd - 1) = 2 ∧ rk (rd - 2) = 2) → post 7 (yr_g v (rd - 3) n ck cv agk agv agl)) → (rk (rd - 1) = 2 → rk (rd - 2) = 2 → rk (rd - 3) ≠ 1 → post 6 (yr_g v (rd - 3) n ck cv agk agv agl)) → wpY_item post (yr_g v rd n ck cv agk agv agl) (nI p) (nI lv) := by
    intro post h1 h2 h3
    refine toY post ⟨fun z => by omega, fun _ => ?_⟩
    rw [pqY_item_194_e, yr_g_copyDepth]
    refine br_f (by decide) (nm_r (pk_sub (a := rd) (b := 3) (by omega)) ?_)
    rw [yr_s1]
    refine br_f (by decide) (br_f (by decide) (br_f (by decide) (br_f (by decide) (br_f (by decide) (pk_eq (rk (rd - 1)) 2 (fun z => ?_) (fun z => h2 (fun y => z y.1)) rfl rfl (by omega) (by omega))))))
    refine br_t rfl (pk_eq (rk (rd - 2)) 2 (fun z2 => ?_) (fun z2 => h2 (fun y => z2 y.2)) rfl rfl (by omega) (by omega))
    rw [pqY_item_355_e, yr_g_copyKind, ex3, sv_naA (by omega), g5]
    refine br_t rfl ⟨i3, pk_eq (rk (rd - 3)) 1 (fun z3 => ?_) (fun z3 => h3 z z2 z3) rfl rfl (by omega) (by omega)⟩
    rw [pqY_item_377_e, yr_g_maxLevels, y3]
    refine pk_eq lv ml (h1 z z2 z3).1 (fun ne => br_f (by decide) ?_) rfl rfl (by omega) (by omega)
    rw [pqY_item_402_e, yr_g_copyVal, ex3, nI_clamp (show rd - 3 < 2 ^ 31 by omega), g6]
    refine br_t rfl ⟨i3, ?_⟩
    rw [pqY_item_425_e]
    exact (h1 z z2 z3).2 ne
  have openX : ∀ post : Int32 → SX → Prop, (rk (rd - 1) = 2 → rk (rd - 2) = 2 → rk (rd - 3) = 1 → (lv = ml → post 3 (xr_g c rd lv sp rk rv (sv_un fp lv nx) fe sk sv)) ∧ (lv ≠ ml → (rv (rd - 3) = 0 → pqX_runIf_121 (fun r u => post r u) (rv (rd - 1)) (xr_g c (rd - 3) lv sp rk rv (sv_un fp lv nx) fe sk sv)) ∧ (¬ rv (rd - 3) = 0 → pqX_runIf_121 (fun r u => post r u) (rv (rd - 2)) (xr_g c (rd - 3) lv sp rk rv (sv_un fp lv nx) fe sk sv)))) → (¬ (rk (rd - 1) = 2 ∧ rk (rd - 2) = 2) → post 7 (xr_g c rd lv sp rk rv (sv_un fp lv nx) fe sk sv)) → (rk (rd - 1) = 2 → rk (rd - 2) = 2 → rk (rd - 3) ≠ 1 → post 6 (xr_g c rd lv sp rk rv (sv_un fp lv nx) fe sk sv)) → wpX_runIf (fun r u => post r u) (xr_g c rd lv sp rk rv (sv_un fp lv nx) fe sk sv) := by
    intro post h1 h2 h3
    rw [we_X_runIf, xr_g_runDepth, xr_g_runKind, xr_g_level, xr_g_maxLevels, xr_g_runValue, x3, ex, ex2, ex3, sv_naA (show rd - 1 < 2 ^ 31 by omega), sv_naA (show rd - 2 < 2 ^ 31 by omega), sv_naA (show rd - 3 < 2 ^ 31 by omega)]
    have ex4 : nI (rd - 3) + 1 = nI (rd - 2) := by rw [nI_1, show rd - 3 + 1 = rd - 2 by omega]
    have ex5 : nI (rd - 3) + 2 = nI (rd - 1) := by rw [show (2 : Int32) = nI 2 from rfl, nI_add, show rd - 3 + 2 = rd - 1 by omega]
    refine br_t c1 ⟨i1, pk_eq (rk (rd - 1)) 2 (fun z => ⟨i2, pk_eq (rk (rd - 2)) 2 (fun z2 => ⟨i3, pk_eq (rk (rd - 3)) 1 (fun z3 => pk_eq lv ml (h1 z z2 z3).1 (fun ne => nm_e ⟨i3, ?_⟩) rfl rfl (by omega) (by omega)) (fun z3 => h3 z z2 z3) rfl rfl (by omega) (by omega)⟩) (fun z2 => h2 (fun y => z2 y.2)) rfl rfl (by omega) (by omega)⟩) (fun z => h2 (fun y => z y.1)) rfl rfl (by omega) (by omega)⟩
    rw [ex4, ex5, nI_clamp (show rd - 1 < 2 ^ 31 by omega), nI_clamp (show rd - 2 < 2 ^ 31 by omega), nI_clamp (show rd - 3 < 2 ^ 31 by omega), xr_s1]
    exact ⟨fun z0 => ⟨i1, ((h1 z z2 z3).2 ne).1 z0⟩, fun z0 => ⟨i2, ((h1 z z2 z3).2 ne).2 z0⟩⟩
  by_cases k2 : rk (rd - 1) = 2 ∧ rk (rd - 2) = 2
  · by_cases k3 : rk (rd - 3) = 1
    · by_cases e : lv = ml
      · exact Or.inl ⟨3, by omega, by omega, fun post h => toX post (openX post (fun _ _ _ => ⟨fun _ => h _ _ _ _ _ _ _ _ _, fun z => absurd e z⟩) (fun z => absurd k2 z) (fun _ _ z => absurd k3 z)), fun post h => openY post (fun _ _ _ => ⟨fun _ => h _ _ _ _ _ _ _, fun z => absurd e z⟩) (fun z => absurd k2 z) (fun _ _ z => absurd k3 z)⟩
      · have hq : rl_q kd ln cnt (rv (rd - 1)) := by
          rcases hc (rd - 1) (by omega) with z | z
          · omega
          · exact z.2
        have hq2 : rl_q kd ln cnt (rv (rd - 2)) := by
          rcases hc (rd - 2) (by omega) with z | z
          · omega
          · exact z.2
        have fin : ∀ x, rl_q kd ln cnt x → (∀ post : Int32 → SX → Prop, pqX_runIf_121 (fun r u => post r u) x (xr_g c (rd - 3) lv sp rk rv (sv_un fp lv nx) fe sk sv) → wpX_runIf (fun r u => post r u) (xr_g c rd lv sp rk rv (sv_un fp lv nx) fe sk sv)) → (∀ post : Int32 → SY → Prop, pqY_item_427 post (nI lv) x (yr_g v (rd - 3) n ck cv agk agv agl) → wpY_item post (yr_g v rd n ck cv agk agv agl) (nI p) (nI lv)) → rn_O c v kd ln cnt mc ml rd lv sp rk rv fp fe sk sv n ck cv agk agv agl p nx := by
          intro x hx gX gY
          obtain ⟨q, qe, q1, q2, M, F, hkq⟩ := fr_quot A hx
          rw [qe] at gX gY
          have hn' := hn (by omega)
          obtain ⟨n', k', v', l', e1, gb⟩ := ry_427 lv (rd - 3) n ck cv agk agv agl A y7 M q2 F hkq (by omega)
          refine Or.inr (Or.inr ⟨rd - 3, q + 1, mt q, 0, 0, by omega, by omega, F, Or.inl rfl, fun post h => toX post (gX post ?_), n', k', v', l', e1, fun post h => gY post (gb _ h)⟩)
          rw [pqX_runIf_121_e, nI_1 q, xr_g_match, x10, sv_naA (by omega)]
          exact ⟨vp_in_nI (by omega) (by omega), rx_enter (by omega) (h sv (fun z => absurd rfl z) (fun _ => rfl))⟩
        by_cases z0 : rv (rd - 3) = 0
        · exact fin _ hq (fun post h => openX post (fun _ _ _ => ⟨fun z => absurd z e, fun _ => ⟨fun _ => h, fun z => absurd z0 z⟩⟩) (fun z => absurd k2 z) (fun _ _ z => absurd k3 z)) (fun post h => openY post (fun _ _ _ => ⟨fun z => absurd z e, fun _ => ⟨fun _ => h, fun z => absurd z0 z⟩⟩) (fun z => absurd k2 z) (fun _ _ z => absurd k3 z))
        · exact fin _ hq2 (fun post h => openX post (fun _ _ _ => ⟨fun z => absurd z e, fun _ => ⟨fun z => absurd z z0, fun _ => h⟩⟩) (fun z => absurd k2 z) (fun _ _ z => absurd k3 z)) (fun post h => openY post (fun _ _ _ => ⟨fun z => absurd z e, fun _ => ⟨fun z => absurd z z0, fun _ => h⟩⟩) (fun z => absurd k2 z) (fun _ _ z => absurd k3 z))
    · exact Or.inl ⟨6, by omega, by omega, fun post h => toX post (openX post (fun _ _ z => absurd z k3) (fun z => absurd k2 z) (fun _ _ _ => h _ _ _ _ _ _ _ _ _)), fun post h => openY post (fun _ _ z => absurd z k3) (fun z => absurd k2 z) (fun _ _ _ => h _ _ _ _ _ _ _)⟩
  · exact Or.inl ⟨7, by omega, by omega, fun post h => toX post (openX post (fun z z2 => absurd ⟨z, z2⟩ k2) (fun _ => h _ _ _ _ _ _ _ _ _) (fun z z2 => absurd ⟨z, z2⟩ k2)), fun post h => openY post (fun z z2 => absurd ⟨z, z2⟩ k2) (fun _ => h _ _ _ _ _ _ _) (fun z z2 => absurd ⟨z, z2⟩ k2)⟩
end
end
section
/-! printed by gen/runm.py: the lockstep of the run loops -/
section
variable {c : SX} {v : SY} {mw mc ml mf ot cnt cc : Nat} {kd mt ln wt tx os ck0 : Nat → Nat} {ag cv0 : Nat → Int32} {fw : Nat → List Nat}
variable {rd lv sp : Nat} {rk fp fe sk : Nat → Nat} {rv sv : Nat → Int32} {n : Nat} {ck agk agl : Nat → Nat} {cv agv : Nat → Int32} {p nx : Nat}
theorem rn_all (B : mc ≤ 16 ∧ ml ≤ 32) (hX : rl_X mw mc ml mf ot cnt cc kd mt ln wt tx os ck0 ag cv0 c) (hY : rl_Y mw mc ml mf cnt cc kd ln ck0 ag cv0 v) (A : rl_A ot cnt kd mt ln wt tx os ag fw) (hr : rd ≤ mc) (hl : lv ≤ ml) (hc : rl_c kd ln rk rv cnt rd) (hag : ∀ i, i < rd → ck i = rk i ∧ cv i = rv i) (hn : rn_h lv ml n) (hp : p < 256) (hnx : nx ≤ 256) (n4 : kd p ≠ 4) (k1 : 1 ≤ kd p) (k13 : kd p ≤ 13) (hv : kd p = 2 → rl_v cnt (ag p)) (hq : kd p = 3 → rl_q kd ln cnt (nI p)) : rn_O c v kd ln cnt mc ml rd lv sp rk rv fp fe sk sv n ck cv agk agv agl p nx := by
  by_cases e : kd p = 1
  · exact rn_1 B hX hY A hr hl hc hag hn hp hnx e
  rename (¬ kd p = 1) => e1
  by_cases e : kd p = 2
  · exact rn_2 B hX hY A hr hl hc hag hn hp hnx e (hv e)
  rename (¬ kd p = 2) => e2
  by_cases e : kd p = 3
  · exact rn_3 B hX hY A hr hl hc hag hn hp hnx e (hq e)
  rename (¬ kd p = 3) => e3
  by_cases e : kd p = 5
  · exact rn_5 B hX hY A hr hl hc hag hn hp hnx e
  rename (¬ kd p = 5) => e5
  by_cases e : kd p = 6
  · exact rn_6 B hX hY A hr hl hc hag hn hp hnx e
  rename (¬ kd p = 6) => e6
  by_cases e : kd p = 7
  · exact rn_7 B hX hY A hr hl hc hag hn hp hnx e
  rename (¬ kd p = 7) => e7
  by_cases e : kd p = 8
  · exact rn_8 B hX hY A hr hl hc hag hn hp hnx e
  rename (¬ kd p = 8) => e8
  by_cases e : kd p = 9
  · exact rn_9 B hX hY A hr hl hc hag hn hp hnx e
  rename (¬ kd p = 9) => e9
  by_cases e : kd p = 10
  · exact rn_10 B hX hY A hr hl hc hag hn hp hnx e
  rename (¬ kd p = 10) => e10
  by_cases e : kd p = 11
  · exact rn_11 B hX hY A hr hl hc hag hn hp hnx e
  rename (¬ kd p = 11) => e11
  by_cases e : kd p = 12
  · exact rn_12 B hX hY A hr hl hc hag hn hp hnx e
  rename (¬ kd p = 12) => e12
  exact rn_13 B hX hY A hr hl hc hag hn hp hnx (by omega)
def ro_O (c : SX) (v : SY) (kd ln : Nat → Nat) (cnt mc : Nat) (PX : (Int32 → SX → Prop) → Prop) (PY : (Int32 → SY → Prop) → Prop) : Prop :=
  (∃ r, 2 ≤ r ∧ r < 8 ∧ (∀ post : Int32 → SX → Prop, (∀ d l s a b e f g h, post (nI r) (xr_g c d l s a b e f g h)) → PX post) ∧ (∀ post : Int32 → SY → Prop, (∀ d m a b e f g, post (nI r) (yr_g v d m a b e f g)) → PY post)) ∨
  (∃ d K V K' V', d ≤ mc ∧ rl_c kd ln K V cnt d ∧ (∀ i, i < d → K' i = K i ∧ V' i = V i) ∧ (∀ post : Int32 → SX → Prop, (∀ l s e f g h, pqX_run_74 post 1 (xr_g c d l s K V e f g h)) → PX post) ∧ (∀ post : Int32 → SY → Prop, (∀ m e f g, pqY_run_213 post 1 (yr_g v d m K' V' e f g)) → PY post))
theorem ro_mono {PX PX' : (Int32 → SX → Prop) → Prop} {PY PY' : (Int32 → SY → Prop) → Prop} (h : ro_O c v kd ln cnt mc PX PY) (hx : ∀ post, PX post → PX' post) (hy : ∀ post, PY post → PY' post) : ro_O c v kd ln cnt mc PX' PY' := by
  rcases h with ⟨r, r1, r2, g1, g2⟩ | ⟨d, K, V, K', V', d1, d2, d3, g1, g2⟩
  · exact Or.inl ⟨r, r1, r2, fun post h => hx post (g1 post h), fun post h => hy post (g2 post h)⟩
  · exact Or.inr ⟨d, K, V, K', V', d1, d2, d3, fun post h => hx post (g1 post h), fun post h => hy post (g2 post h)⟩
theorem rx_fail {post : Int32 → SX → Prop} {r N : Nat} {x : Int32} {u : SX} (r1 : 2 ≤ r) (r2 : r < 8) (h : post (nI r) u) : lqX_run_19 post (N + 1) (nI r) x u := by
  have n1 : ¬ nI r = 1 := fun z => by rw [show (1 : Int32) = nI 1 from rfl, nI_eq (by omega) (by omega)] at z; omega
  have n0 : ¬ nI r = 0 := fun z => by rw [show (0 : Int32) = nI 0 from rfl, nI_eq (by omega) (by omega)] at z; omega
  have i : pqX_run_74 post (nI r) u := by rw [pqX_run_74_e]; exact br_f n1 h
  rw [lqX_run_19_s]
  exact ⟨fun _ => i, fun _ => br_f n0 i⟩
theorem rx_done {post : Int32 → SX → Prop} {N : Nat} {x : Int32} {u : SX} (h : pqX_run_74 post 1 u) : lqX_run_19 post (N + 1) 1 x u := by
  rw [lqX_run_19_s]
  exact ⟨fun _ => h, fun _ => br_f (by decide) h⟩
theorem ry_fail {post : Int32 → SY → Prop} {r N : Nat} {x y : Int32} {u : SY} (r1 : 2 ≤ r) (r2 : r < 8) (h : post (nI r) u) : lqY_run_101 post (N + 1) y (nI r) x u := by
  have n1 : ¬ nI r = 1 := fun z => by rw [show (1 : Int32) = nI 1 from rfl, nI_eq (by omega) (by omega)] at z; omega
  have i : pqY_run_213 post (nI r) u := by rw [pqY_run_213_e]; exact br_f n1 h
  rw [lqY_run_101_s]
  exact ⟨fun _ => i, fun _ => ⟨fun _ => i, fun _ => br_f n1 i⟩⟩
theorem rx_b (h : mf ≤ 1000) : (2 : Int32) * nI mf + 2 = nI (2 * mf + 2) := by
  rw [show (2 : Int32) * nI mf = nI (2 * mf) from pk_mul 2 mf]
  exact nI_add _ 2
variable {st sy N : Nat}
theorem rx_hi {post : Int32 → SX → Prop} (m4 : xq_maxFuel c = nI mf) (m8 : xq_tokKind c = sv_na kd) (m10 : xq_match c = sv_na mt) (hmf : mf ≤ 1000) (hst : st < 2 * mf + 2) (hl : lv < 34) (hlt : fp lv < fe lv) (hfe : fe lv ≤ 256) (hsp : sp < mf) (hk : kd (fp lv) ≤ 13) (h : pqX_runItem_65 (fun r u2 => ∀ x3 : Int32, x3 = nI st + 1 → lqX_run_19 post N r x3 u2) (nI (fp lv)) (nI (fr_nx kd mt (fp lv))) (nI lv) (xr_g c rd lv (sp + 1) rk rv fp fe sk sv)) : lqX_run_19 post (N + 1) 0 (nI st) (xr_g c rd lv sp rk rv fp fe sk sv) := by
  have il : vp_in (nI lv) 34 := vp_in_nI hl (by omega)
  have hb : vp_in (nI (fp lv)) 256 := vp_in_nI (by omega) (by omega)
  rw [lqX_run_19_s, xr_g_maxFuel, m4, rx_b hmf, xr_g_level, xr_g_frameEnd, xr_g_framePos, sv_naA (by omega), sv_naA (by omega)]
  refine br_f (nI_ge hst (by omega)) (br_t rfl ⟨il, il, br_f (nI_ge hlt (by omega)) ?_⟩)
  rw [we_X_runItem, xr_g_spent, xr_g_maxFuel, m4, xr_g_level, xr_g_framePos, xr_g_tokKind, xr_g_match, m8, m10]
  refine br_f (by rw [nI_eq (by omega) (by omega)]; omega) (nm_r (nI_1 sp) ⟨il, nm_r (sv_naA (by omega)) ⟨hb, ?_⟩⟩)
  rw [sv_naA (by omega), sv_naA (by omega), xr_s5]
  refine pk_eq (kd (fp lv)) 3 (fun z => ⟨hb, ?_⟩) (fun z => ?_) rfl rfl (by omega) (by omega)
  · rw [show fr_nx kd mt (fp lv) = mt (fp lv) + 1 from if_pos z] at h
    rw [nI_1 (mt (fp lv))]; exact h
  · rw [show fr_nx kd mt (fp lv) = fp lv + 1 from if_neg z] at h
    rw [nI_1 (fp lv)]; exact h
theorem rx_hf {post : Int32 → SX → Prop} (m4 : xq_maxFuel c = nI mf) (hmf : mf ≤ 1000) (hst : st < 2 * mf + 2) (hl : lv < 34) (hlt : fp lv < fe lv) (hfe : fe lv ≤ 256) (hsp : sp = mf) (h : post 2 (xr_g c rd lv sp rk rv fp fe sk sv)) : lqX_run_19 post (N + 2) 0 (nI st) (xr_g c rd lv sp rk rv fp fe sk sv) := by
  have il : vp_in (nI lv) 34 := vp_in_nI hl (by omega)
  rw [lqX_run_19_s, xr_g_maxFuel, m4, rx_b hmf, xr_g_level, xr_g_frameEnd, xr_g_framePos, sv_naA (by omega), sv_naA (by omega)]
  refine br_f (nI_ge hst (by omega)) (br_t rfl ⟨il, il, br_f (nI_ge hlt (by omega)) ?_⟩)
  rw [we_X_runItem, xr_g_spent, xr_g_maxFuel, m4]
  exact br_t (by rw [hsp]) (nm_e (rx_fail (r := 2) (by omega) (by omega) h))
theorem rx_hl {post : Int32 → SX → Prop} (m4 : xq_maxFuel c = nI mf) (hmf : mf ≤ 1000) (hst : st < 2 * mf + 2) (hl : lv < 34) (h1 : 1 ≤ lv) (hlt : fe lv ≤ fp lv) (hfe : fp lv ≤ 256) (hs : sk lv ≤ 2)
    (g1 : sk lv = 0 → lv - 1 = 0 → lqX_run_19 post N 1 (nI (st + 1)) (xr_g c rd (lv - 1) sp rk rv fp fe sk sv))
    (g2 : sk lv = 0 → lv - 1 ≠ 0 → lqX_run_19 post N 0 (nI (st + 1)) (xr_g c rd (lv - 1) sp rk rv fp fe sk sv))
    (g3 : sk lv ≠ 0 → wpX_runPush (fun r u1 => ∀ x3 : Int32, x3 = nI st + 1 → lqX_run_19 post N r x3 u1) (xr_g c rd (lv - 1) sp rk rv fp fe sk sv) (nI (sk lv)) (sv lv)) : lqX_run_19 post (N + 1) 0 (nI st) (xr_g c rd lv sp rk rv fp fe sk sv) := by
  have il : vp_in (nI lv) 34 := vp_in_nI hl (by omega)
  rw [lqX_run_19_s, xr_g_maxFuel, m4, rx_b hmf, xr_g_level, xr_g_frameEnd, xr_g_framePos, sv_naA (by omega), sv_naA (by omega)]
  refine br_f (nI_ge hst (by omega)) (br_t rfl ⟨il, il, br_t (nI_le hlt (by omega)) ?_⟩)
  rw [we_X_leave, xr_g_level, xr_g_savedKind, xr_g_savedValue, sv_naA (by omega), nI_clamp (show lv < 2 ^ 31 by omega)]
  refine nm_r (pk_sub (b := 1) h1) ⟨il, ?_⟩
  rw [xr_s6]
  refine pk_eq (sk lv) 0 (fun z => pk_eq (lv - 1) 0 (fun z2 => nm_r (nI_1 st) (g1 z z2)) (fun z2 => nm_r (nI_1 st) (g2 z z2)) rfl rfl (by omega) (by omega)) (fun z => ⟨il, il, g3 z⟩) rfl rfl (by omega) (by omega)
theorem ry_hd {post : Int32 → SY → Prop} (hsy : sy < 2100) (h : pqY_run_213 post 1 (yr_g v rd 0 ck cv agk agv agl)) : lqY_run_101 post (N + 1) (nI sp) 1 (nI sy) (yr_g v rd 0 ck cv agk agv agl) := by
  rw [lqY_run_101_s, yr_g_agenda]
  exact br_f (show ¬ nI 2100 ≤ nI sy from nI_ge hsy (by omega)) (br_t (show nI 0 ≤ nI 0 from nI_le (by omega) (by omega)) h)
theorem ry_hi {post : Int32 → SY → Prop} (m4 : yq_maxFuel v = nI mf) (hmf : mf ≤ 1000) (hsy : sy < 2100) (hn : n < 1100) (hsp : sp < mf) (a1 : agk n = 0) (a2 : agv n = nI p) (a3 : agl n = lv) (h : wpY_item (fun r u1 => ∀ x4 : Int32, x4 = nI sy + 1 → lqY_run_101 post N (nI (sp + 1)) r x4 u1) (yr_g v rd n ck cv agk agv agl) (nI p) (nI lv)) : lqY_run_101 post (N + 1) (nI sp) 1 (nI sy) (yr_g v rd (n + 1) ck cv agk agv agl) := by
  have hi : vp_in (nI n) 1100 := vp_in_nI hn (by omega)
  rw [lqY_run_101_s, yr_g_agenda, yr_g_agKind, yr_g_agVal, yr_g_agLevel, yr_g_maxFuel, m4]
  refine br_f (show ¬ nI 2100 ≤ nI sy from nI_ge hsy (by omega)) (br_f (show ¬ nI (n + 1) ≤ nI 0 from nI_ge (by omega) (by omega)) (br_t rfl (nm_r (nI_pred n) ⟨hi, ?_⟩)))
  rw [sv_naA (by omega), sv_naA (by omega), nI_clamp (show n < 2 ^ 31 by omega), a1, a2, a3, yr_s4]
  exact br_t rfl (nm_r (nI_1 sp) (br_f (by rw [nI_eq (by omega) (by omega)]; omega) ⟨hi, hi, h⟩))
theorem ry_hf {post : Int32 → SY → Prop} (m4 : yq_maxFuel v = nI mf) (hmf : mf ≤ 1000) (hsy : sy < 2100) (hn : n < 1100) (hsp : sp = mf) (a1 : agk n = 0) (h : post 2 (yr_g v rd n ck cv agk agv agl)) : lqY_run_101 post (N + 2) (nI sp) 1 (nI sy) (yr_g v rd (n + 1) ck cv agk agv agl) := by
  have hi : vp_in (nI n) 1100 := vp_in_nI hn (by omega)
  rw [lqY_run_101_s, yr_g_agenda, yr_g_agKind, yr_g_agVal, yr_g_agLevel, yr_g_maxFuel, m4]
  refine br_f (show ¬ nI 2100 ≤ nI sy from nI_ge hsy (by omega)) (br_f (show ¬ nI (n + 1) ≤ nI 0 from nI_ge (by omega) (by omega)) (br_t rfl (nm_r (nI_pred n) ⟨hi, ?_⟩)))
  rw [sv_naA (by omega), a1, yr_s4]
  exact br_t rfl (nm_r (nI_1 sp) (br_t (by rw [hsp]) (nm_e (ry_fail (r := 2) (by omega) (by omega) h))))
theorem ry_hp {post : Int32 → SY → Prop} {k : Nat} {x : Int32} (hsy : sy < 2100) (hn : n < 1100) (a1 : agk n = k) (a2 : agv n = x) (k1 : k ≠ 0) (k2 : k ≤ 2) (h : wpY_put (fun r u1 => ∀ x4 : Int32, x4 = nI sy + 1 → lqY_run_101 post N (nI sp) r x4 u1) (yr_g v rd n ck cv agk agv agl) (nI k) x) : lqY_run_101 post (N + 1) (nI sp) 1 (nI sy) (yr_g v rd (n + 1) ck cv agk agv agl) := by
  have hi : vp_in (nI n) 1100 := vp_in_nI hn (by omega)
  rw [lqY_run_101_s, yr_g_agenda, yr_g_agKind, yr_g_agVal]
  refine br_f (show ¬ nI 2100 ≤ nI sy from nI_ge hsy (by omega)) (br_f (show ¬ nI (n + 1) ≤ nI 0 from nI_ge (by omega) (by omega)) (br_t rfl (nm_r (nI_pred n) ⟨hi, ?_⟩)))
  rw [sv_naA (by omega), nI_clamp (show n < 2 ^ 31 by omega), a1, a2, yr_s4]
  exact br_f (show ¬ nI k = nI 0 by rw [nI_eq (by omega) (by omega)]; exact k1) ⟨hi, hi, h⟩
theorem fr_32 (A : rl_A ot cnt kd mt ln wt tx os ag fw) {p e : Nat} (h : fr_ok kd ln cnt p e) : p ≤ e ∧ e ≤ 256 ∧ e - p ≤ 32 := by
  obtain ⟨w, w1, w2, w3, w4, w5, w6⟩ := h
  have hcn := A.1.1
  have lnw := (wd_ln A.1 w1).2
  omega
theorem sv_if {s : Nat} {sv sv' : Nat → Int32} {l : Nat} {x : Int32} (h1 : s ≠ 0 → sv' = upd sv l x) (h2 : s = 0 → sv' = sv) : sv' = if s = 0 then sv else upd sv l x := by
  by_cases e : s = 0
  · rw [if_pos e]; exact h2 e
  · rw [if_neg e]; exact h1 e
theorem sv_ifo {s : Nat} {sv : Nat → Int32} {l j : Nat} {x : Int32} (h : j ≠ l) : (if s = 0 then sv else upd sv l x) j = sv j := by
  by_cases e : s = 0
  · rw [if_pos e]
  · rw [if_neg e, pk_un h]
theorem sv_ifs {s : Nat} {sv : Nat → Int32} {l : Nat} {x : Int32} (e : s ≠ 0) : (if s = 0 then sv else upd sv l x) l = x := by
  rw [if_neg e, pk_us]
/-- the frames of a run -/
def rm_F (kd ln : Nat → Nat) (cnt : Nat) (fp fe sk : Nat → Nat) (sv : Nat → Int32) (lv : Nat) : Prop := ∀ l, 1 ≤ l → l ≤ lv → fr_ok kd ln cnt (fp l) (fe l) ∧ (sk l = 0 ∨ sk l = 1 ∨ (sk l = 2 ∧ rl_q kd ln cnt (sv l)))
theorem rm_main (B : mc ≤ 16 ∧ ml ≤ 32) (hmf : mf ≤ 1000) (hX : rl_X mw mc ml mf ot cnt cc kd mt ln wt tx os ck0 ag cv0 c) (hY : rl_Y mw mc ml mf cnt cc kd ln ck0 ag cv0 v) (A : rl_A ot cnt kd mt ln wt tx os ag fw) : ∀ (m lv sp rd st sy : Nat) (rk : Nat → Nat) (rv : Nat → Int32) (fp fe sk : Nat → Nat) (sv : Nat → Int32) (n : Nat) (ck : Nat → Nat) (cv : Nat → Int32) (agk : Nat → Nat) (agv : Nat → Int32) (agl : Nat → Nat),
    2 * (mf - sp) + lv ≤ m → 1 ≤ lv → lv ≤ ml → sp ≤ mf → rd ≤ mc → st + 2 * (mf - sp) + lv ≤ 2 * mf + 1 → sy + cc_n sk lv ≤ 2 * sp → rl_c kd ln rk rv cnt rd → (∀ i, i < rd → ck i = rk i ∧ cv i = rv i) → rm_F kd ln cnt fp fe sk sv lv → sk 1 = 0 → ag_L agk agv agl n = fr_L kd fp fe sk sv lv →
    ro_O c v kd ln cnt mc (fun post => ∃ N, lqX_run_19 post N 0 (nI st) (xr_g c rd lv sp rk rv fp fe sk sv)) (fun post => ∃ N, lqY_run_101 post N (nI sp) 1 (nI sy) (yr_g v rd n ck cv agk agv agl)) := by
  have x2 := hX.2.1
  have x4 := hX.2.2.2.1
  have x8 := hX.2.2.2.2.2.2.2.1
  have x10 := hX.2.2.2.2.2.2.2.2.2.1
  have y2 := hY.2.1
  have y4 := hY.2.2.2.1
  intro m
  induction m with
  | zero => intro lv sp rd st sy rk rv fp fe sk sv n ck cv agk agv agl hm h1; omega
  | succ m ih =>
    intro lv sp rd st sy rk rv fp fe sk sv n ck cv agk agv agl hm h1 hl hsp hr hst hsy hc hag hF hs1 hL
    obtain ⟨l, rfl⟩ : ∃ l, lv = l + 1 := ⟨lv - 1, by omega⟩
    obtain ⟨F, S⟩ := hF (l + 1) h1 (Nat.le_refl _)
    obtain ⟨f1, f2, f3⟩ := fr_32 A F
    have hlen := ag_len (k := agk) (v := agv) (l := agl) n
    rw [hL] at hlen
    have hfl := fr_len (kd := kd) (fp := fp) (fe := fe) (sk := sk) (sv := sv) (l + 1) (fun j j1 j2 => (fr_32 A (hF j j1 j2).1).2.2)
    have ecc : cc_n sk (l + 1) = cc_n sk l + (if sk (l + 1) = 0 then 0 else 1) := rfl
    have S2 : sk (l + 1) ≤ 2 := by rcases S with z | z | z <;> omega
    have hFl : rm_F kd ln cnt fp fe sk sv l := fun j j1 j2 => hF j j1 (by omega)
    by_cases hlt : fp (l + 1) < fe (l + 1)
    · obtain ⟨nF, n4, k1, k13, hv, hq, nx1, nx2, hit⟩ := fr_next A F hlt
      have hL' : ag_L agk agv agl n = (0, nI (fp (l + 1)), l + 1) :: (it_L kd (fr_nx kd mt (fp (l + 1))) (l + 1) (fr_nx kd mt (fp (l + 1))) (fe (l + 1) - fr_nx kd mt (fp (l + 1))) ++ (fr_c sk sv (l + 1) ++ fr_L kd fp fe sk sv l)) := by
        rw [hL]
        show it_L kd (fp (l + 1)) (l + 1) (fp (l + 1)) (fe (l + 1) - fp (l + 1)) ++ _ = _
        rw [hit (l + 1)]; rfl
      cases n with
      | zero => exact absurd hL' (by intro z; cases z)
      | succ n =>
        obtain ⟨q1, q2⟩ := List.cons.inj hL'
        obtain ⟨a1, q3⟩ := Prod.mk.inj q1
        obtain ⟨a2, a3⟩ := Prod.mk.inj q3
        have nx3 : fr_nx kd mt (fp (l + 1)) ≤ fe (l + 1) := (fr_32 A nF).1
        have q2' : ag_L agk agv agl n = fr_L kd (sv_un fp (l + 1) (fr_nx kd mt (fp (l + 1)))) fe sk sv (l + 1) := by
          rw [q2]
          show _ = it_L kd (sv_un fp (l + 1) (fr_nx kd mt (fp (l + 1))) (l + 1)) (l + 1) (sv_un fp (l + 1) (fr_nx kd mt (fp (l + 1))) (l + 1)) (fe (l + 1) - sv_un fp (l + 1) (fr_nx kd mt (fp (l + 1))) (l + 1)) ++ (fr_c sk sv (l + 1) ++ fr_L kd (sv_un fp (l + 1) (fr_nx kd mt (fp (l + 1)))) fe sk sv l)
          rw [sv_us, fr_congr (fp' := sv_un fp (l + 1) (fr_nx kd mt (fp (l + 1)))) (fp := fp) l (fun j hj => ⟨sv_uo (by omega), rfl, rfl, rfl⟩)]
        have hFn : rm_F kd ln cnt (sv_un fp (l + 1) (fr_nx kd mt (fp (l + 1)))) fe sk sv (l + 1) := fun j j1 j2 => by
          by_cases z : j = l + 1
          · rw [z, sv_us]; exact ⟨nF, S⟩
          · rw [sv_uo z]; exact hF j j1 j2
        by_cases es : sp = mf
        · exact Or.inl ⟨2, by omega, by omega, fun post h => ⟨2, rx_hf (N := 0) x4 hmf (by omega) (by omega) hlt f2 es (h _ _ _ _ _ _ _ _ _)⟩, fun post h => ⟨2, ry_hf (N := 0) y4 hmf (by omega) (by omega) es a1 (h _ _ _ _ _ _ _)⟩⟩
        · have hn' : rn_h (l + 1) ml n := fun z => by omega
          have R := rn_all (c := c) (v := v) (sp := sp + 1) (fp := fp) (fe := fe) (sk := sk) (sv := sv) (agk := agk) (agv := agv) (agl := agl) (p := fp (l + 1)) (nx := fr_nx kd mt (fp (l + 1))) B hX hY A hr hl hc hag hn' (by omega) nx1 n4 k1 k13 hv hq
          rcases R with ⟨r, r1, r2, gX, gY⟩ | ⟨d, K, V, K', V', d1, d2, d3, gX, gY⟩ | ⟨d, a, b, s, x, l1, d1, Fa, hs, gX, n', k', v', l', eL, gY⟩
          · exact Or.inl ⟨r, r1, r2, fun post h => ⟨2, rx_hi (N := 1) x4 x8 x10 hmf (by omega) (by omega) hlt f2 (by omega) k13 (gX _ (fun d l s a b e f g i => fun x3 _ => rx_fail (N := 0) r1 r2 (h d l s a b e f g i)))⟩, fun post h => ⟨2, ry_hi (N := 1) y4 hmf (by omega) (by omega) (by omega) a1 a2 a3 (gY _ (fun d m a b e f g => fun x3 _ => ry_fail (N := 0) r1 r2 (h d m a b e f g)))⟩⟩
          · refine ro_mono (ih (l + 1) (sp + 1) d (st + 1) (sy + 1) K V (sv_un fp (l + 1) (fr_nx kd mt (fp (l + 1)))) fe sk sv n K' V' agk agv agl (by omega) h1 hl (by omega) d1 (by omega) (by omega) d2 d3 hFn hs1 q2') (fun post h => ?_) (fun post h => ?_)
            · obtain ⟨N, h⟩ := h
              exact ⟨N + 1, rx_hi x4 x8 x10 hmf (by omega) (by omega) hlt f2 (by omega) k13 (gX _ (nm_r (nI_1 st) h))⟩
            · obtain ⟨N, h⟩ := h
              exact ⟨N + 1, ry_hi y4 hmf (by omega) (by omega) (by omega) a1 a2 a3 (gY _ (nm_r (nI_1 sy) h))⟩
          · have e2 : cc_n (sv_un sk (l + 1 + 1) s) (l + 1 + 1) = cc_n sk (l + 1) + (if s = 0 then 0 else 1) := by
              show cc_n (sv_un sk (l + 1 + 1) s) (l + 1) + (if sv_un sk (l + 1 + 1) s (l + 1 + 1) = 0 then 0 else 1) = _
              rw [sv_us, cc_congr (sk' := sv_un sk (l + 1 + 1) s) (sk := sk) (l + 1) (fun j hj => sv_uo (by omega))]
            have e3 : (if s = 0 then 0 else 1) ≤ 1 := by split <;> omega
            have hFc : rm_F kd ln cnt (sv_un (sv_un fp (l + 1) (fr_nx kd mt (fp (l + 1)))) (l + 1 + 1) a) (sv_un fe (l + 1 + 1) b) (sv_un sk (l + 1 + 1) s) (if s = 0 then sv else upd sv (l + 1 + 1) x) (l + 1 + 1) := fun j j1 j2 => by
              by_cases z : j = l + 1 + 1
              · rw [z, sv_us, sv_us, sv_us]
                refine ⟨Fa, ?_⟩
                rcases hs with y | y | ⟨y, y'⟩
                · exact Or.inl y
                · exact Or.inr (Or.inl y)
                · refine Or.inr (Or.inr ⟨y, ?_⟩)
                  rw [sv_ifs (by omega)]; exact y'
              · rw [sv_uo z, sv_uo z, sv_uo z, sv_ifo z]
                exact hFn j j1 (by omega)
            have eL' : ag_L k' v' l' n' = fr_L kd (sv_un (sv_un fp (l + 1) (fr_nx kd mt (fp (l + 1)))) (l + 1 + 1) a) (sv_un fe (l + 1 + 1) b) (sv_un sk (l + 1 + 1) s) (if s = 0 then sv else upd sv (l + 1 + 1) x) (l + 1 + 1) := by
              rw [eL, q2']
              show _ = it_L kd (sv_un (sv_un fp (l + 1) (fr_nx kd mt (fp (l + 1)))) (l + 1 + 1) a (l + 1 + 1)) (l + 1 + 1) (sv_un (sv_un fp (l + 1) (fr_nx kd mt (fp (l + 1)))) (l + 1 + 1) a (l + 1 + 1)) (sv_un fe (l + 1 + 1) b (l + 1 + 1) - sv_un (sv_un fp (l + 1) (fr_nx kd mt (fp (l + 1)))) (l + 1 + 1) a (l + 1 + 1)) ++ (fr_c (sv_un sk (l + 1 + 1) s) (if s = 0 then sv else upd sv (l + 1 + 1) x) (l + 1 + 1) ++ fr_L kd (sv_un (sv_un fp (l + 1) (fr_nx kd mt (fp (l + 1)))) (l + 1 + 1) a) (sv_un fe (l + 1 + 1) b) (sv_un sk (l + 1 + 1) s) (if s = 0 then sv else upd sv (l + 1 + 1) x) (l + 1))
              rw [sv_us, sv_us, fr_congr (l + 1) (fun j hj => ⟨sv_uo (k := l + 1 + 1) (by omega), sv_uo (by omega), sv_uo (by omega), sv_ifo (by omega)⟩)]
              unfold fr_c
              rw [sv_us]
              by_cases z : s = 0
              · rw [if_pos z, if_pos z]
              · rw [if_neg z, if_neg z, if_neg z, pk_us]; rfl
            refine ro_mono (ih (l + 1 + 1) (sp + 1) d (st + 1) (sy + 1) rk rv (sv_un (sv_un fp (l + 1) (fr_nx kd mt (fp (l + 1)))) (l + 1 + 1) a) (sv_un fe (l + 1 + 1) b) (sv_un sk (l + 1 + 1) s) (if s = 0 then sv else upd sv (l + 1 + 1) x) n' ck cv k' v' l' (by omega) (by omega) (by omega) (by omega) (by omega) (by omega) (by omega) (fun i hi => hc i (by omega)) (fun i hi => hag i (by omega)) hFc (by rw [sv_uo (by omega)]; exact hs1) eL') (fun post h => ?_) (fun post h => ?_)
            · obtain ⟨N, h⟩ := h
              refine ⟨N + 1, rx_hi x4 x8 x10 hmf (by omega) (by omega) hlt f2 (by omega) k13 (gX _ (fun sv' s1 s2 => ?_))⟩
              rw [sv_if s1 s2]
              exact nm_r (nI_1 st) h
            · obtain ⟨N, h⟩ := h
              exact ⟨N + 1, ry_hi y4 hmf (by omega) (by omega) (by omega) a1 a2 a3 (gY _ (nm_r (nI_1 sy) h))⟩
    · have ee : fe (l + 1) - fp (l + 1) = 0 := by omega
      have hL' : ag_L agk agv agl n = fr_c sk sv (l + 1) ++ fr_L kd fp fe sk sv l := by
        rw [hL]
        show it_L kd (fp (l + 1)) (l + 1) (fp (l + 1)) (fe (l + 1) - fp (l + 1)) ++ _ = _
        rw [ee]; rfl
      unfold fr_c at hL'
      by_cases s0 : sk (l + 1) = 0
      · rw [if_pos s0] at hL' ecc
        by_cases l0 : l = 0
        · rw [l0] at hL'
          have n0 : n = 0 := by
            have := ag_len (k := agk) (v := agv) (l := agl) n
            rw [hL'] at this; exact this.symm
          rw [n0]
          refine Or.inr ⟨rd, rk, rv, ck, cv, hr, hc, hag, fun post h => ⟨2, ?_⟩, fun post h => ⟨1, ry_hd (N := 0) (by omega) (h _ _ _ _)⟩⟩
          exact rx_hl (N := 1) x4 hmf (by omega) (by omega) h1 (by omega) (by omega) S2 (fun _ _ => rx_done (N := 0) (h _ _ _ _ _ _)) (fun _ z => absurd (show l + 1 - 1 = 0 by omega) z) (fun z => absurd s0 z)
        · refine ro_mono (ih l sp rd (st + 1) sy rk rv fp fe sk sv n ck cv agk agv agl (by omega) (by omega) (by omega) hsp hr (by omega) (by omega) hc hag hFl hs1 hL') (fun post h => ?_) (fun post h => h)
          obtain ⟨N, h⟩ := h
          exact ⟨N + 1, rx_hl x4 hmf (by omega) (by omega) h1 (by omega) (by omega) S2 (fun _ z => absurd (show l = 0 from z) l0) (fun _ _ => h) (fun z => absurd s0 z)⟩
      · rw [if_neg s0] at hL' ecc
        have l0 : l ≠ 0 := fun z => s0 (by rw [z]; exact hs1)
        cases n with
        | zero => exact absurd hL' (by intro z; cases z)
        | succ n =>
          obtain ⟨q1, q2⟩ := List.cons.inj (show (agk n, agv n, agl n) :: ag_L agk agv agl n = (sk (l + 1), sv (l + 1), l + 1 - 1) :: fr_L kd fp fe sk sv l from hL')
          obtain ⟨a1, q3⟩ := Prod.mk.inj q1
          obtain ⟨a2, a3⟩ := Prod.mk.inj q3
          have S' : sk (l + 1) = 1 ∨ (sk (l + 1) = 2 ∧ rl_q kd ln cnt (sv (l + 1))) := by
            rcases S with z | z
            · exact absurd z s0
            · exact z
          by_cases e : rd = mc
          · refine Or.inl ⟨4, by omega, by omega, fun post h => ⟨2, ?_⟩, fun post h => ⟨2, ?_⟩⟩
            · exact rx_hl (N := 1) x4 hmf (by omega) (by omega) h1 (by omega) (by omega) S2 (fun z _ => absurd z s0) (fun z _ => absurd z s0) (fun _ => rx_push x2 B.1 hr (fun _ => fun x3 _ => rx_fail (r := 4) (N := 0) (by omega) (by omega) (h _ _ _ _ _ _ _ _ _)) (fun z => absurd e z))
            · exact ry_hp (N := 1) (by omega) (by omega) a1 a2 s0 S2 (ry_put y2 B.1 hr (fun _ => fun x3 _ => ry_fail (r := 4) (N := 0) (by omega) (by omega) (h _ _ _ _ _ _ _)) (fun z => absurd e z))
          · refine ro_mono (ih l sp (rd + 1) (st + 1) (sy + 1) (sv_un rk rd (sk (l + 1))) (upd rv rd (sv (l + 1))) fp fe sk sv n (sv_un ck rd (sk (l + 1))) (upd cv rd (sv (l + 1))) agk agv agl (by omega) (by omega) (by omega) hsp (by omega) (by omega) (by omega) (rl_c_push hc S') (ag_push2 hag) hFl hs1 q2) (fun post h => ?_) (fun post h => ?_)
            · obtain ⟨N, h⟩ := h
              exact ⟨N + 1, rx_hl x4 hmf (by omega) (by omega) h1 (by omega) (by omega) S2 (fun z _ => absurd z s0) (fun z _ => absurd z s0) (fun _ => rx_push x2 B.1 hr (fun z => absurd z e) (fun _ => nm_r (nI_1 st) h))⟩
            · obtain ⟨N, h⟩ := h
              exact ⟨N + 1, ry_hp (by omega) (by omega) a1 a2 s0 S2 (ry_put y2 B.1 hr (fun z => absurd z e) (fun _ => nm_r (nI_1 sy) h))⟩
end
end
section
/-! run: the start, the end, and the claim -/
section
variable {c : SX} {v : SY} {mw mc ml mf ot cnt cc : Nat} {kd mt ln wt tx os ck : Nat → Nat} {ag cv : Nat → Int32} {fw : Nat → List Nat}
theorem xr_0 (u : SX) : u = xr_g u (sv_tn (xq_runDepth u)) (sv_tn (xq_level u)) (sv_tn (xq_spent u)) (sv_tna (xq_runKind u)) (xq_runValue u) (sv_tna (xq_framePos u)) (sv_tna (xq_frameEnd u)) (sv_tna (xq_savedKind u)) (xq_savedValue u) := by
  obtain ⟨a1, a2, a3, a4, a5, a6, a7, a8, a9, a10, a11, a12, a13, a14, a15, a16, a17, a18, a19, a20, a21, a22, a23, a24, a25, a26, a27, a28, a29, a30, a31, a32, a33, a34, a35, a36, a37, a38, a39, a40, a41, a42, a43, a44, a45, a46⟩ := u
  simp only [xr_g, xq_runDepth, xq_level, xq_spent, xq_runKind, xq_runValue, xq_framePos, xq_frameEnd, xq_savedKind, xq_savedValue, sv_tnaI, sv_tnI]
theorem yr_0 (u : SY) (d : Nat) : ys_copyDepth_agenda u (nI d) 0 = yr_g u d 0 (sv_tna (yq_copyKind u)) (yq_copyVal u) (sv_tna (yq_agKind u)) (yq_agVal u) (sv_tna (yq_agLevel u)) := by
  obtain ⟨a1, a2, a3, a4, a5, a6, a7, a8, a9, a10, a11, a12, a13, a14, a15, a16, a17, a18, a19, a20, a21, a22, a23, a24, a25, a26, a27, a28, a29, a30, a31, a32, a33, a34⟩ := u
  simp only [ys_copyDepth_agenda, yr_g, yq_copyKind, yq_copyVal, yq_agKind, yq_agVal, yq_agLevel, sv_tnaI]
  rfl
theorem xr_s10 {rd lv sp d l s : Nat} {rk fp fe sk : Nat → Nat} {rv sv : Nat → Int32} : xs_runDepth_level_spent (xr_g c rd lv sp rk rv fp fe sk sv) (nI d) (nI l) (nI s) = xr_g c d l s rk rv fp fe sk sv := rfl
theorem yr_s5 {rd n : Nat} {K K' agk agl : Nat → Nat} {V V' agv : Nat → Int32} : ys_copyKind_copyVal (yr_g v rd n K V agk agv agl) (sv_na K') V' = yr_g v rd n K' V' agk agv agl := rfl
theorem rx_st {w : Nat} (hw : w < 8) (hcc : cc ≤ 16) (X : rl_X mw mc ml mf ot cnt cc kd mt ln wt tx os ck ag cv c) (d l s : Nat) (fp fe sk : Nat → Nat) (sv : Nat → Int32) : ∀ (r i : Nat) (K : Nat → Nat) (V : Nat → Int32), i + r = cc → (∀ j, j < i → K j = ck j ∧ V j = cv j) → ∃ (K' : Nat → Nat) (V' : Nat → Int32), (∀ j, j < cc → K' j = ck j ∧ V' j = cv j) ∧ ∀ post : SX → Prop, post (xr_g c cc 1 0 K' V' (sv_un fp 1 (32 * w)) (sv_un fe 1 (32 * w + ln w)) (sv_un sk 1 0) sv) → lqX_startRun_2 post (nI w) (r + 1) (nI i) (xr_g c d l s K V fp fe sk sv) := by
  have x7 := X.2.2.2.2.2.2.1
  have x11 := X.2.2.2.2.2.2.2.2.2.2.1
  have x15 := X.2.2.2.2.2.2.2.2.2.2.2.2.2.2.1
  have x16 := X.2.2.2.2.2.2.2.2.2.2.2.2.2.2.2
  intro r
  induction r with
  | zero =>
    intro i K V hi hK
    refine ⟨K, V, fun j hj => hK j (by omega), fun post h => ?_⟩
    rw [lqX_startRun_2_s, xr_g_cellCount, xr_g_length, x7, x11]
    refine br_t (nI_le (by omega) (by omega)) ⟨vp_in_nI hw (by omega), ?_⟩
    rw [show (32 : Int32) * nI w = nI (32 * w) from pk_mul 32 w, sv_naA (by omega), nI_add, show (0 : Int32) = nI 0 from rfl, xr_s10]
    exact rx_enter (lv := 0) (by omega) h
  | succ r ih =>
    intro i K V hi hK
    obtain ⟨K', V', e1, g⟩ := ih (i + 1) (sv_un K i (ck i)) (upd V i (cv i)) (by omega) (fun j hj => by
      by_cases z : j = i
      · rw [z, sv_us, pk_us]; exact ⟨rfl, rfl⟩
      · rw [sv_uo z, pk_un z]; exact hK j (by omega))
    refine ⟨K', V', e1, fun post h => ?_⟩
    have ii : vp_in (nI i) 16 := vp_in_nI (by omega) (by omega)
    rw [lqX_startRun_2_s, xr_g_cellCount, xr_g_runKind, xr_g_runValue, xr_g_cellKind, xr_g_cellValue, x7, x15, x16, sv_naA (by omega), sv_naU (by omega), nI_clamp (show i < 2 ^ 31 by omega)]
    refine br_f (nI_ge (by omega) (by omega)) ⟨ii, ii, nm_e ⟨ii, ii, nm_e (nm_r (nI_1 i) ?_)⟩⟩
    rw [xr_s7]
    exact g post h
theorem ry_st {w : Nat} (hw : w < 8) (hcc : cc ≤ 16) (Y : rl_Y mw mc ml mf cnt cc kd ln ck ag cv v) (agk : Nat → Nat) (agv : Nat → Int32) (agl : Nat → Nat) : ∀ (r i : Nat) (K : Nat → Nat) (V : Nat → Int32), i + r = cc → (∀ j, j < i → K j = ck j ∧ V j = cv j) → ∃ (K' : Nat → Nat) (V' : Nat → Int32), (∀ j, j < cc → K' j = ck j ∧ V' j = cv j) ∧ ∀ post : Int32 → SY → Prop, wpY_body (fun r_5 u1 => ∃ n101 : Nat, lqY_run_101 post n101 0 1 0 u1) (yr_g v cc 0 K' V' agk agv agl) (nI (32 * w)) (nI (32 * w + ln w)) (nI 1) → lqY_run_34 post (nI w) 0 1 (r + 1) (nI i) (yr_g v cc 0 K V agk agv agl) := by
  have y6 := Y.2.2.2.2.2.1
  have y9 := Y.2.2.2.2.2.2.2.2.1
  have y10 := Y.2.2.2.2.2.2.2.2.2.1
  have y11 := Y.2.2.2.2.2.2.2.2.2.2
  intro r
  induction r with
  | zero =>
    intro i K V hi hK
    refine ⟨K, V, fun j hj => hK j (by omega), fun post h => ?_⟩
    rw [lqY_run_34_s, yr_g_depth, yr_g_size, y6, y9]
    refine br_t (nI_le (by omega) (by omega)) ⟨vp_in_nI hw (by omega), ?_⟩
    rw [show (32 : Int32) * nI w = nI (32 * w) from pk_mul 32 w, sv_naA (by omega), nI_add]
    exact h
  | succ r ih =>
    intro i K V hi hK
    obtain ⟨K', V', e1, g⟩ := ih (i + 1) (sv_un K i (ck i)) (upd V i (cv i)) (by omega) (fun j hj => by
      by_cases z : j = i
      · rw [z, sv_us, pk_us]; exact ⟨rfl, rfl⟩
      · rw [sv_uo z, pk_un z]; exact hK j (by omega))
    refine ⟨K', V', e1, fun post h => ?_⟩
    have ii : vp_in (nI i) 16 := vp_in_nI (by omega) (by omega)
    rw [lqY_run_34_s, yr_g_depth, yr_g_copyKind, yr_g_copyVal, yr_g_cellKind, yr_g_cellVal, y6, y10, y11, sv_naA (by omega), sv_naU (by omega), nI_clamp (show i < 2 ^ 31 by omega)]
    refine br_f (nI_ge (by omega) (by omega)) ⟨ii, ii, nm_e ⟨ii, ii, nm_e (nm_r (nI_1 i) ?_)⟩⟩
    rw [yr_s5]
    exact g post h
def kc_f {α : Type} (K c : Nat → α) (i : Nat) : Nat → α := fun j => if j < i then K j else c j
theorem kc_0 {α : Type} (K c : Nat → α) : kc_f K c 0 = c := funext fun j => if_neg (by omega)
theorem kc_n {K c : Nat → Nat} {i : Nat} : sv_un (kc_f K c i) i (K i) = kc_f K c (i + 1) := by
  funext j
  show _ = if j < i + 1 then K j else c j
  by_cases z : j = i
  · rw [z, sv_us, if_pos (by omega)]
  · rw [sv_uo z]
    show (if j < i then K j else c j) = _
    by_cases y : j < i
    · rw [if_pos y, if_pos (by omega)]
    · rw [if_neg y, if_neg (by omega)]
theorem kc_v {K c : Nat → Int32} {i : Nat} : upd (kc_f K c i) i (K i) = kc_f K c (i + 1) := by
  funext j
  show _ = if j < i + 1 then K j else c j
  by_cases z : j = i
  · rw [z, pk_us, if_pos (by omega)]
  · rw [pk_un z]
    show (if j < i then K j else c j) = _
    by_cases y : j < i
    · rw [if_pos y, if_pos (by omega)]
    · rw [if_neg y, if_neg (by omega)]
theorem kc_e {α : Type} {K K' c : Nat → α} {i : Nat} (h : ∀ j, j < i → K' j = K j) : kc_f K' c i = kc_f K c i := by
  funext j
  show (if j < i then K' j else c j) = if j < i then K j else c j
  by_cases y : j < i
  · rw [if_pos y, if_pos y, h j y]
  · rw [if_neg y, if_neg y]
theorem kc_lt {α : Type} {K c : Nat → α} {i j : Nat} (h : j < i) : kc_f K c i j = K j := if_pos h
theorem rlX_cells {u : SX} (X : rl_X mw mc ml mf ot cnt cc kd mt ln wt tx os ck ag cv u) (ck' : Nat → Nat) (cv' : Nat → Int32) : rl_X mw mc ml mf ot cnt cc kd mt ln wt tx os ck' ag cv' (xs_cellKind_cellValue u (sv_na ck') cv') := by
  obtain ⟨x1, x2, x3, x4, x5, x6, x7, x8, x9, x10, x11, x12, x13, x14, x15, x16⟩ := X
  exact ⟨x1, x2, x3, x4, x5, x6, x7, x8, x9, x10, x11, x12, x13, x14, rfl, rfl⟩
theorem rlX_cc {u : SX} (X : rl_X mw mc ml mf ot cnt cc kd mt ln wt tx os ck ag cv u) (n : Nat) : rl_X mw mc ml mf ot cnt n kd mt ln wt tx os ck ag cv (xs_cellCount u (nI n)) := by
  obtain ⟨x1, x2, x3, x4, x5, x6, x7, x8, x9, x10, x11, x12, x13, x14, x15, x16⟩ := X
  exact ⟨x1, x2, x3, x4, x5, x6, rfl, x8, x9, x10, x11, x12, x13, x14, x15, x16⟩
theorem rlX_xr {u : SX} (X : rl_X mw mc ml mf ot cnt cc kd mt ln wt tx os ck ag cv u) (d l s : Nat) (K : Nat → Nat) (V : Nat → Int32) (fp fe sk : Nat → Nat) (sv : Nat → Int32) : rl_X mw mc ml mf ot cnt cc kd mt ln wt tx os ck ag cv (xr_g u d l s K V fp fe sk sv) := by
  obtain ⟨x1, x2, x3, x4, x5, x6, x7, x8, x9, x10, x11, x12, x13, x14, x15, x16⟩ := X
  exact ⟨x1, x2, x3, x4, x5, x6, x7, x8, x9, x10, x11, x12, x13, x14, x15, x16⟩
theorem rlY_cells {v : SY} (Y : rl_Y mw mc ml mf cnt cc kd ln ck ag cv v) (ck' : Nat → Nat) (cv' : Nat → Int32) : rl_Y mw mc ml mf cnt cc kd ln ck' ag cv' (ys_cellKind_cellVal v (sv_na ck') cv') := by
  obtain ⟨y1, y2, y3, y4, y5, y6, y7, y8, y9, y10, y11⟩ := Y
  exact ⟨y1, y2, y3, y4, y5, y6, y7, y8, y9, rfl, rfl⟩
theorem rlY_cc {v : SY} (Y : rl_Y mw mc ml mf cnt cc kd ln ck ag cv v) (n : Nat) : rl_Y mw mc ml mf cnt n kd ln ck ag cv (ys_depth v (nI n)) := by
  obtain ⟨y1, y2, y3, y4, y5, y6, y7, y8, y9, y10, y11⟩ := Y
  exact ⟨y1, y2, y3, y4, y5, rfl, y7, y8, y9, y10, y11⟩
theorem rlY_yr {v : SY} (Y : rl_Y mw mc ml mf cnt cc kd ln ck ag cv v) (d m : Nat) (K : Nat → Nat) (V : Nat → Int32) (agk : Nat → Nat) (agv : Nat → Int32) (agl : Nat → Nat) : rl_Y mw mc ml mf cnt cc kd ln ck ag cv (yr_g v d m K V agk agv agl) := by
  obtain ⟨y1, y2, y3, y4, y5, y6, y7, y8, y9, y10, y11⟩ := Y
  exact ⟨y1, y2, y3, y4, y5, y6, y7, y8, y9, y10, y11⟩
theorem xk_1 {u : SX} {a b : Nat → Int32} : xq_runDepth (xs_cellKind_cellValue u a b) = xq_runDepth u := rfl
theorem xk_2 {u : SX} {a b : Nat → Int32} : xq_runKind (xs_cellKind_cellValue u a b) = xq_runKind u := rfl
theorem xk_3 {u : SX} {a b : Nat → Int32} : xq_runValue (xs_cellKind_cellValue u a b) = xq_runValue u := rfl
theorem yk_1 {u : SY} {a b : Nat → Int32} : yq_copyDepth (ys_cellKind_cellVal u a b) = yq_copyDepth u := rfl
theorem yk_2 {u : SY} {a b : Nat → Int32} : yq_copyKind (ys_cellKind_cellVal u a b) = yq_copyKind u := rfl
theorem yk_3 {u : SY} {a b : Nat → Int32} : yq_copyVal (ys_cellKind_cellVal u a b) = yq_copyVal u := rfl
theorem rx_kc {post : SX → Prop} {d : Nat} {K : Nat → Nat} {V : Nat → Int32} (hd : d ≤ 16) (h : ∀ u', rl_X mw mc ml mf ot cnt d kd mt ln wt tx os (kc_f K ck d) ag (kc_f V cv d) u' → post u') : ∀ (r i : Nat) (u : SX), i + r = d → rl_X mw mc ml mf ot cnt cc kd mt ln wt tx os (kc_f K ck i) ag (kc_f V cv i) u → xq_runDepth u = nI d → xq_runKind u = sv_na K → xq_runValue u = V → lqX_keepCopy_2 post (r + 1) (nI i) u := by
  intro r
  induction r with
  | zero =>
    intro i u hi X e1 e2 e3
    rw [lqX_keepCopy_2_s, e1]
    refine br_t (nI_le (by omega) (by omega)) (h _ ?_)
    rw [show i = d by omega] at X
    exact rlX_cc X d
  | succ r ih =>
    intro i u hi X e1 e2 e3
    have ii : vp_in (nI i) 16 := vp_in_nI (by omega) (by omega)
    have x15 := X.2.2.2.2.2.2.2.2.2.2.2.2.2.2.1
    have x16 := X.2.2.2.2.2.2.2.2.2.2.2.2.2.2.2
    rw [lqX_keepCopy_2_s, e1, e2, e3, x15, x16, sv_naA (by omega), sv_naU (by omega), nI_clamp (show i < 2 ^ 31 by omega), kc_n, kc_v]
    refine br_f (nI_ge (by omega) (by omega)) ⟨ii, ii, nm_e ⟨ii, ii, nm_e (nm_r (nI_1 i) ?_)⟩⟩
    exact ih (i + 1) _ (by omega) (rlX_cells X _ _) (xk_1.trans e1) (xk_2.trans e2) (xk_3.trans e3)
theorem ry_kc {post : Int32 → SY → Prop} {d : Nat} {K : Nat → Nat} {V : Nat → Int32} (hd : d ≤ 16) (h : ∀ v', rl_Y mw mc ml mf cnt d kd ln (kc_f K ck d) ag (kc_f V cv d) v' → post 1 v') : ∀ (r i : Nat) (u : SY), i + r = d → rl_Y mw mc ml mf cnt cc kd ln (kc_f K ck i) ag (kc_f V cv i) u → yq_copyDepth u = nI d → yq_copyKind u = sv_na K → yq_copyVal u = V → lqY_run_223 post (r + 1) (nI i) u := by
  intro r
  induction r with
  | zero =>
    intro i u hi X e1 e2 e3
    rw [lqY_run_223_s, e1]
    refine br_t (nI_le (by omega) (by omega)) (h _ ?_)
    rw [show i = d by omega] at X
    exact rlY_cc X d
  | succ r ih =>
    intro i u hi X e1 e2 e3
    have ii : vp_in (nI i) 16 := vp_in_nI (by omega) (by omega)
    have y10 := X.2.2.2.2.2.2.2.2.2.1
    have y11 := X.2.2.2.2.2.2.2.2.2.2
    rw [lqY_run_223_s, e1, e2, e3, y10, y11, sv_naA (by omega), sv_naU (by omega), nI_clamp (show i < 2 ^ 31 by omega), kc_n, kc_v]
    refine br_f (nI_ge (by omega) (by omega)) ⟨ii, ii, nm_e ⟨ii, ii, nm_e (nm_r (nI_1 i) ?_)⟩⟩
    exact ih (i + 1) _ (by omega) (rlY_cells X _ _) (yk_1.trans e1) (yk_2.trans e2) (yk_3.trans e3)
end
theorem i_vc_run {k : Nat} {u : SX} {v : SY} (I : i_Rel k u v) (hk : k + 3 ≤ 1540) (v1 : Int32) : wpX_run (fun r u' => wpY_run (fun r' v' => r' = r ∧ i_Rel (k + 3) u' v') v v1) u v1 := by
  obtain ⟨mw, mc, ml, mf, ot, cnt, cc, kd, mt, ln, wt, tx, os, ck, ag, cv, fw, hB, hA, hc, hX, hY⟩ := id I
  obtain ⟨b1, b2, b3, b4, b5, b6, b7, b8, b9, b10⟩ := id hB
  have x6 := hX.2.2.2.2.2.1
  have y5 := hY.2.2.2.2.1
  have y6 := hY.2.2.2.2.2.1
  have y7 := hY.2.2.2.2.2.2.1
  by_cases n0 : v1 < 0
  · rw [we_X_run, we_X_isWord]
    refine br_t n0 (br_t rfl ?_)
    rw [we_Y_run]
    exact br_t n0 ⟨rfl, I⟩
  by_cases nc : nI cnt ≤ v1
  · rw [we_X_run, we_X_isWord, x6]
    refine br_f n0 (br_t nc (br_t rfl ?_))
    rw [we_Y_run, y5]
    exact br_f n0 (br_f (Int32.not_lt.mpr nc) ⟨rfl, I⟩)
  obtain ⟨w, hw, rfl⟩ := nI_of n0
  have wl : w < cnt := (nI_ltI hw (by omega)).mp (Int32.not_le.mp nc)
  obtain ⟨K, V, eK, gX⟩ := rx_st (w := w) (by omega) (by omega) hX (sv_tn (xq_runDepth u)) (sv_tn (xq_level u)) (sv_tn (xq_spent u)) (sv_tna (xq_framePos u)) (sv_tna (xq_frameEnd u)) (sv_tna (xq_savedKind u)) (xq_savedValue u) cc 0 (sv_tna (xq_runKind u)) (xq_runValue u) (by omega) (fun j hj => by omega)
  rw [← xr_0 u] at gX
  obtain ⟨K', V', eK', gY⟩ := ry_st (w := w) (by omega) (by omega) hY (sv_tna (yq_agKind v)) (yq_agVal v) (sv_tna (yq_agLevel v)) cc 0 (sv_tna (yq_copyKind v)) (yq_copyVal v) (by omega) (fun j hj => by omega)
  rw [← yr_0 v cc] at gY
  have Fw := fr_word hA wl
  obtain ⟨n', k', v', l', eL, gB⟩ := ry_body (v := v) cc 0 K' V' (sv_tna (yq_agKind v)) (yq_agVal v) (sv_tna (yq_agLevel v)) 1 hA y7 Fw (by omega)
  have goX : ∀ post : Int32 → SX → Prop, (∃ N, lqX_run_19 post N 0 (nI 0) (xr_g u cc 1 0 K V (sv_un (sv_tna (xq_framePos u)) 1 (32 * w)) (sv_un (sv_tna (xq_frameEnd u)) 1 (32 * w + ln w)) (sv_un (sv_tna (xq_savedKind u)) 1 0) (xq_savedValue u))) → wpX_run post u (nI w) := by
    intro post h
    rw [we_X_run, we_X_isWord, x6]
    refine br_f n0 (br_f nc (br_f (by decide) ?_))
    rw [we_X_startRun]
    exact ⟨cc + 1, gX _ h⟩
  have goY : ∀ post : Int32 → SY → Prop, (∃ N, lqY_run_101 post N (nI 0) 1 (nI 0) (yr_g v cc n' K' V' k' v' l')) → wpY_run post v (nI w) := by
    intro post h
    rw [we_Y_run, y5, y6]
    exact br_f n0 (br_t (Int32.not_le.mp nc) ⟨cc + 1, gY _ (gB _ h)⟩)
  have hF : rm_F kd ln cnt (sv_un (sv_tna (xq_framePos u)) 1 (32 * w)) (sv_un (sv_tna (xq_frameEnd u)) 1 (32 * w + ln w)) (sv_un (sv_tna (xq_savedKind u)) 1 0) (xq_savedValue u) 1 := fun j j1 j2 => by
    rw [show j = 1 by omega, sv_us, sv_us, sv_us]
    exact ⟨Fw, Or.inl rfl⟩
  have hL : ag_L k' v' l' n' = fr_L kd (sv_un (sv_tna (xq_framePos u)) 1 (32 * w)) (sv_un (sv_tna (xq_frameEnd u)) 1 (32 * w + ln w)) (sv_un (sv_tna (xq_savedKind u)) 1 0) (xq_savedValue u) 1 := by
    rw [eL]
    show _ = it_L kd (sv_un (sv_tna (xq_framePos u)) 1 (32 * w) 1) 1 (sv_un (sv_tna (xq_framePos u)) 1 (32 * w) 1) (sv_un (sv_tna (xq_frameEnd u)) 1 (32 * w + ln w) 1 - sv_un (sv_tna (xq_framePos u)) 1 (32 * w) 1) ++ (fr_c (sv_un (sv_tna (xq_savedKind u)) 1 0) (xq_savedValue u) 1 ++ [])
    unfold fr_c
    rw [sv_us, sv_us, sv_us, if_pos rfl]
    rfl
  have hcc0 : cc_n (sv_un (sv_tna (xq_savedKind u)) 1 0) 1 = 0 := by
    show 0 + (if sv_un (sv_tna (xq_savedKind u)) 1 0 1 = 0 then 0 else 1) = 0
    rw [sv_us]; rfl
  have hcK : rl_c kd ln K V cnt cc := fun i hi => by rw [(eK i hi).1, (eK i hi).2]; exact hc i hi
  have R := rm_main ⟨b4, b6⟩ b8 hX hY hA (2 * mf + 1) 1 0 cc 0 0 K V _ _ _ _ n' K' V' k' v' l' (by omega) (by omega) b5 (by omega) b10 (by omega) (by rw [hcc0]; omega) hcK (fun i hi => by rw [(eK i hi).1, (eK i hi).2]; exact eK' i hi) hF sv_us hL
  rcases R with ⟨r, r1, r2, gX, gY⟩ | ⟨d, K2, V2, K3, V3, d1, d2, d3, gX, gY⟩
  · refine goX _ (gX _ (fun d l s a b e f g h => goY _ (gY _ (fun d2 m a2 b2 e2 f2 g2 => ⟨rfl, ?_⟩))))
    exact ⟨mw, mc, ml, mf, ot, cnt, cc, kd, mt, ln, wt, tx, os, ck, ag, cv, fw, hB, hA, hc, rlX_xr hX _ _ _ _ _ _ _ _ _, rlY_yr hY _ _ _ _ _ _ _⟩
  · refine goX _ (gX _ (fun l s e f g h => ?_))
    rw [pqX_run_74_e]
    refine br_t rfl ?_
    rw [we_X_keepCopy]
    refine ⟨d + 1, rx_kc (K := K2) (V := V2) (ck := ck) (cv := cv) (by omega) (fun u' X' => ?_) d 0 _ (by omega) (by rw [kc_0, kc_0]; exact rlX_xr hX _ _ _ _ _ _ _ _ _) rfl rfl rfl⟩
    refine goY _ (gY _ (fun m e2 f2 g2 => ?_))
    rw [pqY_run_213_e]
    refine br_t rfl ⟨d + 1, ry_kc (K := K3) (V := V3) (ck := ck) (cv := cv) (by omega) (fun v' Y' => ⟨rfl, ?_⟩) d 0 _ (by omega) (by rw [kc_0, kc_0]; exact rlY_yr hY _ _ _ _ _ _ _) rfl rfl rfl⟩
    rw [kc_e (fun j hj => (d3 j hj).1), kc_e (fun j hj => (d3 j hj).2)] at Y'
    refine ⟨mw, mc, ml, mf, ot, cnt, d, kd, mt, ln, wt, tx, os, kc_f K2 ck d, ag, kc_f V2 cv d, fw, ⟨b1, b2, b3, b4, b5, b6, b7, b8, b9, d1⟩, hA, fun j hj => ?_, X', Y'⟩
    rw [kc_lt hj, kc_lt hj]; exact d2 j hj
end
