section
theorem pk_us {f : Nat → Int32} {k : Nat} {x : Int32} : upd f k x k = x := if_pos rfl
theorem pk_un {f : Nat → Int32} {k j : Nat} {x : Int32} (h : j ≠ k) : upd f k x j = f j := if_neg h
theorem pk_uLs {f : Nat → Int64} {k : Nat} {x : Int64} : vp_updL f k x k = x := if_pos rfl
theorem pk_uLn {f : Nat → Int64} {k j : Nat} {x : Int64} (h : j ≠ k) : vp_updL f k x j = f j := if_neg h
theorem pk_sub {a b : Nat} (h : b ≤ a) : nI a - nI b = nI (a - b) := by
  obtain ⟨c, rfl⟩ : ∃ c, a = c + b := ⟨a - b, by omega⟩
  rw [← nI_add, Int32.add_sub_cancel, Nat.add_sub_cancel]
theorem pk_m1 (n : Nat) : nI (n + 1) + (-1) = nI n := by
  rw [← nI_1, Int32.add_assoc, show (1 : Int32) + (-1) = 0 from rfl, Int32.add_zero]
theorem pk_mul (a b : Nat) : nI a * nI b = nI (a * b) := (Int32.ofNat_mul a b).symm
theorem pk_div {a d : Nat} (ha : a < 2 ^ 31) (h0 : 0 < d) (hd : d < 2 ^ 31) : nI a / nI d = nI (a / d) := by
  apply Int32.toInt_inj.mp
  rw [lg_idiv_nonneg (by rw [nI_toInt ha]; omega) (by rw [nI_toInt hd]; omega), nI_toInt ha, nI_toInt hd, nI_toInt (Nat.lt_of_le_of_lt (Nat.div_le_self a d) ha)]
  first | rfl | exact (Int.natCast_ediv _ _).symm
theorem pk_rem {a d : Nat} (ha : a < 2 ^ 31) (h0 : 0 < d) (hd : d < 2 ^ 31) : nI a - nI a / nI d * nI d = nI (a % d) := by
  rw [pk_div ha h0 hd, pk_mul, pk_sub (Nat.div_mul_le_self a d)]
  exact congrArg nI (by have := Nat.div_add_mod' a d; omega)
theorem pk_le {x y : Int32} {A B : Prop} (a b : Nat) (f : a ≤ b → A) (g : b < a → B) (hx : x = nI a := by rfl) (hy : y = nI b := by rfl) (ha : a < 2 ^ 31 := by omega) (hb : b < 2 ^ 31 := by omega) : (x ≤ y → A) ∧ (¬ x ≤ y → B) := by
  subst hx hy
  rw [nI_leI ha hb]
  exact ⟨f, fun z => g (by omega)⟩
theorem pk_lt {x y : Int32} {A B : Prop} (a b : Nat) (f : a < b → A) (g : b ≤ a → B) (hx : x = nI a := by rfl) (hy : y = nI b := by rfl) (ha : a < 2 ^ 31 := by omega) (hb : b < 2 ^ 31 := by omega) : (x < y → A) ∧ (¬ x < y → B) := by
  subst hx hy
  rw [nI_ltI ha hb]
  exact ⟨f, fun z => g (by omega)⟩
theorem pk_eq {x y : Int32} {A B : Prop} (a b : Nat) (f : a = b → A) (g : a ≠ b → B) (hx : x = nI a := by rfl) (hy : y = nI b := by rfl) (ha : a < 2 ^ 31 := by omega) (hb : b < 2 ^ 31 := by omega) : (x = y → A) ∧ (¬ x = y → B) := by
  subst hx hy
  rw [nI_eq ha hb]
  exact ⟨f, g⟩
theorem pk_in {x : Int32} (n N : Nat) (h : n < N) (hx : x = nI n := by rfl) (hN : N < 2 ^ 31 := by omega) : vp_in x N := by
  subst hx
  exact vp_in_nI h hN
theorem pk_cl {x : Int32} (n : Nat) (hx : x = nI n := by rfl) (h : n < 2 ^ 31 := by omega) : x.toNatClampNeg = n := by
  subst hx
  exact nI_clamp h
theorem pk_tn {n : Nat} (h : n < 2 ^ 32) : (nI n).toBitVec.toNat = n := Nat.mod_eq_of_lt h
theorem pk_and (x : Int32) {m : Int32} (k : Nat) (hm : m.toBitVec.toNat = 2 ^ k - 1) : x &&& m = nI (x.toBitVec.toNat % 2 ^ k) := by
  apply Int32.toBitVec_inj.mp
  apply BitVec.eq_of_toNat_eq
  rw [Int32.toBitVec_and, BitVec.toNat_and, hm, Nat.and_two_pow_sub_one_eq_mod]
  show _ = (BitVec.ofNat 32 _).toNat
  rw [BitVec.toNat_ofNat]
  exact (Nat.mod_eq_of_lt (Nat.lt_of_le_of_lt (Nat.mod_le _ _) x.toBitVec.isLt)).symm
theorem pk_andN {n : Nat} (h : n < 2 ^ 32) {m : Int32} (k : Nat) (hm : m.toBitVec.toNat = 2 ^ k - 1) : nI n &&& m = nI (n % 2 ^ k) := by
  rw [pk_and _ k hm, pk_tn h]
theorem pk_andE (x : Int32) {m : Int32} (k : Nat) (hm : m.toBitVec.toNat = 2 ^ k - 1) : ∃ j : Nat, j < 2 ^ k ∧ x &&& m = nI j := ⟨_, Nat.mod_lt _ (Nat.two_pow_pos k), pk_and x k hm⟩
theorem pk_shr (a s : Int32) (k : Nat) (hs : (s.toBitVec.smod 32).toNat = k) : (a >>> s).toInt = a.toInt >>> k := by
  show (a.toBitVec.sshiftRight (s.toBitVec.smod 32).toNat).toInt = _
  rw [hs, BitVec.toInt_sshiftRight]
  rfl
theorem pk_shrN {n : Nat} (h : n < 2 ^ 31) (s : Int32) (k : Nat) (hs : (s.toBitVec.smod 32).toNat = k) : nI n >>> s = nI (n / 2 ^ k) := by
  apply Int32.toInt_inj.mp
  have h2 : n / 2 ^ k ≤ n := Nat.div_le_self _ _
  rw [pk_shr _ _ k hs, nI_toInt h, nI_toInt (by omega), Int.shiftRight_eq_div_pow]
  rfl
theorem pk_ushr (x s : Int32) (k : Nat) (hs : ((s.toUInt32 &&& Int32.toUInt32 31).toBitVec % 32).toNat = k) : (x.toUInt32 >>> (s.toUInt32 &&& Int32.toUInt32 31)).toInt32.toBitVec.toNat = x.toBitVec.toNat / 2 ^ k := by
  have e : (x.toUInt32 >>> (s.toUInt32 &&& Int32.toUInt32 31)).toInt32.toBitVec = x.toBitVec >>> k := by
    rw [← hs]
    exact UInt32.toBitVec_shiftRight _ _
  rw [e, BitVec.toNat_ushiftRight, Nat.shiftRight_eq_div_pow]
theorem pk_ushrN {n : Nat} (hn : n < 2 ^ 32) (s : Int32) (k : Nat) (hs : ((s.toUInt32 &&& Int32.toUInt32 31).toBitVec % 32).toNat = k) : ((nI n).toUInt32 >>> (s.toUInt32 &&& Int32.toUInt32 31)).toInt32 = nI (n / 2 ^ k) := by
  apply Int32.toBitVec_inj.mp
  apply BitVec.eq_of_toNat_eq
  rw [pk_ushr _ s k hs, pk_tn hn, pk_tn (Nat.lt_of_le_of_lt (Nat.div_le_self _ _) hn)]
theorem s_l : ∀ n, n < 32 → ((nI n &&& 31).toBitVec.smod 32).toNat = n := by decide +kernel
theorem s_u : ∀ n, n < 32 → (((nI n).toUInt32 &&& Int32.toUInt32 31).toBitVec % 32).toNat = n := by decide +kernel
theorem ts_nf {x : Bool} (h : ¬ x = false) : x = true := by cases x <;> first | rfl | exact absurd rfl h
theorem ts_nt {x : Bool} (h : ¬ x = true) : x = false := by cases x <;> first | rfl | exact absurd rfl h
theorem wb_tb (n : Nat) : (lN n).toBitVec = BitVec.ofNat 64 n := rfl
theorem wb_inj {a b : Int64} (h : a.toBitVec = b.toBitVec) : a = b := Int64.toBitVec_inj.mp h
theorem wb_tn {n : Nat} (h : n < 2 ^ 64) : (lN n).toBitVec.toNat = n := by rw [wb_tb, BitVec.toNat_ofNat, Nat.mod_eq_of_lt h]
theorem wb_of (x : Int64) : ∃ n, n < 2 ^ 64 ∧ x = lN n := ⟨x.toBitVec.toNat, x.toBitVec.isLt, wb_inj (by rw [wb_tb]; simp)⟩
theorem wb_c : ∀ k, k < 64 → ((nI k).toInt64 &&& 63) = lN k := by decide +kernel
theorem wb_cu : ∀ k, k < 64 → ((nI k).toInt64.toUInt64 &&& Int64.toUInt64 63) = UInt64.ofNat k := by decide +kernel
theorem wb_sm : ∀ k, k < 64 → (BitVec.ofNat 64 k).smod 64 = BitVec.ofNat 64 k := by decide +kernel
theorem wb_shr {n k : Nat} (hn : n < 2 ^ 64) (hk : k < 64) : ((lN n).toUInt64 >>> ((nI k).toInt64.toUInt64 &&& Int64.toUInt64 63)).toInt64 = lN (n / 2 ^ k) := by
  rw [wb_cu k hk]
  apply wb_inj
  apply BitVec.eq_of_toNat_eq
  show ((lN n).toUInt64 >>> UInt64.ofNat k).toNat = (BitVec.ofNat 64 _).toNat
  have h1 : (UInt64.ofNat k).toNat = k := by
    show (BitVec.ofNat 64 k).toNat = k
    rw [BitVec.toNat_ofNat, Nat.mod_eq_of_lt (by omega)]
  have h2 : (lN n).toUInt64.toNat = n := wb_tn hn
  rw [UInt64.toNat_shiftRight, h1, h2, Nat.mod_eq_of_lt hk, Nat.shiftRight_eq_div_pow, BitVec.toNat_ofNat, Nat.mod_eq_of_lt (Nat.lt_of_le_of_lt (Nat.div_le_self _ _) hn)]
end
section
/-! counts -/
def qt_c (p : Nat → Bool) : Nat → Nat
  | 0 => 0
  | k + 1 => qt_c p k + (if p k = true then 1 else 0)
theorem qt_c_t {p : Nat → Bool} {k : Nat} (h : p k = true) : qt_c p (k + 1) = qt_c p k + 1 := by
  show qt_c p k + (if p k = true then 1 else 0) = _
  rw [if_pos h]
theorem qt_c_f {p : Nat → Bool} {k : Nat} (h : p k = false) : qt_c p (k + 1) = qt_c p k := by
  show qt_c p k + (if p k = true then 1 else 0) = _
  rw [if_neg (by rw [h]; decide)]
  rfl
theorem qt_c_le (p : Nat → Bool) : ∀ k, qt_c p k ≤ k := by
  intro k
  induction k with
  | zero => exact Nat.le_refl 0
  | succ k ih =>
    cases h : p k
    · rw [qt_c_f h]; omega
    · rw [qt_c_t h]; omega
theorem qt_c_congr {p q : Nat → Bool} : ∀ k, (∀ i, i < k → p i = q i) → qt_c p k = qt_c q k := by
  intro k
  induction k with
  | zero => intro _; rfl
  | succ k ih =>
    intro h
    have e := h k (by omega)
    have i1 := ih (fun i hi => h i (by omega))
    cases hq : q k
    · rw [qt_c_f hq, qt_c_f (e.trans hq), i1]
    · rw [qt_c_t hq, qt_c_t (e.trans hq), i1]
theorem qt_c_cut {q : Nat → Bool} {n : Nat} : ∀ k, qt_c (fun i => decide (i < n) && q i) (n + k) = qt_c q n := by
  intro k
  induction k with
  | zero => exact qt_c_congr n (fun i hi => by rw [decide_eq_true hi, Bool.true_and])
  | succ k ih =>
    show qt_c _ (n + k + 1) = _
    rw [qt_c_f (by show (decide (n + k < n) && q (n + k)) = false; rw [decide_eq_false (by omega), Bool.false_and]), ih]
theorem qt_c_pos {p : Nat → Bool} : ∀ k, 0 < qt_c p k ↔ ∃ i, i < k ∧ p i = true := by
  intro k
  induction k with
  | zero => exact ⟨fun h => absurd h (Nat.lt_irrefl 0), fun ⟨i, h, _⟩ => absurd h (Nat.not_lt_zero i)⟩
  | succ k ih =>
    cases h : p k
    · rw [qt_c_f h, ih]
      constructor
      · intro ⟨i, hi, e⟩
        exact ⟨i, by omega, e⟩
      · intro ⟨i, hi, e⟩
        have : i ≠ k := fun z => by rw [z, h] at e; exact absurd e (by decide)
        exact ⟨i, by omega, e⟩
    · rw [qt_c_t h]
      exact ⟨fun _ => ⟨k, by omega, h⟩, fun _ => by omega⟩
/-! minima of a base and of the first k terms -/
def qt_m (b : Nat) (t : Nat → Nat) : Nat → Nat
  | 0 => b
  | k + 1 => if t k < qt_m b t k then t k else qt_m b t k
theorem qt_m_t {b : Nat} {t : Nat → Nat} {k : Nat} (h : t k < qt_m b t k) : qt_m b t (k + 1) = t k := if_pos h
theorem qt_m_f {b : Nat} {t : Nat → Nat} {k : Nat} (h : qt_m b t k ≤ t k) : qt_m b t (k + 1) = qt_m b t k := if_neg (Nat.not_lt.mpr h)
theorem qt_m_le {b : Nat} {t : Nat → Nat} {x : Nat} : ∀ k, x ≤ qt_m b t k ↔ x ≤ b ∧ ∀ f, f < k → x ≤ t f := by
  intro k
  induction k with
  | zero => exact ⟨fun h => ⟨h, fun f hf => absurd hf (Nat.not_lt_zero f)⟩, fun h => h.1⟩
  | succ k ih =>
    by_cases h : t k < qt_m b t k
    · rw [qt_m_t h]
      constructor
      · intro hx
        have h2 := ih.mp (by omega)
        refine ⟨h2.1, fun f hf => ?_⟩
        rcases Nat.lt_or_ge f k with g | g
        · exact h2.2 f g
        · rw [show f = k by omega]; exact hx
      · intro hx
        exact hx.2 k (by omega)
    · rw [qt_m_f (by omega), ih]
      constructor
      · intro hx
        refine ⟨hx.1, fun f hf => ?_⟩
        rcases Nat.lt_or_ge f k with g | g
        · exact hx.2 f g
        · rw [show f = k by omega]
          have := ih.mpr hx
          omega
      · intro hx
        exact ⟨hx.1, fun f hf => hx.2 f (by omega)⟩
theorem qt_m_b (b : Nat) (t : Nat → Nat) (k : Nat) : qt_m b t k ≤ b := ((qt_m_le k).mp (Nat.le_refl _)).1
theorem qt_m_k (b : Nat) (t : Nat → Nat) {f k : Nat} (h : f < k) : qt_m b t k ≤ t f := ((qt_m_le k).mp (Nat.le_refl _)).2 f h
/-! costs -/
def qt_mi (a b : Nat) : Nat := if a < b then a else b
theorem qt_mi_l (a b : Nat) : qt_mi a b ≤ a := by unfold qt_mi; split <;> omega
def qt_gd (n : Nat) (g S : Nat → Bool) : Nat := qt_c (fun i => S i && g i) n
def qt_bd (n : Nat) (g S : Nat → Bool) : Nat := qt_c (fun i => S i && !g i) n
def qt_lf (n M : Nat) (g S : Nat → Bool) : Nat := M * qt_mi (qt_gd n g S) (qt_bd n g S)
def qt_no (B : Nat → Nat → Bool) (S : Nat → Bool) (f : Nat) : Nat → Bool := fun i => S i && !B i f
def qt_ye (B : Nat → Nat → Bool) (S : Nat → Bool) (f : Nat) : Nat → Bool := fun i => S i && B i f
def qt_L (n M p : Nat) (g : Nat → Bool) (B : Nat → Nat → Bool) : Nat → (Nat → Bool) → Nat
  | 0 => fun S => qt_lf n M g S
  | d + 1 => fun S => qt_m (qt_lf n M g S) (fun f => p + qt_L n M p g B d (qt_no B S f) + qt_L n M p g B d (qt_ye B S f)) 6
theorem qt_lf_le (n M : Nat) (g S : Nat → Bool) (hn : n ≤ 48) (hM : M ≤ 100) : qt_lf n M g S ≤ 4800 := by
  have h1 : qt_mi (qt_gd n g S) (qt_bd n g S) ≤ 48 := Nat.le_trans (qt_mi_l _ _) (Nat.le_trans (qt_c_le _ n) hn)
  exact Nat.mul_le_mul hM h1
section
variable {n M p : Nat} {g : Nat → Bool} {B : Nat → Nat → Bool}
theorem qt_L_lf : ∀ (d : Nat) (S : Nat → Bool), qt_L n M p g B d S ≤ qt_lf n M g S
  | 0, _ => Nat.le_refl _
  | _ + 1, _ => qt_m_b _ _ _
theorem qt_L_f (d : Nat) (S : Nat → Bool) {f : Nat} (hf : f < 6) : qt_L n M p g B (d + 1) S ≤ p + qt_L n M p g B d (qt_no B S f) + qt_L n M p g B d (qt_ye B S f) :=
  qt_m_k (qt_lf n M g S) (fun f => p + qt_L n M p g B d (qt_no B S f) + qt_L n M p g B d (qt_ye B S f)) hf
theorem qt_L_le {d x : Nat} {S : Nat → Bool} (h0 : x ≤ qt_lf n M g S) (hf : ∀ f, f < 6 → x ≤ p + qt_L n M p g B d (qt_no B S f) + qt_L n M p g B d (qt_ye B S f)) : x ≤ qt_L n M p g B (d + 1) S :=
  (qt_m_le 6).mpr ⟨h0, hf⟩
theorem qt_L_mono : ∀ (d : Nat) (S : Nat → Bool), qt_L n M p g B (d + 1) S ≤ qt_L n M p g B d S := by
  intro d
  induction d with
  | zero => exact fun S => qt_L_lf 1 S
  | succ d ih =>
    intro S
    refine qt_L_le (qt_L_lf _ S) (fun f hf => ?_)
    have h1 := qt_L_f (n := n) (M := M) (p := p) (g := g) (B := B) (d + 1) S hf
    have h2 := ih (qt_no B S f)
    have h3 := ih (qt_ye B S f)
    omega
theorem qt_L_no (d : Nat) : qt_L n M p g B d (fun _ => false) = 0 := by
  have h := qt_L_lf (n := n) (M := M) (p := p) (g := g) (B := B) d (fun _ => false)
  have h2 : qt_gd n g (fun _ => false) = 0 := by
    show qt_c (fun i => false && g i) n = 0
    rw [show (fun i => false && g i) = fun _ => false from funext fun i => Bool.false_and (g i)]
    clear h
    induction n with
    | zero => rfl
    | succ n ih => exact (qt_c_f rfl).trans ih
  have h3 : qt_lf n M g (fun _ => false) = 0 := by
    show M * qt_mi _ _ = 0
    rw [h2, Nat.le_zero.mp (qt_mi_l 0 _), Nat.mul_zero]
  omega
def qt_R (n M p : Nat) (g : Nat → Bool) (B : Nat → Nat → Bool) (A : Nat → Bool) (d : Nat) (S : Nat → Bool) : Nat :=
  qt_m (qt_lf n M g S) (fun f => if A f = true then qt_lf n M g S else p + qt_L n M p g B d (qt_no B S f) + qt_L n M p g B d (qt_ye B S f)) 6
theorem qt_R_f {A : Nat → Bool} (d : Nat) (S : Nat → Bool) {f : Nat} (hf : f < 6) (hA : A f = false) : qt_R n M p g B A d S ≤ p + qt_L n M p g B d (qt_no B S f) + qt_L n M p g B d (qt_ye B S f) := by
  have h := qt_m_k (qt_lf n M g S) (fun f => if A f = true then qt_lf n M g S else p + qt_L n M p g B d (qt_no B S f) + qt_L n M p g B d (qt_ye B S f)) hf
  rw [if_neg (by rw [hA]; decide)] at h
  exact h
theorem qt_R_le {A : Nat → Bool} {d x : Nat} {S : Nat → Bool} (h0 : x ≤ qt_lf n M g S) (hf : ∀ f, f < 6 → A f = false → x ≤ p + qt_L n M p g B d (qt_no B S f) + qt_L n M p g B d (qt_ye B S f)) : x ≤ qt_R n M p g B A d S := by
  refine (qt_m_le 6).mpr ⟨h0, fun f h6 => ?_⟩
  by_cases h : A f = true
  · rw [if_pos h]; exact h0
  · rw [if_neg h]; exact hf f h6 (Bool.eq_false_iff.mpr h)
theorem qt_R_eq {A : Nat → Bool} {S : Nat → Bool} (hA : ∀ f, f < 6 → A f = true → (qt_no B S f = S ∧ qt_ye B S f = fun _ => false) ∨ (qt_no B S f = (fun _ => false) ∧ qt_ye B S f = S)) : ∀ d, qt_R n M p g B A d S = qt_L n M p g B (d + 1) S := by
  have hge : ∀ d, qt_L n M p g B (d + 1) S ≤ qt_R n M p g B A d S := fun d => qt_R_le (qt_L_lf _ S) (fun f hf _ => qt_L_f d S hf)
  have hstep : ∀ d, qt_R n M p g B A d S ≤ qt_L n M p g B d S → qt_R n M p g B A d S ≤ qt_L n M p g B (d + 1) S := by
    intro d hd
    refine qt_L_le (qt_m_b _ _ _) (fun f hf => ?_)
    cases ha : A f
    · exact qt_R_f d S hf ha
    · rcases hA f hf ha with ⟨e1, e2⟩ | ⟨e1, e2⟩
      · rw [e1, e2, qt_L_no]; omega
      · rw [e1, e2, qt_L_no]; omega
  have hle : ∀ d, qt_R n M p g B A d S ≤ qt_L n M p g B (d + 1) S := by
    intro d
    induction d with
    | zero => exact hstep 0 (qt_m_b _ _ _)
    | succ d ih =>
      refine hstep (d + 1) (Nat.le_trans (qt_R_le (qt_m_b _ _ _) (fun f hf ha => ?_)) ih)
      have h1 := qt_R_f (n := n) (M := M) (p := p) (g := g) (B := B) (A := A) (d + 1) S hf ha
      have h2 := qt_L_mono (n := n) (M := M) (p := p) (g := g) (B := B) d (qt_no B S f)
      have h3 := qt_L_mono (n := n) (M := M) (p := p) (g := g) (B := B) d (qt_ye B S f)
      omega
  exact fun d => Nat.le_antisymm (hle d) (hge d)
end
/-! mistakes first, then leaves: both weights give the same pair -/
def qt_x (Q a b : Nat) : Prop := ∃ m q : Nat, q ≤ Q ∧ a = 64 * m + q ∧ b = 100 * m + q
theorem qt_x_m {Q b b' : Nat} {t t' : Nat → Nat} (hQ : Q < 64) (h0 : qt_x Q b b') (ht : ∀ f, qt_x Q (t f) (t' f)) : ∀ k, qt_x Q (qt_m b t k) (qt_m b' t' k) := by
  intro k
  induction k with
  | zero => exact h0
  | succ k ih =>
    obtain ⟨m, q, h1, h2, h3⟩ := ih
    obtain ⟨m', q', h4, h5, h6⟩ := ht k
    by_cases h : t k < qt_m b t k
    · rw [qt_m_t h, qt_m_t (by omega)]
      exact ⟨m', q', h4, h5, h6⟩
    · rw [qt_m_f (by omega), qt_m_f (by omega)]
      exact ⟨m, q, h1, h2, h3⟩
theorem qt_x_L (n : Nat) (g : Nat → Bool) (B : Nat → Nat → Bool) : ∀ d, d ≤ 3 → ∀ S, qt_x (2 ^ d - 1) (qt_L n 64 1 g B d S) (qt_L n 100 1 g B d S) := by
  intro d
  induction d with
  | zero => exact fun _ S => ⟨qt_mi (qt_gd n g S) (qt_bd n g S), 0, by omega, rfl, rfl⟩
  | succ d ih =>
    intro hd S
    have hp : 2 ^ (d + 1) = 2 * 2 ^ d := by rw [Nat.pow_succ, Nat.mul_comm]
    have hq : 0 < 2 ^ d := Nat.two_pow_pos d
    have hr : 2 ^ d ≤ 2 ^ 2 := Nat.pow_le_pow_right (by decide) (by omega)
    have h0 : qt_x (2 ^ (d + 1) - 1) (qt_lf n 64 g S) (qt_lf n 100 g S) := ⟨qt_mi (qt_gd n g S) (qt_bd n g S), 0, Nat.zero_le _, rfl, rfl⟩
    have ht : ∀ f, qt_x (2 ^ (d + 1) - 1) (1 + qt_L n 64 1 g B d (qt_no B S f) + qt_L n 64 1 g B d (qt_ye B S f)) (1 + qt_L n 100 1 g B d (qt_no B S f) + qt_L n 100 1 g B d (qt_ye B S f)) := fun f => by
      obtain ⟨m, q, h1, h2, h3⟩ := ih (by omega) (qt_no B S f)
      obtain ⟨m', q', h4, h5, h6⟩ := ih (by omega) (qt_ye B S f)
      refine ⟨m + m', 1 + q + q', by omega, ?_, ?_⟩
      · rw [h2, h5]; omega
      · rw [h3, h6]; omega
    have hQ : 2 ^ (d + 1) - 1 < 64 := by omega
    exact qt_x_m (t := fun f => 1 + qt_L n 64 1 g B d (qt_no B S f) + qt_L n 64 1 g B d (qt_ye B S f)) (t' := fun f => 1 + qt_L n 100 1 g B d (qt_no B S f) + qt_L n 100 1 g B d (qt_ye B S f)) hQ h0 ht 6
theorem qt_x_mod {n d : Nat} {g : Nat → Bool} {B : Nat → Nat → Bool} (hd : d ≤ 3) (S : Nat → Bool) : qt_L n 64 1 g B d S % 64 = qt_L n 100 1 g B d S % 100 := by
  obtain ⟨m, q, h1, h2, h3⟩ := qt_x_L n g B d hd S
  have hr : 2 ^ d ≤ 2 ^ 3 := Nat.pow_le_pow_right (by decide) hd
  rw [h2, h3]
  omega
end
section
/-! answers to the base 3 -/
theorem qt_six {f : Nat} (h : f < 6) : f = 0 ∨ f = 1 ∨ f = 2 ∨ f = 3 ∨ f = 4 ∨ f = 5 := by omega
def qt_A (x : Nat) (b : Bool) : Bool := if x = 0 then true else if x = 1 then !b else b
def qt_I (B : Nat → Nat → Bool) (a : Nat) : Nat → Nat → Bool
  | 0 => fun _ => true
  | k + 1 => fun i => qt_I B a k i && qt_A (a / 3 ^ k % 3) (B i k)
theorem qt_dE {a f c : Nat} (hc : c < 3) (h : a / 3 ^ f % 3 = 0) : (a + c * 3 ^ f) / 3 ^ f % 3 = c := by
  rw [Nat.add_mul_div_right a c (Nat.pow_pos (by decide))]
  generalize a / 3 ^ f = q at *
  omega
theorem qt_dN {a f j c : Nat} (hf : f < 6) (hj : j < 6) (hc : c < 3) (hn : j ≠ f) (h : a / 3 ^ f % 3 = 0) : (a + c * 3 ^ f) / 3 ^ j % 3 = a / 3 ^ j % 3 := by
  rcases qt_six hf with rfl | rfl | rfl | rfl | rfl | rfl <;> rcases qt_six hj with rfl | rfl | rfl | rfl | rfl | rfl <;> first | exact absurd rfl hn | (simp only [Nat.reducePow] at h ⊢; omega)
theorem qt_a2 {a f : Nat} (hf : f < 6) (ha : a < 729) (h : a / 3 ^ f % 3 = 0) : a + 2 * 3 ^ f < 729 := by
  rcases qt_six hf with rfl | rfl | rfl | rfl | rfl | rfl <;> (simp only [Nat.reducePow] at h ⊢; omega)
theorem qt_p3 {f : Nat} (hf : f < 7) : 3 ^ f ≤ 729 := Nat.pow_le_pow_right (by decide) (show f ≤ 6 by omega)
theorem qt_p3' {f : Nat} (hf : f < 6) : 3 ^ f ≤ 243 := Nat.pow_le_pow_right (by decide) (show f ≤ 5 by omega)
theorem qt_I_add {B : Nat → Nat → Bool} {a f c : Nat} (hf : f < 6) (hc : c < 3) (h : a / 3 ^ f % 3 = 0) (i : Nat) : ∀ k, k ≤ 6 → qt_I B (a + c * 3 ^ f) k i = (qt_I B a k i && (if f < k then qt_A c (B i f) else true)) := by
  intro k
  induction k with
  | zero =>
    intro _
    show true = (true && if f < 0 then qt_A c (B i f) else true)
    rw [if_neg (Nat.not_lt_zero f)]
    rfl
  | succ k ih =>
    intro hk
    show (qt_I B (a + c * 3 ^ f) k i && qt_A ((a + c * 3 ^ f) / 3 ^ k % 3) (B i k)) = (qt_I B a k i && qt_A (a / 3 ^ k % 3) (B i k) && if f < k + 1 then qt_A c (B i f) else true)
    rw [ih (by omega)]
    by_cases e : k = f
    · subst e
      rw [if_neg (Nat.lt_irrefl k), if_pos (Nat.lt_succ_self k), qt_dE hc h, h]
      rfl
    · rw [qt_dN hf (by omega) hc e h]
      by_cases g : f < k
      · rw [if_pos g, if_pos (by omega)]
        exact Bool.and_right_comm _ _ _
      · rw [if_neg g, if_neg (by omega), Bool.and_true, Bool.and_true]
theorem qt_I_no {B : Nat → Nat → Bool} {a f : Nat} (hf : f < 6) (h : a / 3 ^ f % 3 = 0) : qt_I B (a + 3 ^ f) 6 = qt_no B (qt_I B a 6) f := by
  funext i
  have e := qt_I_add (B := B) (c := 1) hf (by decide) h i 6 (Nat.le_refl 6)
  rw [Nat.one_mul, if_pos hf] at e
  exact e
theorem qt_I_ye {B : Nat → Nat → Bool} {a f : Nat} (hf : f < 6) (h : a / 3 ^ f % 3 = 0) : qt_I B (a + 2 * 3 ^ f) 6 = qt_ye B (qt_I B a 6) f := by
  funext i
  have e := qt_I_add (B := B) (c := 2) hf (by decide) h i 6 (Nat.le_refl 6)
  rw [if_pos hf] at e
  exact e
theorem qt_I_dec {B : Nat → Nat → Bool} {a f i : Nat} : ∀ k, f < k → qt_I B a k i = true → qt_A (a / 3 ^ f % 3) (B i f) = true := by
  intro k
  induction k with
  | zero => intro h; omega
  | succ k ih =>
    intro h e
    have e2 : (qt_I B a k i && qt_A (a / 3 ^ k % 3) (B i k)) = true := e
    rw [Bool.and_eq_true] at e2
    rcases Nat.lt_or_ge f k with g | g
    · exact ih g e2.1
    · rw [show f = k by omega]; exact e2.2
theorem qt_I_of {B : Nat → Nat → Bool} {a i : Nat} : ∀ k, (∀ f, f < k → qt_A (a / 3 ^ f % 3) (B i f) = true) → qt_I B a k i = true := by
  intro k
  induction k with
  | zero => intro _; rfl
  | succ k ih =>
    intro h
    show (qt_I B a k i && qt_A (a / 3 ^ k % 3) (B i k)) = true
    rw [ih (fun f hf => h f (by omega)), h k (by omega)]
    rfl
theorem qt_I_0 (B : Nat → Nat → Bool) : qt_I B 0 6 = fun _ => true := by
  funext i
  exact qt_I_of 6 (fun f _ => by rw [Nat.zero_div]; rfl)
theorem qt_I_A {B : Nat → Nat → Bool} {a : Nat} : ∀ f, f < 6 → decide (¬ a / 3 ^ f % 3 = 0) = true → (qt_no B (qt_I B a 6) f = qt_I B a 6 ∧ qt_ye B (qt_I B a 6) f = fun _ => false) ∨ (qt_no B (qt_I B a 6) f = (fun _ => false) ∧ qt_ye B (qt_I B a 6) f = qt_I B a 6) := by
  intro f hf hd
  have h0 := of_decide_eq_true hd
  have h12 : a / 3 ^ f % 3 = 1 ∨ a / 3 ^ f % 3 = 2 := by
    generalize a / 3 ^ f = q at *
    omega
  rcases h12 with e | e
  · left
    have key : ∀ i, qt_I B a 6 i = true → B i f = false := fun i hi => by
      have t := qt_I_dec 6 hf hi
      rw [e] at t
      have t2 : (!B i f) = true := t
      cases hb : B i f
      · rfl
      · rw [hb] at t2; exact absurd t2 (by decide)
    constructor
    · funext i
      show (qt_I B a 6 i && !B i f) = qt_I B a 6 i
      cases hi : qt_I B a 6 i
      · rfl
      · rw [key i hi]; rfl
    · funext i
      show (qt_I B a 6 i && B i f) = false
      cases hi : qt_I B a 6 i
      · rfl
      · rw [key i hi]; rfl
  · right
    have key : ∀ i, qt_I B a 6 i = true → B i f = true := fun i hi => by
      have t := qt_I_dec 6 hf hi
      rw [e] at t
      exact t
    constructor
    · funext i
      show (qt_I B a 6 i && !B i f) = false
      cases hi : qt_I B a 6 i
      · rfl
      · rw [key i hi]; rfl
    · funext i
      show (qt_I B a 6 i && B i f) = qt_I B a 6 i
      cases hi : qt_I B a 6 i
      · rfl
      · rw [key i hi]; rfl
/-! the answers of one sample to all questions -/
def qt_u (b : Bool) : Nat := if b = true then 1 else 0
theorem qt_u_le (b : Bool) : qt_u b ≤ 1 := by cases b <;> decide
def qt_cd (b : Nat → Bool) : Nat → Nat
  | 0 => 0
  | k + 1 => qt_cd b k + 3 ^ k * (1 + qt_u (b k))
theorem qt_cd_6 (b : Nat → Bool) : qt_cd b 6 = (1 + qt_u (b 0)) + 3 * (1 + qt_u (b 1)) + 9 * (1 + qt_u (b 2)) + 27 * (1 + qt_u (b 3)) + 81 * (1 + qt_u (b 4)) + 243 * (1 + qt_u (b 5)) := by
  simp only [qt_cd, Nat.reducePow]
  omega
theorem qt_cd_le (b : Nat → Bool) : ∀ k, qt_cd b k + 1 ≤ 3 ^ k := by
  intro k
  induction k with
  | zero => exact Nat.le_refl 1
  | succ k ih =>
    have h := qt_u_le (b k)
    have h2 : 3 ^ k * (1 + qt_u (b k)) ≤ 3 ^ k * 2 := Nat.mul_le_mul_left _ (by omega)
    show qt_cd b k + 3 ^ k * (1 + qt_u (b k)) + 1 ≤ 3 ^ k * 3
    omega
theorem qt_cd_dg (b : Nat → Bool) {f : Nat} (hf : f < 6) : qt_cd b 6 / 3 ^ f % 3 = 1 + qt_u (b f) := by
  have h0 := qt_u_le (b 0)
  have h1 := qt_u_le (b 1)
  have h2 := qt_u_le (b 2)
  have h3 := qt_u_le (b 3)
  have h4 := qt_u_le (b 4)
  have h5 := qt_u_le (b 5)
  rw [qt_cd_6]
  rcases qt_six hf with rfl | rfl | rfl | rfl | rfl | rfl <;> (simp only [Nat.reducePow]; omega)
theorem qt_cd_I {B : Nat → Nat → Bool} {k i : Nat} : qt_I B (qt_cd (B k) 6) 6 i = true ↔ ∀ f, f < 6 → B i f = B k f := by
  constructor
  · intro h f hf
    have t := qt_I_dec 6 hf h
    rw [qt_cd_dg (B k) hf] at t
    revert t
    cases B k f <;> cases B i f <;> decide
  · intro h
    refine qt_I_of 6 (fun f hf => ?_)
    rw [qt_cd_dg (B k) hf, h f hf]
    cases B k f <;> decide
/-! features and marks -/
def qt_B (F : Nat → Int32) (i f : Nat) : Bool := decide ((F i).toNatClampNeg / 2 ^ f % 2 = 1)
def qt_g (G : Nat → Int32) (i : Nat) : Bool := !decide (G i = 0)
def qt_ok (F : Nat → Int32) : Prop := ∀ i, ∃ q, q < 64 ∧ F i = nI q
def qt_zo (G : Nat → Int32) : Prop := ∀ i, G i = 0 ∨ G i = 1
theorem qt_dm {x y : Nat} (h : decide (x % 2 = 1) = decide (y % 2 = 1)) : x % 2 = y % 2 := by
  have e := decide_eq_decide.mp h
  omega
theorem qt_64 {x y : Nat} (hx : x < 64) (hy : y < 64) (h : ∀ f, f < 6 → decide (x / 2 ^ f % 2 = 1) = decide (y / 2 ^ f % 2 = 1)) : x = y := by
  have h0 : x / 1 % 2 = y / 1 % 2 := qt_dm (h 0 (by decide))
  have h1 : x / 2 % 2 = y / 2 % 2 := qt_dm (h 1 (by decide))
  have h2 : x / 4 % 2 = y / 4 % 2 := qt_dm (h 2 (by decide))
  have h3 : x / 8 % 2 = y / 8 % 2 := qt_dm (h 3 (by decide))
  have h4 : x / 16 % 2 = y / 16 % 2 := qt_dm (h 4 (by decide))
  have h5 : x / 32 % 2 = y / 32 % 2 := qt_dm (h 5 (by decide))
  clear h
  omega
theorem qt_same {F : Nat → Int32} (hF : qt_ok F) {i k : Nat} : (∀ f, f < 6 → qt_B F i f = qt_B F k f) ↔ F k = F i := by
  constructor
  · intro h
    obtain ⟨x, hx, ex⟩ := hF i
    obtain ⟨y, hy, ey⟩ := hF k
    have e : x = y := qt_64 hx hy (fun f hf => by
      have t := h f hf
      unfold qt_B at t
      rw [ex, ey, nI_clamp (by omega), nI_clamp (by omega)] at t
      exact t)
    rw [ex, ey, e]
  · intro h f _
    unfold qt_B
    rw [h]
theorem qt_u0 : nI (qt_u false) = 0 := nI_0
theorem qt_u1 : nI (qt_u true) = 1 := by decide
theorem qt_uB {q f : Nat} : q / 2 ^ f % 2 = qt_u (decide (q / 2 ^ f % 2 = 1)) := by
  generalize q / 2 ^ f = x
  rcases (show x % 2 = 0 ∨ x % 2 = 1 by omega) with e | e
  · rw [e]; rfl
  · rw [e]; rfl
theorem qt_fX {F : Nat → Int32} (hF : qt_ok F) (i : Nat) {f : Nat} (hf : f < 6) : ((((F i).toUInt32 >>> ((nI f).toUInt32 &&& Int32.toUInt32 31)).toInt32) &&& 1) = nI (qt_u (qt_B F i f)) := by
  obtain ⟨q, hq, e⟩ := hF i
  have h2 : q / 2 ^ f ≤ q := Nat.div_le_self _ _
  unfold qt_B
  rw [e, nI_clamp (by omega), pk_ushrN (by omega) (nI f) f (s_u f (by omega)), pk_andN (by omega) 1 (by decide), ← qt_uB]
theorem qt_fY {F : Nat → Int32} (hF : qt_ok F) (i : Nat) {f : Nat} (hf : f < 6) : (((F i) >>> (nI f &&& 31)) &&& 1) = nI (qt_u (qt_B F i f)) := by
  obtain ⟨q, hq, e⟩ := hF i
  have h2 : q / 2 ^ f ≤ q := Nat.div_le_self _ _
  unfold qt_B
  rw [e, nI_clamp (by omega), pk_shrN (by omega) (nI f &&& 31) f (s_l f (by omega)), pk_andN (by omega) 1 (by decide), ← qt_uB]
/-! words as sets of samples -/
def qt_b (w : Int64) (i : Nat) : Bool := w.toBitVec.getLsbD i
theorem qt_b_and (x y : Int64) (i : Nat) : qt_b (x &&& y) i = (qt_b x i && qt_b y i) := by unfold qt_b; rw [Int64.toBitVec_and, BitVec.getLsbD_and]
theorem qt_b_or (x y : Int64) (i : Nat) : qt_b (x ||| y) i = (qt_b x i || qt_b y i) := by unfold qt_b; rw [Int64.toBitVec_or, BitVec.getLsbD_or]
theorem qt_b_xor (x y : Int64) (i : Nat) : qt_b (x ^^^ y) i = (qt_b x i ^^ qt_b y i) := by unfold qt_b; rw [Int64.toBitVec_xor, BitVec.getLsbD_xor]
theorem qt_b_0 (i : Nat) : qt_b 0 i = false := BitVec.getLsbD_zero
theorem qt_b_m1 : ∀ i, i < 64 → qt_b (-1) i = true := by decide +kernel
theorem qt_b_not (x : Int64) {i : Nat} (hi : i < 64) : qt_b (x ^^^ (-1)) i = !qt_b x i := by rw [qt_b_xor, qt_b_m1 i hi, Bool.xor_true]
theorem qt_b_one : ∀ k, k < 48 → ∀ i, i < 64 → qt_b ((1 : Int64) <<< ((nI k).toInt64 &&& 63)) i = decide (i = k) := by decide +kernel
theorem qt_b_all : ∀ n, n < 49 → ∀ i, i < n → qt_b (((1 : Int64) <<< ((nI n).toInt64 &&& 63)) - 1) i = true := by decide +kernel
theorem qt_b_tst {w : Int64} {i : Nat} (hi : i < 64) : ((w >>> ((nI i).toInt64 &&& 63)) &&& 1) = 1 ↔ qt_b w i = true := by
  have e : (w >>> ((nI i).toInt64 &&& 63)).toBitVec = w.toBitVec.sshiftRight i := by
    rw [wb_c i hi, Int64.toBitVec_shiftRight]
    show w.toBitVec.sshiftRight ((BitVec.ofNat 64 i).smod 64).toNat = _
    rw [wb_sm i hi, BitVec.toNat_ofNat, Nat.mod_eq_of_lt (by omega)]
  rw [← Int64.toBitVec_inj, Int64.toBitVec_and, e]
  show w.toBitVec.sshiftRight i &&& 1#64 = 1#64 ↔ w.toBitVec.getLsbD i = true
  have hb : (w.toBitVec.sshiftRight i).getLsbD 0 = w.toBitVec.getLsbD i := by
    rw [BitVec.getLsbD_sshiftRight]
    simp [hi]
  constructor
  · intro h
    have t := congrArg (fun x => x.getLsbD 0) h
    rw [BitVec.getLsbD_and, hb] at t
    simpa using t
  · intro h
    apply BitVec.eq_of_getLsbD_eq
    intro j hj
    rw [BitVec.getLsbD_and]
    cases j with
    | zero => rw [hb, h]; rfl
    | succ j => simp
theorem qt_b_cnt (w : Int64) {i : Nat} (hi : i < 64) : ((((w.toUInt64 >>> ((nI i).toInt64.toUInt64 &&& Int64.toUInt64 63)).toInt64).toInt32) &&& 1) = nI (if qt_b w i = true then 1 else 0) := by
  obtain ⟨x, hx, rfl⟩ := wb_of w
  rw [wb_shr hx hi, lN_i, pk_and _ 1 (by decide)]
  have e : qt_b (lN x) i = decide (x / 2 ^ i % 2 = 1) := by
    unfold qt_b
    rw [wb_tb, BitVec.getLsbD_ofNat, Nat.testBit_eq_decide_div_mod_eq, decide_eq_true hi, Bool.true_and]
  rw [e]
  refine congrArg nI ?_
  show (BitVec.ofNat 32 (x / 2 ^ i)).toNat % 2 ^ 1 = _
  rw [BitVec.toNat_ofNat]
  generalize x / 2 ^ i = y
  rcases (show y % 2 = 0 ∨ y % 2 = 1 by omega) with z | z
  · rw [if_neg (by rw [z]; decide)]; omega
  · rw [if_pos (by rw [z]; decide)]; omega
end
section
/-! the reference's walks -/
section
variable {n : Nat} {m p : Int32} {F G : Nat → Int32}
theorem qy_all {post : Int64 → Prop} (hn : n ≤ 48) (hp : ∀ r, (∀ i, i < n → qt_b r i = true) → post r) : wpY_all post (nI n, m, p, F, G) :=
  hp _ (qt_b_all n (by omega))
theorem qy_part6 {post : Int64 → Prop} {w : Int64} {S : Nat → Bool} {f : Nat} (hn : n ≤ 48) (hF : qt_ok F) (hf : f < 6) (hS : ∀ i, i < n → qt_b w i = S i)
    (hp : ∀ r, (∀ i, i < n → qt_b r i = qt_no (qt_B F) S f i) → post r) :
    ∀ k j r, j + k = n → (∀ i, i < 64 → qt_b r i = (decide (i < j) && qt_no (qt_B F) S f i)) → wY_part_6 post w (nI f) 0 (nI n) m p F G (k + 1) r (nI j) := by
  intro k
  induction k with
  | zero =>
    intro j r hj hr
    exact br_t (nI_le (by omega) (by omega)) (hp r (fun i hi => by rw [hr i (by omega), decide_eq_true (by omega), Bool.true_and]))
  | succ k ih =>
    intro j r hj hr
    have hj48 : j < 48 := by omega
    have hnx : ¬ nI n ≤ nI j := nI_ge (by omega) (by omega)
    have skip : qt_no (qt_B F) S f j = false → wY_part_6 post w (nI f) 0 (nI n) m p F G (k + 1) r (nI j + 1) := fun hz => by
      rw [nI_1]
      refine ih (j + 1) r (by omega) (fun i hi => ?_)
      rw [hr i hi]
      by_cases e : i = j
      · subst e
        rw [hz, Bool.and_false, Bool.and_false]
      · rw [show decide (i < j + 1) = decide (i < j) from decide_eq_decide.mpr (by omega)]
    cases hb : qt_b w j
    · have h0 : ¬ ((w >>> ((nI j).toInt64 &&& 63)) &&& 1) = 1 := fun z => by
        rw [qt_b_tst (by omega), hb] at z
        exact absurd z (by decide)
      refine br_f hnx (br_f h0 (nm_e (skip ?_)))
      show (S j && !qt_B F j f) = false
      rw [← hS j (by omega), hb, Bool.false_and]
    · have h1 : ((w >>> ((nI j).toInt64 &&& 63)) &&& 1) = 1 := (qt_b_tst (by omega)).mpr hb
      refine br_f hnx (br_t h1 ⟨vp_in_nI hj48 (by decide), br_t rfl ?_⟩)
      unfold wY_part_47
      rw [nI_clamp (by omega), qt_fY hF j hf]
      have hSj : S j = true := by rw [← hS j (by omega), hb]
      cases hB : qt_B F j f
      · refine br_t qt_u0 (nm_e (nm_e ?_))
        rw [nI_1]
        refine ih (j + 1) _ (by omega) (fun i hi => ?_)
        rw [qt_b_or, hr i hi, qt_b_one j hj48 i hi]
        by_cases e : i = j
        · subst e
          have hz : qt_no (qt_B F) S f i = true := by
            show (S i && !qt_B F i f) = true
            rw [hSj, hB]
            rfl
          rw [hz, decide_eq_true rfl, decide_eq_true (Nat.lt_succ_self i), Bool.or_true]
          rfl
        · rw [show decide (i < j + 1) = decide (i < j) from decide_eq_decide.mpr (by omega), decide_eq_false e, Bool.or_false]
      · refine br_f (by rw [qt_u1]; decide) (nm_e (skip ?_))
        show (S j && !qt_B F j f) = false
        rw [hB, Bool.not_true, Bool.and_false]
theorem qy_part {post : Int64 → Prop} {w : Int64} {S : Nat → Bool} {f : Nat} (hn : n ≤ 48) (hF : qt_ok F) (hf : f < 6) (hS : ∀ i, i < n → qt_b w i = S i)
    (hp : ∀ r, (∀ i, i < n → qt_b r i = qt_no (qt_B F) S f i) → (∀ i, i < n → qt_b (w &&& (r ^^^ (-1))) i = qt_ye (qt_B F) S f i) → post r) : wpY_part post (nI n, m, p, F, G) w (nI f) 0 := by
  refine ⟨n + 1, qy_part6 (S := S) hn hF hf hS (fun r hr => hp r hr (fun i hi => ?_)) n 0 0 (by omega) (fun i _ => ?_)⟩
  · rw [qt_b_and, qt_b_not r (by omega), hr i hi, hS i hi]
    show (S i && !(S i && !qt_B F i f)) = (S i && qt_B F i f)
    cases S i <;> cases qt_B F i f <;> rfl
  · rw [qt_b_0, decide_eq_false (Nat.not_lt_zero i), Bool.false_and]
theorem qy_leaf8 {post : Int32 → Prop} {w : Int64} {S : Nat → Bool} {M : Nat} (hn : n ≤ 48) (hS : ∀ i, i < n → qt_b w i = S i)
    (hp : post (nI (qt_lf n M (qt_g G) S))) : ∀ k j, j + k = n →
    wY_leaf_8 post w (nI n) (nI M) p F G (k + 1) (nI (qt_c (fun i => S i && qt_g G i) j)) (nI (qt_c (fun i => S i && !qt_g G i) j)) (nI j) := by
  intro k
  induction k with
  | zero =>
    intro j hj
    obtain rfl : j = n := by omega
    have h1 := qt_c_le (fun i => S i && qt_g G i) j
    have h2 := qt_c_le (fun i => S i && !qt_g G i) j
    have e : qt_lf j M (qt_g G) S = M * qt_mi (qt_c (fun i => S i && qt_g G i) j) (qt_c (fun i => S i && !qt_g G i) j) := rfl
    rw [e] at hp
    refine br_t (nI_le (Nat.le_refl _) (by omega)) (pk_le (qt_c (fun i => S i && !qt_g G i) j) (qt_c (fun i => S i && qt_g G i) j) (fun h => ?_) (fun h => ?_))
    · rw [pk_mul]
      unfold qt_mi at hp
      rw [if_neg (by omega)] at hp
      exact hp
    · rw [pk_mul]
      unfold qt_mi at hp
      rw [if_pos h] at hp
      exact hp
  | succ k ih =>
    intro j hj
    have hj48 : j < 48 := by omega
    have hnx : ¬ nI n ≤ nI j := nI_ge (by omega) (by omega)
    have hin : vp_in (nI j) 48 := vp_in_nI hj48 (by decide)
    have hcl : (nI j).toNatClampNeg = j := nI_clamp (by omega)
    have hSj := hS j (by omega)
    have IH := ih (j + 1) (by omega)
    cases hb : qt_b w j
    · have h0 : ¬ ((w >>> ((nI j).toInt64 &&& 63)) &&& 1) = 1 := fun z => by
        rw [qt_b_tst (by omega), hb] at z
        exact absurd z (by decide)
      rw [hb] at hSj
      rw [qt_c_f (by show (S j && qt_g G j) = false; rw [← hSj]; rfl), qt_c_f (by show (S j && !qt_g G j) = false; rw [← hSj]; rfl)] at IH
      refine br_f hnx (br_f h0 ?_)
      unfold wY_leaf_41
      exact br_f h0 (nm_r (nI_1 j) IH)
    · have h1 : ((w >>> ((nI j).toInt64 &&& 63)) &&& 1) = 1 := (qt_b_tst (by omega)).mpr hb
      rw [hb] at hSj
      by_cases hG : G j = 0
      · have hg : qt_g G j = false := by unfold qt_g; rw [decide_eq_true hG]; rfl
        have hG' : G (nI j).toNatClampNeg = 0 := by rw [hcl]; exact hG
        rw [qt_c_f (by show (S j && qt_g G j) = false; rw [← hSj, hg]; rfl), qt_c_t (by show (S j && !qt_g G j) = true; rw [← hSj, hg]; rfl)] at IH
        refine br_f hnx (br_t h1 ⟨hin, br_t hG' ?_⟩)
        unfold wY_leaf_41
        exact br_t h1 ⟨hin, br_t hG' (nm_r (nI_1 _) (nm_r (nI_1 j) IH))⟩
      · have hg : qt_g G j = true := by unfold qt_g; rw [decide_eq_false hG]; rfl
        have hG' : ¬ G (nI j).toNatClampNeg = 0 := by rw [hcl]; exact hG
        rw [qt_c_t (by show (S j && qt_g G j) = true; rw [← hSj, hg]; rfl), qt_c_f (by show (S j && !qt_g G j) = false; rw [← hSj, hg]; rfl)] at IH
        refine br_f hnx (br_t h1 ⟨hin, br_f hG' (nm_r (nI_1 _) ?_)⟩)
        unfold wY_leaf_41
        exact br_t h1 ⟨hin, br_f hG' (nm_r (nI_1 j) IH)⟩
theorem qy_leaf {post : Int32 → Prop} {w : Int64} {S : Nat → Bool} {M : Nat} (hn : n ≤ 48) (hS : ∀ i, i < n → qt_b w i = S i)
    (hp : post (nI (qt_lf n M (qt_g G) S))) : wpY_leaf post (nI n, nI M, p, F, G) w :=
  ⟨n + 1, qy_leaf8 hn hS hp n 0 (by omega)⟩
end
section
variable {n M P : Nat} {F G : Nat → Int32}
def qt_T (n M P : Nat) (F G : Nat → Int32) (d : Nat) (S : Nat → Bool) (f : Nat) : Nat :=
  P + qt_L n M P (qt_g G) (qt_B F) d (qt_no (qt_B F) S f) + qt_L n M P (qt_g G) (qt_B F) d (qt_ye (qt_B F) S f)
theorem qt_L_b (hn : n ≤ 48) (hM : M ≤ 100) (d : Nat) (S : Nat → Bool) : qt_L n M P (qt_g G) (qt_B F) d S ≤ 4800 :=
  Nat.le_trans (qt_L_lf d S) (qt_lf_le n M _ S hn hM)
theorem qt_T_b (hn : n ≤ 48) (hM : M ≤ 100) (hP : P ≤ 20) (d : Nat) (S : Nat → Bool) (f : Nat) : qt_T n M P F G d S f ≤ 9620 := by
  have h1 := qt_L_b (P := P) (F := F) (G := G) hn hM d (qt_no (qt_B F) S f)
  have h2 := qt_L_b (P := P) (F := F) (G := G) hn hM d (qt_ye (qt_B F) S f)
  unfold qt_T
  omega
theorem qt_L_s (d : Nat) (S : Nat → Bool) : qt_L n M P (qt_g G) (qt_B F) (d + 1) S = qt_m (qt_lf n M (qt_g G) S) (qt_T n M P F G d S) 6 := rfl
theorem qt_mT_b (hn : n ≤ 48) (hM : M ≤ 100) (d : Nat) (S : Nat → Bool) (k : Nat) : qt_m (qt_lf n M (qt_g G) S) (qt_T n M P F G d S) k ≤ 4800 :=
  Nat.le_trans (qt_m_b _ _ k) (qt_lf_le n M _ S hn hM)
theorem qy_one9 {post : Int32 → Prop} {w : Int64} {S : Nat → Bool} (hn : n ≤ 48) (hM : M ≤ 100) (hP : P ≤ 20) (hF : qt_ok F) (hS : ∀ i, i < n → qt_b w i = S i)
    (hp : post (nI (qt_L n M P (qt_g G) (qt_B F) 1 S))) : ∀ k j, j + k = 6 →
    wY_one_9 post w (nI n) (nI M) (nI P) F G (k + 1) (nI (qt_m (qt_lf n M (qt_g G) S) (qt_T n M P F G 0 S) j)) (nI j) := by
  intro k
  induction k with
  | zero =>
    intro j hj
    obtain rfl : j = 6 := by omega
    exact br_t (nI_le (a := 6) (b := 6) (by omega) (by omega)) hp
  | succ k ih =>
    intro j hj
    have IH := ih (j + 1) (by omega)
    have b1 := qt_mT_b (P := P) (F := F) (G := G) hn hM 0 S j
    have b2 := qt_T_b (F := F) (G := G) hn hM hP 0 S j
    refine br_f (nI_ge (b := 6) (by omega) (by omega)) (qy_part hn hF (by omega) hS (fun r hr1 hr2 => qy_leaf hn hr1 (qy_leaf hn hr2 ?_)))
    refine nm_r (e' := nI (qt_T n M P F G 0 S j)) ?_ (pk_le (qt_m (qt_lf n M (qt_g G) S) (qt_T n M P F G 0 S) j) (qt_T n M P F G 0 S j) (fun h => nm_r (nI_1 j) ?_) (fun h => nm_r (nI_1 j) ?_))
    · rw [nI_add, nI_add]; rfl
    · rw [qt_m_f h] at IH; exact IH
    · rw [qt_m_t h] at IH; exact IH
theorem qy_one {post : Int32 → Prop} {w : Int64} {S : Nat → Bool} (hn : n ≤ 48) (hM : M ≤ 100) (hP : P ≤ 20) (hF : qt_ok F) (hS : ∀ i, i < n → qt_b w i = S i)
    (hp : post (nI (qt_L n M P (qt_g G) (qt_B F) 1 S))) : wpY_one post (nI n, nI M, nI P, F, G) w := by
  unfold wpY_one
  dsimp only
  exact qy_leaf hn hS ⟨7, qy_one9 hn hM hP hF hS hp 6 0 (by omega)⟩
theorem qy_two9 {post : Int32 → Prop} {w : Int64} {S : Nat → Bool} (hn : n ≤ 48) (hM : M ≤ 100) (hP : P ≤ 20) (hF : qt_ok F) (hS : ∀ i, i < n → qt_b w i = S i)
    (hp : post (nI (qt_L n M P (qt_g G) (qt_B F) 2 S))) : ∀ k j, j + k = 6 →
    wY_two_9 post w (nI n) (nI M) (nI P) F G (k + 1) (nI (qt_m (qt_lf n M (qt_g G) S) (qt_T n M P F G 1 S) j)) (nI j) := by
  intro k
  induction k with
  | zero =>
    intro j hj
    obtain rfl : j = 6 := by omega
    exact br_t (nI_le (a := 6) (b := 6) (by omega) (by omega)) hp
  | succ k ih =>
    intro j hj
    have IH := ih (j + 1) (by omega)
    have b1 := qt_mT_b (P := P) (F := F) (G := G) hn hM 1 S j
    have b2 := qt_T_b (F := F) (G := G) hn hM hP 1 S j
    refine br_f (nI_ge (b := 6) (by omega) (by omega)) (qy_part hn hF (by omega) hS (fun r hr1 hr2 => qy_one hn hM hP hF hr1 (qy_one hn hM hP hF hr2 ?_)))
    refine nm_r (e' := nI (qt_T n M P F G 1 S j)) ?_ (pk_le (qt_m (qt_lf n M (qt_g G) S) (qt_T n M P F G 1 S) j) (qt_T n M P F G 1 S j) (fun h => nm_r (nI_1 j) ?_) (fun h => nm_r (nI_1 j) ?_))
    · rw [nI_add, nI_add]; rfl
    · rw [qt_m_f h] at IH; exact IH
    · rw [qt_m_t h] at IH; exact IH
theorem qy_two {post : Int32 → Prop} {w : Int64} {S : Nat → Bool} (hn : n ≤ 48) (hM : M ≤ 100) (hP : P ≤ 20) (hF : qt_ok F) (hS : ∀ i, i < n → qt_b w i = S i)
    (hp : post (nI (qt_L n M P (qt_g G) (qt_B F) 2 S))) : wpY_two post (nI n, nI M, nI P, F, G) w := by
  unfold wpY_two
  dsimp only
  exact qy_leaf hn hS ⟨7, qy_two9 hn hM hP hF hS hp 6 0 (by omega)⟩
theorem qy_least {post : Int32 → Prop} {w : Int64} {S : Nat → Bool} {d : Nat} (hn : n ≤ 48) (hM : M ≤ 100) (hP : P ≤ 20) (hF : qt_ok F) (hd : d < 3) (hS : ∀ i, i < n → qt_b w i = S i)
    (hp : post (nI (qt_L n M P (qt_g G) (qt_B F) d S))) : wpY_least post (nI n, nI M, nI P, F, G) w (nI d) := by
  unfold wpY_least
  dsimp only
  rcases (show d = 0 ∨ d = 1 ∨ d = 2 by omega) with rfl | rfl | rfl
  · exact br_t nI_0 (qy_leaf hn hS hp)
  · exact br_f (by decide) (br_t (by decide) (qy_one hn hM hP hF hS hp))
  · exact br_f (by decide) (br_f (by decide) (qy_two hn hM hP hF hS hp))
theorem qy_by {post : Int32 → Prop} {d f : Nat} (hn : n ≤ 48) (hM : M ≤ 100) (hP : P ≤ 20) (hF : qt_ok F) (hd : d < 3) (hf : f < 6)
    (hp : post (nI (qt_T n M P F G d (fun _ => true) f))) : wpY_by post (nI n, nI M, nI P, F, G) (nI (d + 1)) (nI f) := by
  unfold wpY_by
  dsimp only
  rw [nI_pred]
  refine qy_all hn (fun w hw => qy_part (S := fun _ => true) hn hF hf hw (fun r hr1 hr2 => qy_least hn hM hP hF hd hr1 (qy_least hn hM hP hF hd hr2 ?_)))
  rw [nI_add, nI_add]
  exact hp
theorem qy_cheap15 {post : Int32 → Prop} {d : Nat} (hn : n ≤ 48) (hM : M ≤ 100) (hP : P ≤ 20) (hF : qt_ok F) (hd : d < 3)
    (hp : post (nI (qt_L n M P (qt_g G) (qt_B F) (d + 1) (fun _ => true)))) : ∀ k j, j + k = 6 →
    wY_cheapest_15 post (nI (d + 1)) (nI n) (nI M) (nI P) F G (k + 1) (nI (qt_m (qt_lf n M (qt_g G) (fun _ => true)) (qt_T n M P F G d (fun _ => true)) j)) (nI j) := by
  intro k
  induction k with
  | zero =>
    intro j hj
    obtain rfl : j = 6 := by omega
    exact br_t (nI_le (a := 6) (b := 6) (by omega) (by omega)) hp
  | succ k ih =>
    intro j hj
    have IH := ih (j + 1) (by omega)
    have b1 := qt_mT_b (P := P) (F := F) (G := G) hn hM d (fun _ => true) j
    have b2 := qt_T_b (F := F) (G := G) hn hM hP d (fun _ => true) j
    refine br_f (nI_ge (b := 6) (by omega) (by omega)) (br_f (nI_nle (by omega) (by omega)) (qy_by hn hM hP hF hd (by omega) ?_))
    refine pk_le (qt_m (qt_lf n M (qt_g G) (fun _ => true)) (qt_T n M P F G d (fun _ => true)) j) (qt_T n M P F G d (fun _ => true) j) (fun h => nm_r (nI_1 j) ?_) (fun h => nm_r (nI_1 j) ?_)
    · rw [qt_m_f h] at IH; exact IH
    · rw [qt_m_t h] at IH; exact IH
theorem qy_cheapest {post : Int32 → Prop} {d : Nat} (hn : n ≤ 48) (hM : M ≤ 100) (hP : P ≤ 20) (hF : qt_ok F) (hd : d ≤ 3)
    (hp : post (nI (qt_L n M P (qt_g G) (qt_B F) d (fun _ => true)))) : wpY_cheapest post (nI n, nI M, nI P, F, G) (nI d) := by
  unfold wpY_cheapest
  dsimp only
  refine qy_all hn (fun w hw => qy_leaf (S := fun _ => true) hn hw ?_)
  cases d with
  | zero => exact ⟨1, br_f (by decide) (br_t (by decide) hp)⟩
  | succ d => exact ⟨7, qy_cheap15 hn hM hP hF (by omega) hp 6 0 (by omega)⟩
end
end
section
/-! the component's count -/
def qt_CT (n : Nat) (F G gl bl : Nat → Int32) : Prop := ∀ a, a < 729 → gl a = nI (qt_gd n (qt_g G) (qt_I (qt_B F) a 6)) ∧ bl a = nI (qt_bd n (qt_g G) (qt_I (qt_B F) a 6))
def qt_pw (pw : Nat → Int32) : Prop := ∀ f, f < 7 → pw f = nI (3 ^ f)
theorem qt_st0 {q : Nat → Bool} {x : Nat} (hq : q x = false) (i : Nat) : (decide (i < x) && q i) = (decide (i < x + 1) && q i) := by
  by_cases e : i = x
  · subst e
    rw [hq, Bool.and_false, Bool.and_false]
  · rw [show decide (i < x + 1) = decide (i < x) from decide_eq_decide.mpr (by omega)]
theorem qt_st1 {q : Nat → Bool} {x : Nat} (hq : q x = true) (i : Nat) : ((decide (i < x) && q i) || decide (i = x)) = (decide (i < x + 1) && q i) := by
  by_cases e : i = x
  · subst e
    rw [hq, decide_eq_true rfl, decide_eq_true (Nat.lt_succ_self i), Bool.or_true]
    rfl
  · rw [show decide (i < x + 1) = decide (i < x) from decide_eq_decide.mpr (by omega), decide_eq_false e, Bool.or_false]
theorem qt_st2 (x i : Nat) : (decide (i < x) || decide (i = x)) = decide (i < x + 1) := by
  have h := qt_st1 (q := fun _ => true) (x := x) rfl i
  rw [Bool.and_true, Bool.and_true] at h
  exact h
theorem qx_ones4 {post : Int32 → Prop} {w : Int64} (hp : post (nI (qt_c (qt_b w) 48))) : ∀ k j, j + k = 48 → wX_ones_4 post w (k + 1) (nI (qt_c (qt_b w) j)) (nI j) := by
  intro k
  induction k with
  | zero =>
    intro j hj
    obtain rfl : j = 48 := by omega
    exact br_t (nI_le (a := 48) (b := 48) (by omega) (by omega)) hp
  | succ k ih =>
    intro j hj
    refine br_f (nI_ge (b := 48) (by omega) (by omega)) (nm_r (e' := nI (qt_c (qt_b w) (j + 1))) ?_ (nm_r (nI_1 j) (ih (j + 1) (by omega))))
    rw [qt_b_cnt w (by omega), nI_add]
    rfl
theorem qx_ones {post : Int32 → Prop} {w : Int64} {v : Nat} (hv : qt_c (qt_b w) 48 = v) (hp : post (nI v)) : wpX_ones post w := by
  subst hv
  exact ⟨49, qx_ones4 hp 48 0 (by omega)⟩
theorem qt_ones_cut {n : Nat} {w : Int64} {q : Nat → Bool} (hn : n ≤ 48) (h : ∀ i, i < 64 → qt_b w i = (decide (i < n) && q i)) : qt_c (qt_b w) 48 = qt_c q n := by
  rw [qt_c_congr (q := fun i => decide (i < n) && q i) 48 (fun i hi => h i (by omega))]
  have e := qt_c_cut (q := q) (n := n) (48 - n)
  rw [show n + (48 - n) = 48 by omega] at e
  exact e
theorem qt_dig {a f : Nat} {x : Int32} (ha : a < 729) (hf : f < 7) (hx : x = nI (3 ^ f)) : (nI a / x) - (nI a / x) / 3 * 3 = nI (a / 3 ^ f % 3) := by
  have h3 : 0 < 3 ^ f := Nat.pow_pos (by decide)
  have h4 := qt_p3 hf
  have h5 := Nat.div_le_self a (3 ^ f)
  rw [hx, pk_div (by omega) h3 (by omega)]
  exact pk_rem (d := 3) (by omega) (by omega) (by omega)
section
variable {n : Nat} {c : Int32} {F G be pw : Nat → Int32}
theorem qx_153 {post : SX → Prop} {J : Int32 → (Nat → Int32) → (Nat → Int32) → (Nat → Int32) → (Nat → Int32) → (Nat → Int64) → (Nat → Int32) → (Nat → Int32) → Prop} {x1 x3 : Int64} {gl bl : Nat → Int32} {sy : Nat → Int64} {a : Nat}
    (hn : n ≤ 48) (hpw : qt_pw pw) (ha : a < 729) (h1 : ∀ i, i < 64 → qt_b x1 i = (decide (i < n) && qt_g G i)) (hsy : ∀ f, f < 6 → ∀ i, i < 64 → qt_b (sy f) i = (decide (i < n) && qt_B F i f))
    (hJ : J (nI (a + 1)) F G (upd gl a (nI (qt_gd n (qt_g G) (qt_I (qt_B F) a 6)))) (upd bl a (nI (qt_bd n (qt_g G) (qt_I (qt_B F) a 6)))) sy be pw) :
    ∀ k j x6, j + k = 6 → (∀ i, i < 64 → qt_b x6 i = (decide (i < n) && qt_I (qt_B F) a j i)) → wX_count_153 post J x1 x3 (nI a) (nI n) c F G gl bl sy be pw (k + 1) x6 (nI j) := by
  intro k
  induction k with
  | zero =>
    intro j x6 hj h6
    obtain rfl : j = 6 := by omega
    have c1 : qt_c (qt_b (x6 &&& x1)) 48 = qt_gd n (qt_g G) (qt_I (qt_B F) a 6) := qt_ones_cut hn (fun i hi => by
      rw [qt_b_and, h6 i hi, h1 i hi]
      cases decide (i < n) <;> cases qt_I (qt_B F) a 6 i <;> cases qt_g G i <;> rfl)
    have c2 : qt_c (qt_b (x6 &&& (x1 ^^^ (-1)))) 48 = qt_bd n (qt_g G) (qt_I (qt_B F) a 6) := qt_ones_cut hn (fun i hi => by
      rw [qt_b_and, qt_b_not _ hi, h6 i hi, h1 i hi]
      cases decide (i < n) <;> cases qt_I (qt_B F) a 6 i <;> cases qt_g G i <;> rfl)
    have hcl : (nI a).toNatClampNeg = a := nI_clamp (by omega)
    have hin : vp_in (nI a) 729 := vp_in_nI ha (by decide)
    exact br_t (nI_le (a := 6) (b := 6) (by omega) (by omega)) (qx_ones c1 ⟨hin, nm_r (by rw [hcl]) (qx_ones c2 ⟨hin, nm_r (by rw [hcl]) (nm_r (nI_1 a) hJ)⟩)⟩)
  | succ k ih =>
    intro j x6 hj h6
    have hj6 : j < 6 := by omega
    have hcl : (nI j).toNatClampNeg = j := nI_clamp (by omega)
    have hx : pw (nI j).toNatClampNeg = nI (3 ^ j) := by rw [hcl]; exact hpw j (by omega)
    have h3 : 0 < 3 ^ j := Nat.pow_pos (by decide)
    have h4 := qt_p3' hj6
    have hd : a / 3 ^ j % 3 < 3 := Nat.mod_lt _ (by decide)
    have hI : ∀ i, qt_I (qt_B F) a (j + 1) i = (qt_I (qt_B F) a j i && qt_A (a / 3 ^ j % 3) (qt_B F i j)) := fun i => rfl
    have hin : vp_in (nI j) 6 := vp_in_nI hj6 (by decide)
    refine br_f (nI_ge (b := 6) hj6 (by omega)) ⟨vp_in_nI (by omega) (by decide), by rw [hx]; exact nI_ne0 h3 (by omega), by decide, nm_r (qt_dig ha (by omega) hx) ?_⟩
    refine pk_eq (a / 3 ^ j % 3) 0 (fun e => nm_e (nm_r (nI_1 j) (ih (j + 1) _ (by omega) (fun i hi => ?_)))) (fun e => pk_eq (a / 3 ^ j % 3) 1 (fun e1 => ⟨hin, nm_e (nm_r (nI_1 j) (ih (j + 1) _ (by omega) (fun i hi => ?_)))⟩) (fun e1 => ⟨hin, nm_e (nm_r (nI_1 j) (ih (j + 1) _ (by omega) (fun i hi => ?_)))⟩))
    · rw [qt_b_and, h6 i hi, qt_b_m1 i hi, hI, e]
      cases decide (i < n) <;> cases qt_I (qt_B F) a j i <;> rfl
    · rw [qt_b_and, h6 i hi, qt_b_not _ hi, hcl, hsy j hj6 i hi, hI, e1]
      cases decide (i < n) <;> cases qt_I (qt_B F) a j i <;> cases qt_B F i j <;> rfl
    · rw [qt_b_and, h6 i hi, hcl, hsy j hj6 i hi, hI, show a / 3 ^ j % 3 = 2 by omega]
      cases decide (i < n) <;> cases qt_I (qt_B F) a j i <;> cases qt_B F i j <;> rfl
theorem qx_139 {post : SX → Prop} {x1 x3 : Int64} {sy : Nat → Int64}
    (hn : n ≤ 48) (hpw : qt_pw pw) (h1 : ∀ i, i < 64 → qt_b x1 i = (decide (i < n) && qt_g G i)) (h3 : ∀ i, i < 64 → qt_b x3 i = decide (i < n)) (hsy : ∀ f, f < 6 → ∀ i, i < 64 → qt_b (sy f) i = (decide (i < n) && qt_B F i f))
    (hp : ∀ gl bl, qt_CT n F G gl bl → post (nI n, c, F, G, gl, bl, sy, be, pw)) :
    ∀ k a gl bl, a + k = 729 → (∀ a', a' < a → gl a' = nI (qt_gd n (qt_g G) (qt_I (qt_B F) a' 6)) ∧ bl a' = nI (qt_bd n (qt_g G) (qt_I (qt_B F) a' 6))) → wX_count_139 post x1 x3 (nI n) c (k + 1) (nI a) F G gl bl sy be pw := by
  intro k
  induction k with
  | zero =>
    intro a gl bl ha h
    obtain rfl : a = 729 := by omega
    exact br_t (nI_le (a := 729) (b := 729) (by omega) (by omega)) (hp gl bl h)
  | succ k ih =>
    intro a gl bl ha h
    refine br_f (nI_ge (b := 729) (by omega) (by omega)) ⟨7, qx_153 hn hpw (by omega) h1 hsy (ih (a + 1) _ _ (by omega) (fun a' h' => ?_)) 6 0 x3 (by omega) (fun i hi => by rw [h3 i hi]; exact (Bool.and_true _).symm)⟩
    by_cases e : a' = a
    · subst e
      exact ⟨pk_us, pk_us⟩
    · rw [pk_un e, pk_un e]
      exact h a' (by omega)
theorem qx_84 {post : SX → Prop} {J : Int64 → Int64 → Int32 → (Nat → Int32) → (Nat → Int32) → (Nat → Int32) → (Nat → Int32) → (Nat → Int64) → (Nat → Int32) → (Nat → Int32) → Prop} {x1 x3 : Int64} {gl bl : Nat → Int32} {x : Nat}
    (hx : x < 48) (hF : qt_ok F) (hJ : ∀ sy : Nat → Int64, (∀ f, f < 6 → ∀ i, i < 64 → qt_b (sy f) i = (decide (i < x + 1) && qt_B F i f)) → J x1 x3 (nI (x + 1)) F G gl bl sy be pw) :
    ∀ k j (sy : Nat → Int64), j + k = 6 → (∀ f, f < j → ∀ i, i < 64 → qt_b (sy f) i = (decide (i < x + 1) && qt_B F i f)) → (∀ f, j ≤ f → f < 6 → ∀ i, i < 64 → qt_b (sy f) i = (decide (i < x) && qt_B F i f)) →
    wX_count_84 post J x1 x3 (nI x) (nI n) c (k + 1) (nI j) F G gl bl sy be pw := by
  intro k
  induction k with
  | zero =>
    intro j sy hj h1 h2
    obtain rfl : j = 6 := by omega
    exact br_t (nI_le (a := 6) (b := 6) (by omega) (by omega)) (nm_r (nI_1 x) (hJ sy h1))
  | succ k ih =>
    intro j sy hj h1 h2
    have hj6 : j < 6 := by omega
    have hin : vp_in (nI j) 6 := vp_in_nI hj6 (by decide)
    have next : ∀ v : Int64, (∀ i, i < 64 → qt_b v i = (decide (i < x + 1) && qt_B F i j)) → wX_count_84 post J x1 x3 (nI x) (nI n) c (k + 1) (nI (j + 1)) F G gl bl (vp_updL sy j v) be pw := fun v hv => by
      refine ih (j + 1) _ (by omega) (fun f hf => ?_) (fun f hf hf6 => ?_)
      · by_cases e : f = j
        · subst e
          rw [pk_uLs]
          exact hv
        · rw [pk_uLn e]
          exact h1 f (by omega)
      · rw [pk_uLn (show f ≠ j by omega)]
        exact h2 f (by omega) hf6
    refine br_f (nI_ge (b := 6) hj6 (by omega)) ⟨hin, vp_in_nI hx (by decide), ?_⟩
    rw [nI_clamp (n := x) (by omega), nI_clamp (n := j) (by omega), qt_fX hF x hj6]
    cases hB : qt_B F x j
    · refine br_t qt_u0 ⟨hin, nm_e (nm_r (nI_1 j) (next _ (fun i hi => ?_)))⟩
      rw [qt_b_or, qt_b_0, Bool.or_false, h2 j (Nat.le_refl j) hj6 i hi]
      exact qt_st0 (q := fun i => qt_B F i j) hB i
    · refine br_f (by rw [qt_u1]; decide) ⟨hin, nm_e (nm_r (nI_1 j) (next _ (fun i hi => ?_)))⟩
      rw [qt_b_or, qt_b_one x hx i hi, h2 j (Nat.le_refl j) hj6 i hi]
      exact qt_st1 (q := fun i => qt_B F i j) hB i
theorem qx_44 {post : SX → Prop} {gl bl : Nat → Int32} (hn : n ≤ 48) (hF : qt_ok F)
    (hp : ∀ (x1 x3 : Int64) (sy : Nat → Int64), (∀ i, i < 64 → qt_b x1 i = (decide (i < n) && qt_g G i)) → (∀ i, i < 64 → qt_b x3 i = decide (i < n)) → (∀ f, f < 6 → ∀ i, i < 64 → qt_b (sy f) i = (decide (i < n) && qt_B F i f)) → wX_count_139 post x1 x3 (nI n) c 730 (nI 0) F G gl bl sy be pw) :
    ∀ k j (x1 x3 : Int64) (sy : Nat → Int64), j + k = n → (∀ i, i < 64 → qt_b x1 i = (decide (i < j) && qt_g G i)) → (∀ i, i < 64 → qt_b x3 i = decide (i < j)) → (∀ f, f < 6 → ∀ i, i < 64 → qt_b (sy f) i = (decide (i < j) && qt_B F i f)) →
    wX_count_44 post (nI n) c (k + 1) x1 x3 (nI j) F G gl bl sy be pw := by
  intro k
  induction k with
  | zero =>
    intro j x1 x3 sy hj h1 h3 hsy
    obtain rfl : j = n := by omega
    exact br_t (nI_le (Nat.le_refl _) (by omega)) ⟨730, hp x1 x3 sy h1 h3 hsy⟩
  | succ k ih =>
    intro j x1 x3 sy hj h1 h3 hsy
    have hj48 : j < 48 := by omega
    have hcl : (nI j).toNatClampNeg = j := nI_clamp (by omega)
    have h3' : ∀ i, i < 64 → qt_b (x3 ||| ((1 : Int64) <<< ((nI j).toInt64 &&& 63))) i = decide (i < j + 1) := fun i hi => by
      rw [qt_b_or, h3 i hi, qt_b_one j hj48 i hi]
      exact qt_st2 j i
    refine br_f (nI_ge (by omega) (by omega)) (nm_e ⟨vp_in_nI hj48 (by decide), ?_⟩)
    by_cases hG : G j = 0
    · have hg : qt_g G j = false := by unfold qt_g; rw [decide_eq_true hG]; rfl
      have hG' : G (nI j).toNatClampNeg = 0 := by rw [hcl]; exact hG
      refine br_t hG' (nm_e ⟨7, qx_84 hj48 hF (fun sy' hs => ih (j + 1) _ _ sy' (by omega) (fun i hi => ?_) h3' hs) 6 0 sy (by omega) (fun f hf => absurd hf (Nat.not_lt_zero f)) (fun f _ hf => hsy f hf)⟩)
      rw [qt_b_or, qt_b_0, Bool.or_false, h1 i hi]
      exact qt_st0 hg i
    · have hg : qt_g G j = true := by unfold qt_g; rw [decide_eq_false hG]; rfl
      have hG' : ¬ G (nI j).toNatClampNeg = 0 := by rw [hcl]; exact hG
      refine br_f hG' (nm_e ⟨7, qx_84 hj48 hF (fun sy' hs => ih (j + 1) _ _ sy' (by omega) (fun i hi => ?_) h3' hs) 6 0 sy (by omega) (fun f hf => absurd hf (Nat.not_lt_zero f)) (fun f _ hf => hsy f hf)⟩)
      rw [qt_b_or, h1 i hi, qt_b_one j hj48 i hi]
      exact qt_st1 hg i
theorem qx_20 {post : SX → Prop} {gl bl : Nat → Int32} (hn : n ≤ 48) (hF : qt_ok F) (hpw : qt_pw pw) (hp : ∀ gl bl sy, qt_CT n F G gl bl → post (nI n, c, F, G, gl, bl, sy, be, pw)) :
    ∀ k j (sy : Nat → Int64), j + k = 6 → (∀ f, f < j → sy f = 0) → wX_count_20 post 0 0 (nI n) c (k + 1) (nI j) F G gl bl sy be pw := by
  intro k
  induction k with
  | zero =>
    intro j sy hj h
    obtain rfl : j = 6 := by omega
    refine br_t (nI_le (a := 6) (b := 6) (by omega) (by omega)) ⟨n + 1, qx_44 hn hF (fun x1 x3 sy' h1 h3 hsy => qx_139 hn hpw h1 h3 hsy (fun gl' bl' hct => hp gl' bl' sy' hct) 729 0 gl bl (by omega) (fun a' h' => absurd h' (Nat.not_lt_zero a'))) n 0 0 0 sy (by omega) (fun i _ => ?_) (fun i _ => ?_) (fun f hf i _ => ?_)⟩
    · rw [qt_b_0, decide_eq_false (Nat.not_lt_zero i), Bool.false_and]
    · rw [qt_b_0, decide_eq_false (Nat.not_lt_zero i)]
    · rw [h f hf, qt_b_0, decide_eq_false (Nat.not_lt_zero i), Bool.false_and]
  | succ k ih =>
    intro j sy hj h
    refine br_f (nI_ge (b := 6) (by omega) (by omega)) ⟨vp_in_nI (by omega) (by decide), nm_r (e' := vp_updL sy j 0) (by rw [nI_clamp (by omega)]) (nm_r (nI_1 j) (ih (j + 1) _ (by omega) (fun f hf => ?_)))⟩
    by_cases e : f = j
    · subst e
      exact pk_uLs
    · rw [pk_uLn e]
      exact h f (by omega)
theorem qx_count {post : SX → Prop} {gl bl : Nat → Int32} {sy : Nat → Int64} (hn : n ≤ 48) (hF : qt_ok F) (hpw : qt_pw pw) (hct : ¬ c = 0 → qt_CT n F G gl bl)
    (hp : ∀ c' gl' bl' sy', ¬ c' = 0 → qt_CT n F G gl' bl' → post (nI n, c', F, G, gl', bl', sy', be, pw)) : wpX_count post (nI n, c, F, G, gl, bl, sy, be, pw) := by
  by_cases hc : c = 0
  · exact br_t hc ⟨7, qx_20 hn hF hpw (fun gl' bl' sy' h => hp 1 gl' bl' sy' (by decide) h) 6 0 sy (by omega) (fun f hf => absurd hf (Nat.not_lt_zero f))⟩
  · exact br_f hc (hp c gl bl sy hc (hct hc))
end
end
section
/-! the component's least sums -/
def qt_As (a f : Nat) : Bool := decide (¬ a / 3 ^ f % 3 = 0)
def qt_RW (n M P : Nat) (F G be : Nat → Int32) (d : Nat) : Prop := ∀ a, a < 729 → be (729 * d + a) = nI (qt_L n M P (qt_g G) (qt_B F) d (qt_I (qt_B F) a 6))
def qt_RT (n M P : Nat) (F G : Nat → Int32) (d a f : Nat) : Nat := if qt_As a f = true then qt_lf n M (qt_g G) (qt_I (qt_B F) a 6) else qt_T n M P F G d (qt_I (qt_B F) a 6) f
theorem qt_RT_eq (n M P : Nat) (F G : Nat → Int32) (d a : Nat) : qt_m (qt_lf n M (qt_g G) (qt_I (qt_B F) a 6)) (qt_RT n M P F G d a) 6 = qt_L n M P (qt_g G) (qt_B F) (d + 1) (qt_I (qt_B F) a 6) :=
  qt_R_eq (A := qt_As a) qt_I_A d
theorem qt_ix (d a : Nat) : (729 * nI d) + nI a = nI (729 * d + a) := by
  rw [show (729 : Int32) = nI 729 from rfl, pk_mul, nI_add]
section
variable {n M P : Nat} {ns c : Int32} {F G gl bl be pw : Nat → Int32} {sy : Nat → Int64}
theorem qx_divided {post : Int32 → Prop} {d a f : Nat} (hd : d < 3) (ha : a < 729) (hf : f < 6) (hpw : qt_pw pw)
    (hp : post (be (729 * d + (a + 3 ^ f)) + be (729 * d + (a + 2 * 3 ^ f)))) : wpX_divided post (ns, c, F, G, gl, bl, sy, be, pw) (nI (d + 1)) (nI a) (nI f) := by
  have h4 := qt_p3' hf
  have hx : pw (nI f).toNatClampNeg = nI (3 ^ f) := by rw [nI_clamp (by omega)]; exact hpw f (by omega)
  have e1 : nI (729 * d + a) + pw (nI f).toNatClampNeg = nI (729 * d + (a + 3 ^ f)) := by rw [hx, nI_add, Nat.add_assoc]
  have e2 : nI (729 * d + a) + 2 * pw (nI f).toNatClampNeg = nI (729 * d + (a + 2 * 3 ^ f)) := by rw [hx, show (2 : Int32) = nI 2 from rfl, pk_mul, nI_add, Nat.add_assoc]
  unfold wpX_divided
  dsimp only
  refine nm_r (e' := nI (729 * d + a)) ?_ ?_
  · rw [nI_pred]
    exact qt_ix d a
  · rw [e1, e2, nI_clamp (n := 729 * d + (a + 3 ^ f)) (by omega), nI_clamp (n := 729 * d + (a + 2 * 3 ^ f)) (by omega)]
    exact ⟨vp_in_nI (by omega) (by decide), vp_in_nI (by omega) (by decide), vp_in_nI (by omega) (by decide), vp_in_nI (by omega) (by decide), hp⟩
theorem qx_least11 {post : Int32 → Prop} {d a : Nat} (hn : n ≤ 48) (hM : M ≤ 100) (hP : P ≤ 20) (hd : d < 3) (ha : a < 729) (hpw : qt_pw pw) (hr : qt_RW n M P F G be d)
    (hp : post (nI (qt_L n M P (qt_g G) (qt_B F) (d + 1) (qt_I (qt_B F) a 6)))) : ∀ k j, j + k = 6 →
    wX_leastAt_11 post (nI (d + 1)) (nI a) (nI P) ns c F G gl bl sy be pw (k + 1) (nI (qt_m (qt_lf n M (qt_g G) (qt_I (qt_B F) a 6)) (qt_RT n M P F G d a) j)) (nI j) := by
  intro k
  induction k with
  | zero =>
    intro j hj
    obtain rfl : j = 6 := by omega
    rw [qt_RT_eq]
    exact br_t (nI_le (a := 6) (b := 6) (by omega) (by omega)) hp
  | succ k ih =>
    intro j hj
    have hj6 : j < 6 := by omega
    have IH := ih (j + 1) (by omega)
    have hx : pw (nI j).toNatClampNeg = nI (3 ^ j) := by rw [nI_clamp (by omega)]; exact hpw j (by omega)
    have h3 : 0 < 3 ^ j := Nat.pow_pos (by decide)
    have h4 := qt_p3' hj6
    have hdg : a / 3 ^ j % 3 < 3 := Nat.mod_lt _ (by decide)
    have b1 : qt_m (qt_lf n M (qt_g G) (qt_I (qt_B F) a 6)) (qt_RT n M P F G d a) j ≤ qt_lf n M (qt_g G) (qt_I (qt_B F) a 6) := qt_m_b _ _ j
    have b2 := qt_lf_le n M (qt_g G) (qt_I (qt_B F) a 6) hn hM
    have b3 := qt_T_b (F := F) (G := G) hn hM hP d (qt_I (qt_B F) a 6) j
    refine br_f (nI_ge (b := 6) hj6 (by omega)) ⟨vp_in_nI (by omega) (by decide), by rw [hx]; exact nI_ne0 h3 (by omega), by decide, ?_⟩
    rw [qt_dig ha (by omega) hx]
    refine pk_eq (a / 3 ^ j % 3) 0 (fun e => qx_divided hd ha hj6 hpw ?_) (fun e => nm_r (nI_1 j) ?_)
    · have hA : qt_As a j = false := decide_eq_false (fun z => z e)
      have eT : qt_RT n M P F G d a j = qt_T n M P F G d (qt_I (qt_B F) a 6) j := if_neg (by rw [hA]; decide)
      refine nm_r (e' := nI (qt_T n M P F G d (qt_I (qt_B F) a 6) j)) ?_ (pk_le (qt_m (qt_lf n M (qt_g G) (qt_I (qt_B F) a 6)) (qt_RT n M P F G d a) j) (qt_T n M P F G d (qt_I (qt_B F) a 6) j) (fun h => nm_r (nI_1 j) ?_) (fun h => nm_r (nI_1 j) ?_))
      · have a2 := qt_a2 hj6 ha e
        have r1 := hr (a + 3 ^ j) (by omega)
        have r2 := hr (a + 2 * 3 ^ j) a2
        rw [qt_I_no hj6 e] at r1
        rw [qt_I_ye hj6 e] at r2
        rw [r1, r2, nI_add, nI_add]
        refine congrArg nI ?_
        unfold qt_T
        omega
      · rw [qt_m_f (by rw [eT]; exact h)] at IH
        exact IH
      · rw [qt_m_t (by rw [eT]; exact h), eT] at IH
        exact IH
    · have hA : qt_As a j = true := decide_eq_true e
      have eT : qt_RT n M P F G d a j = qt_lf n M (qt_g G) (qt_I (qt_B F) a 6) := if_pos hA
      rw [qt_m_f (by rw [eT]; exact b1)] at IH
      exact IH
theorem qx_leastAt {post : Int32 → Prop} {d a : Nat} (hn : n ≤ 48) (hM : M ≤ 100) (hP : P ≤ 20) (hd : d < 3) (ha : a < 729) (hpw : qt_pw pw) (h0 : qt_RW n M P F G be 0) (hr : qt_RW n M P F G be d)
    (hp : post (nI (qt_L n M P (qt_g G) (qt_B F) (d + 1) (qt_I (qt_B F) a 6)))) : wpX_leastAt post (ns, c, F, G, gl, bl, sy, be, pw) (nI (d + 1)) (nI a) (nI P) := by
  have e := h0 a ha
  rw [Nat.mul_zero, Nat.zero_add] at e
  unfold wpX_leastAt
  dsimp only
  exact ⟨vp_in_nI (by omega) (by decide), nm_r (e' := nI (qt_lf n M (qt_g G) (qt_I (qt_B F) a 6))) (by rw [nI_clamp (by omega)]; exact e) ⟨7, qx_least11 hn hM hP hd ha hpw hr hp 6 0 (by omega)⟩⟩
end
section
variable {n M P : Nat} {c : Int32} {F G gl bl pw : Nat → Int32} {sy : Nat → Int64}
theorem qx_67 {post : SX → Prop} {J : Int32 → (Nat → Int32) → (Nat → Int32) → (Nat → Int32) → (Nat → Int32) → (Nat → Int64) → (Nat → Int32) → (Nat → Int32) → Prop} {d : Nat} (hn : n ≤ 48) (hM : M ≤ 100) (hP : P ≤ 20) (hd : d < 3) (hpw : qt_pw pw)
    (hJ : ∀ be, (∀ d', d' ≤ d + 1 → qt_RW n M P F G be d') → J (nI (d + 1 + 1)) F G gl bl sy be pw) :
    ∀ k a be, a + k = 729 → (∀ d', d' ≤ d → qt_RW n M P F G be d') → (∀ a', a' < a → be (729 * (d + 1) + a') = nI (qt_L n M P (qt_g G) (qt_B F) (d + 1) (qt_I (qt_B F) a' 6))) →
    wX_workOut_67 post J (nI P) (nI (d + 1)) (nI n) c (k + 1) (nI a) F G gl bl sy be pw := by
  intro k
  induction k with
  | zero =>
    intro a be ha h1 h2
    obtain rfl : a = 729 := by omega
    refine br_t (nI_le (a := 729) (b := 729) (by omega) (by omega)) (nm_r (nI_1 (d + 1)) (hJ be (fun d' hd' => ?_)))
    rcases Nat.lt_or_ge d d' with g | g
    · obtain rfl : d' = d + 1 := by omega
      exact h2
    · exact h1 d' g
  | succ k ih =>
    intro a be ha h1 h2
    refine br_f (nI_ge (b := 729) (by omega) (by omega)) (qx_leastAt hn hM hP hd (by omega) hpw (h1 0 (by omega)) (h1 d (Nat.le_refl d)) ?_)
    rw [qt_ix (d + 1) a, nI_clamp (n := 729 * (d + 1) + a) (by omega)]
    refine ⟨vp_in_nI (by omega) (by decide), nm_e (nm_r (nI_1 a) (ih (a + 1) _ (by omega) (fun d' hd' a' ha' => ?_) (fun a' ha' => ?_)))⟩
    · have hm : 729 * d' ≤ 729 * d := Nat.mul_le_mul_left _ hd'
      rw [pk_un (by omega)]
      exact h1 d' hd' a' ha'
    · by_cases e : a' = a
      · subst e
        exact pk_us
      · rw [pk_un (by omega)]
        exact h2 a' (by omega)
theorem qx_59 {post : SX → Prop} (hn : n ≤ 48) (hM : M ≤ 100) (hP : P ≤ 20) (hpw : qt_pw pw)
    (hp : ∀ be, (∀ d, d ≤ 3 → qt_RW n M P F G be d) → post (nI n, c, F, G, gl, bl, sy, be, pw)) :
    ∀ k d be, d + k = 3 → (∀ d', d' ≤ d → qt_RW n M P F G be d') → wX_workOut_59 post (nI P) (nI n) c (k + 1) (nI (d + 1)) F G gl bl sy be pw := by
  intro k
  induction k with
  | zero =>
    intro d be hd h
    obtain rfl : d = 3 := by omega
    exact br_t (nI_le (a := 4) (b := 4) (by omega) (by omega)) (hp be h)
  | succ k ih =>
    intro d be hd h
    exact br_f (nI_ge (b := 4) (by omega) (by omega)) ⟨730, qx_67 hn hM hP (by omega) hpw (fun be' h' => ih (d + 1) be' (by omega) h') 729 0 be (by omega) h (fun a' ha' => absurd ha' (Nat.not_lt_zero a'))⟩
theorem qx_6 {post : SX → Prop} (hn : n ≤ 48) (hM : M ≤ 100) (hP : P ≤ 20) (hpw : qt_pw pw) (hct : qt_CT n F G gl bl)
    (hp : ∀ be, (∀ d, d ≤ 3 → qt_RW n M P F G be d) → post (nI n, c, F, G, gl, bl, sy, be, pw)) :
    ∀ k a be, a + k = 729 → (∀ a', a' < a → be a' = nI (qt_lf n M (qt_g G) (qt_I (qt_B F) a' 6))) → wX_workOut_6 post (nI M) (nI P) (nI n) c (k + 1) (nI a) F G gl bl sy be pw := by
  intro k
  induction k with
  | zero =>
    intro a be ha h
    obtain rfl : a = 729 := by omega
    refine br_t (nI_le (a := 729) (b := 729) (by omega) (by omega)) ⟨4, qx_59 hn hM hP hpw hp 3 0 be (by omega) (fun d' hd' a' ha' => ?_)⟩
    obtain rfl : d' = 0 := by omega
    rw [Nat.mul_zero, Nat.zero_add]
    exact h a' ha'
  | succ k ih =>
    intro a be ha h
    have ha7 : a < 729 := by omega
    have hcl : (nI a).toNatClampNeg = a := nI_clamp (by omega)
    have hin : vp_in (nI a) 729 := vp_in_nI ha7 (by decide)
    have hin2 : vp_in (nI a) 2916 := vp_in_nI (by omega) (by decide)
    have g1 : qt_gd n (qt_g G) (qt_I (qt_B F) a 6) ≤ n := qt_c_le _ n
    have g2 : qt_bd n (qt_g G) (qt_I (qt_B F) a 6) ≤ n := qt_c_le _ n
    have next : wX_workOut_6 post (nI M) (nI P) (nI n) c (k + 1) (nI (a + 1)) F G gl bl sy (upd be a (nI (qt_lf n M (qt_g G) (qt_I (qt_B F) a 6)))) pw := by
      refine ih (a + 1) _ (by omega) (fun a' ha' => ?_)
      by_cases e : a' = a
      · subst e
        exact pk_us
      · rw [pk_un e]
        exact h a' (by omega)
    have eL : qt_lf n M (qt_g G) (qt_I (qt_B F) a 6) = M * qt_mi (qt_gd n (qt_g G) (qt_I (qt_B F) a 6)) (qt_bd n (qt_g G) (qt_I (qt_B F) a 6)) := rfl
    refine br_f (nI_ge (b := 729) ha7 (by omega)) ⟨hin, nm_r (e' := nI (qt_gd n (qt_g G) (qt_I (qt_B F) a 6))) (by rw [hcl]; exact (hct a ha7).1) ⟨hin, nm_r (e' := nI (qt_bd n (qt_g G) (qt_I (qt_B F) a 6))) (by rw [hcl]; exact (hct a ha7).2) (pk_le (qt_bd n (qt_g G) (qt_I (qt_B F) a 6)) (qt_gd n (qt_g G) (qt_I (qt_B F) a 6)) (fun h => ⟨hin2, nm_r (e' := upd be a (nI (qt_lf n M (qt_g G) (qt_I (qt_B F) a 6)))) ?_ (nm_r (nI_1 a) next)⟩) (fun h => ⟨hin2, nm_r (e' := upd be a (nI (qt_lf n M (qt_g G) (qt_I (qt_B F) a 6)))) ?_ (nm_r (nI_1 a) next)⟩))⟩⟩
    · rw [hcl, pk_mul, eL]
      unfold qt_mi
      rw [if_neg (by omega)]
    · rw [hcl, pk_mul, eL]
      unfold qt_mi
      rw [if_pos h]
theorem qx_workOut {post : SX → Prop} {be : Nat → Int32} (hn : n ≤ 48) (hM : M ≤ 100) (hP : P ≤ 20) (hF : qt_ok F) (hpw : qt_pw pw) (hct : ¬ c = 0 → qt_CT n F G gl bl)
    (hp : ∀ c' gl' bl' sy' be', ¬ c' = 0 → qt_CT n F G gl' bl' → (∀ d, d ≤ 3 → qt_RW n M P F G be' d) → post (nI n, c', F, G, gl', bl', sy', be', pw)) : wpX_workOut post (nI n, c, F, G, gl, bl, sy, be, pw) (nI M) (nI P) := by
  unfold wpX_workOut
  dsimp only
  refine qx_count hn hF hpw hct (fun c' gl' bl' sy' hc h => ?_)
  exact ⟨730, qx_6 hn hM hP hpw h (fun be' hr => hp c' gl' bl' sy' be' hc h hr) 729 0 be (by omega) (fun a' ha' => absurd ha' (Nat.not_lt_zero a'))⟩
end
end
section
/-! doubtful samples -/
def qt_Dp (F G : Nat → Int32) (i l : Nat) : Bool := decide (F i = F l) && !decide (G i = G l)
def qt_D (n : Nat) (F G : Nat → Int32) (i : Nat) : Bool := decide (0 < qt_c (qt_Dp F G i) n)
theorem qt_cd_F {F : Nat → Int32} (hF : qt_ok F) (i l : Nat) : qt_I (qt_B F) (qt_cd (qt_B F i) 6) 6 l = decide (F i = F l) := by
  by_cases e : F i = F l
  · rw [decide_eq_true e]
    exact qt_cd_I.mpr ((qt_same hF).mpr e)
  · rw [decide_eq_false e]
    cases h : qt_I (qt_B F) (qt_cd (qt_B F i) 6) 6 l
    · rfl
    · exact absurd ((qt_same hF).mp (qt_cd_I.mp h)) e
theorem qt_gd_D {F G : Nat → Int32} (hF : qt_ok F) {i : Nat} (n : Nat) (hG : G i = 0) : qt_gd n (qt_g G) (qt_I (qt_B F) (qt_cd (qt_B F i) 6) 6) = qt_c (qt_Dp F G i) n := by
  refine qt_c_congr n (fun l _ => ?_)
  rw [qt_cd_F hF]
  unfold qt_Dp qt_g
  rw [hG, show decide ((0 : Int32) = G l) = decide (G l = 0) from decide_eq_decide.mpr eq_comm]
theorem qt_bd_D {F G : Nat → Int32} (hF : qt_ok F) (hz : qt_zo G) {i : Nat} (n : Nat) (hG : ¬ G i = 0) : qt_bd n (qt_g G) (qt_I (qt_B F) (qt_cd (qt_B F i) 6) 6) = qt_c (qt_Dp F G i) n := by
  refine qt_c_congr n (fun l _ => ?_)
  rw [qt_cd_F hF]
  unfold qt_Dp qt_g
  rw [(hz i).resolve_left hG]
  rcases hz l with e | e
  · rw [e]; rfl
  · rw [e]; rfl
section
variable {n : Nat} {c : Int32} {F G gl bl be pw : Nat → Int32} {sy : Nat → Int64}
theorem qx_83 {post : Int32 → SX → Prop} {J : Int32 → Int32 → Prop} {i x z : Nat} (hz : z < 49) (hJ : J (nI (x + qt_u (decide (0 < z)))) (nI (i + 1))) : wX_doubtful_83 post J (nI i) (nI z) (nI x) (nI n) c F G gl bl sy be pw := by
  unfold wX_doubtful_83
  refine pk_le z 0 (fun h => ?_) (fun h => ?_)
  · rw [decide_eq_false (by omega)] at hJ
    exact nm_r (nI_add x 0) (nm_r (nI_1 i) hJ)
  · rw [decide_eq_true h] at hJ
    exact nm_r (nI_1 x) (nm_r (nI_1 i) hJ)
theorem qx_21 {post : Int32 → SX → Prop} {J : Int32 → Int32 → Prop} {i x : Nat} (hn : n ≤ 48) (hi : i < n) (hF : qt_ok F) (hz : qt_zo G) (hpw : qt_pw pw) (hct : qt_CT n F G gl bl)
    (hJ : J (nI (x + qt_u (qt_D n F G i))) (nI (i + 1))) : ∀ k j, j + k = 6 → wX_doubtful_21 post J (nI x) (nI i) (nI n) c F G gl bl sy be pw (k + 1) (nI (qt_cd (qt_B F i) j)) (nI j) := by
  intro k
  have hcl : (nI i).toNatClampNeg = i := nI_clamp (by omega)
  have hin : vp_in (nI i) 48 := vp_in_nI (by omega) (by decide)
  induction k with
  | zero =>
    intro j hj
    obtain rfl : j = 6 := by omega
    have ha : qt_cd (qt_B F i) 6 < 729 := qt_cd_le (qt_B F i) 6
    have hca : (nI (qt_cd (qt_B F i) 6)).toNatClampNeg = qt_cd (qt_B F i) 6 := nI_clamp (by omega)
    have hia : vp_in (nI (qt_cd (qt_B F i) 6)) 729 := vp_in_nI ha (by decide)
    have hcn := qt_c_le (qt_Dp F G i) n
    refine br_t (nI_le (a := 6) (b := 6) (by omega) (by omega)) ⟨hin, ?_⟩
    rw [hcl, hca]
    by_cases hG : G i = 0
    · refine br_t hG ⟨hia, ?_⟩
      rw [(hct _ ha).1, qt_gd_D hF n hG]
      exact qx_83 (by omega) hJ
    · refine br_f hG ⟨hia, ?_⟩
      rw [(hct _ ha).2, qt_bd_D hF hz n hG]
      exact qx_83 (by omega) hJ
  | succ k ih =>
    intro j hj
    have hj6 : j < 6 := by omega
    refine br_f (nI_ge (b := 6) hj6 (by omega)) ⟨vp_in_nI (by omega) (by decide), hin, nm_r (e' := nI (qt_cd (qt_B F i) (j + 1))) ?_ (nm_r (nI_1 j) (ih (j + 1) (by omega)))⟩
    rw [hcl, qt_fX hF i hj6, nI_clamp (n := j) (by omega), hpw j (by omega), show (1 : Int32) = nI 1 from rfl, nI_add, pk_mul, nI_add]
    rfl
theorem qx_8 {post : Int32 → SX → Prop} (hn : n ≤ 48) (hF : qt_ok F) (hz : qt_zo G) (hpw : qt_pw pw) (hct : qt_CT n F G gl bl)
    (hp : post (nI (qt_c (qt_D n F G) n)) (nI n, c, F, G, gl, bl, sy, be, pw)) : ∀ k j, j + k = n → wX_doubtful_8 post (nI n) c F G gl bl sy be pw (k + 1) (nI (qt_c (qt_D n F G) j)) (nI j) := by
  intro k
  induction k with
  | zero =>
    intro j hj
    obtain rfl : j = n := by omega
    exact br_t (nI_le (Nat.le_refl _) (by omega)) hp
  | succ k ih =>
    intro j hj
    exact br_f (nI_ge (by omega) (by omega)) ⟨7, qx_21 hn (by omega) hF hz hpw hct (ih (j + 1) (by omega)) 6 0 (by omega)⟩
end
section
variable {n : Nat} {m p : Int32} {F G : Nat → Int32}
theorem qt_D_s {q : Nat → Bool} {j : Nat} : decide (0 < qt_c q (j + 1)) = (decide (0 < qt_c q j) || q j) := by
  cases h : q j
  · rw [qt_c_f h, Bool.or_false]
  · rw [qt_c_t h, Bool.or_true]
    exact decide_eq_true (by omega)
theorem qy_17 {post : Int32 → Prop} {J : Int32 → Int32 → Prop} {i x : Nat} (hn : n ≤ 48) (hi : i < n) (hJ : J (nI (x + qt_u (qt_D n F G i))) (nI (i + 1))) :
    ∀ k j, j + k = n → wY_doubtful_17 post J (nI x) (nI i) (nI n) m p F G (k + 1) (nI (qt_u (decide (0 < qt_c (qt_Dp F G i) j)))) (nI j) := by
  intro k
  have hcl : (nI i).toNatClampNeg = i := nI_clamp (by omega)
  have hin : vp_in (nI i) 48 := vp_in_nI (by omega) (by decide)
  induction k with
  | zero =>
    intro j hj
    obtain rfl : j = n := by omega
    refine br_t (nI_le (Nat.le_refl _) (by omega)) ?_
    have hJ' : J (nI (x + qt_u (decide (0 < qt_c (qt_Dp F G i) j)))) (nI (i + 1)) := hJ
    cases hd : decide (0 < qt_c (qt_Dp F G i) j)
    · rw [hd] at hJ'
      exact br_t qt_u0 (nm_r (nI_1 i) hJ')
    · rw [hd] at hJ'
      exact br_f (by rw [qt_u1]; decide) (nm_r (nI_1 x) (nm_r (nI_1 i) hJ'))
  | succ k ih =>
    intro j hj
    have hclj : (nI j).toNatClampNeg = j := nI_clamp (by omega)
    have hinj : vp_in (nI j) 48 := vp_in_nI (by omega) (by decide)
    have IH := ih (j + 1) (by omega)
    rw [qt_D_s] at IH
    refine br_f (nI_ge (by omega) (by omega)) ⟨hin, hinj, ?_⟩
    rw [hcl, hclj]
    by_cases eF : F i = F j
    · refine br_t eF ⟨hin, hinj, ?_⟩
      by_cases eG : G i = G j
      · have hq : qt_Dp F G i j = false := by unfold qt_Dp; rw [decide_eq_true eG, Bool.not_true, Bool.and_false]
        rw [hq, Bool.or_false] at IH
        exact br_t eG (nm_r (nI_1 j) IH)
      · have hq : qt_Dp F G i j = true := by unfold qt_Dp; rw [decide_eq_false eG, decide_eq_true eF]; rfl
        rw [hq, Bool.or_true] at IH
        exact br_f eG (nm_r (nI_1 j) IH)
    · have hq : qt_Dp F G i j = false := by unfold qt_Dp; rw [decide_eq_false eF, Bool.false_and]
      rw [hq, Bool.or_false] at IH
      exact br_f eF (nm_r (nI_1 j) IH)
theorem qy_4 {post : Int32 → Prop} (hn : n ≤ 48) (hp : post (nI (qt_c (qt_D n F G) n))) : ∀ k j, j + k = n → wY_doubtful_4 post (nI n) m p F G (k + 1) (nI (qt_c (qt_D n F G) j)) (nI j) := by
  intro k
  induction k with
  | zero =>
    intro j hj
    obtain rfl : j = n := by omega
    exact br_t (nI_le (Nat.le_refl _) (by omega)) hp
  | succ k ih =>
    intro j hj
    exact br_f (nI_ge (by omega) (by omega)) ⟨n + 1, qy_17 hn (by omega) (ih (j + 1) (by omega)) n 0 (by omega)⟩
end
/-! dropping a sample: both sides in step -/
theorem qt_nb {x : Int32} (h : x = 0 ∨ x = 1) : vp_nar .boolean x = x := by
  rcases h with e | e
  · rw [e]; rfl
  · rw [e]; rfl
theorem qt_drop (n : Nat) (hn : n < 48) : ∀ k j (F G : Nat → Int32), j + k = n → qt_ok F → qt_zo G → ∃ F' G' : Nat → Int32, qt_ok F' ∧ qt_zo G' ∧
    (∀ (post : Int32 → SX → Prop) (c : Int32) (gl bl : Nat → Int32) (sy : Nat → Int64) (be pw : Nat → Int32), post (nI n) (nI n, 0, F', G', gl, bl, sy, be, pw) → wX_drop_26 post (nI n) c (k + 1) (nI j) F G gl bl sy be pw) ∧
    (∀ (post : Int32 → SY → Prop) (m p : Int32), post (nI n) (nI n, m, p, F', G') → wY_drop_26 post (nI n) m p (k + 1) (nI j) F G) := by
  intro k
  induction k with
  | zero =>
    intro j F G hj hF hG
    have h : nI n ≤ nI j := nI_le (by omega) (by omega)
    exact ⟨F, G, hF, hG, fun post c gl bl sy be pw hp => br_t h hp, fun post m p hp => br_t h hp⟩
  | succ k ih =>
    intro j F G hj hF hG
    have h : ¬ nI n ≤ nI j := nI_ge (by omega) (by omega)
    have hc0 : (nI j).toNatClampNeg = j := nI_clamp (by omega)
    have hc1 : (nI j + 1).toNatClampNeg = j + 1 := by rw [nI_1]; exact nI_clamp (by omega)
    have hi0 : vp_in (nI j) 48 := vp_in_nI (by omega) (by decide)
    have hi1 : vp_in (nI j + 1) 48 := by rw [nI_1]; exact vp_in_nI (by omega) (by decide)
    have eF : upd F (nI j).toNatClampNeg (F (nI j + 1).toNatClampNeg) = upd F j (F (j + 1)) := by rw [hc0, hc1]
    have eG : upd G (nI j).toNatClampNeg (vp_nar .boolean (G (nI j + 1).toNatClampNeg)) = upd G j (G (j + 1)) := by rw [hc0, hc1, qt_nb (hG (j + 1))]
    have hF1 : qt_ok (upd F j (F (j + 1))) := fun i => by
      by_cases e : i = j
      · rw [e, pk_us]; exact hF (j + 1)
      · rw [pk_un e]; exact hF i
    have hG1 : qt_zo (upd G j (G (j + 1))) := fun i => by
      by_cases e : i = j
      · rw [e, pk_us]; exact hG (j + 1)
      · rw [pk_un e]; exact hG i
    obtain ⟨F', G', hF', hG', hX, hY⟩ := ih (j + 1) _ _ (by omega) hF1 hG1
    refine ⟨F', G', hF', hG', fun post c gl bl sy be pw hp => ?_, fun post m p hp => ?_⟩
    · exact br_f h ⟨hi1, hi0, nm_r eF ⟨hi1, hi0, nm_r eG (nm_r (nI_1 j) (hX post c gl bl sy be pw hp))⟩⟩
    · exact br_f h ⟨hi1, hi0, nm_r eF ⟨hi1, hi0, nm_r eG (nm_r (nI_1 j) (hY post m p hp))⟩⟩
end
section
/-! clamps -/
def qt_cw (lo hi : Nat) (v : Int32) (d : Nat) : Prop := ∀ W : Int32 → Prop, W (nI d) → ((nI lo ≤ v → ((v ≤ nI hi → W v) ∧ (¬ v ≤ nI hi → W (nI hi)))) ∧ (¬ nI lo ≤ v → W (nI lo)))
theorem qt_cl {lo hi : Nat} (hlh : lo ≤ hi) (hh : hi < 2 ^ 31) (v : Int32) : ∃ d, lo ≤ d ∧ d ≤ hi ∧ qt_cw lo hi v d := by
  by_cases h1 : nI lo ≤ v
  · obtain ⟨j, hj, rfl⟩ := nI_of (x := v) (Int32.not_lt.mpr (Int32.le_trans (nI_pos' (by omega)) h1))
    by_cases h2 : nI j ≤ nI hi
    · exact ⟨j, (nI_leI (by omega) hj).mp h1, (nI_leI hj hh).mp h2, fun W hW => br_t h1 (br_t h2 hW)⟩
    · exact ⟨hi, hlh, Nat.le_refl _, fun W hW => br_t h1 (br_f h2 hW)⟩
  · exact ⟨lo, Nat.le_refl _, hlh, fun W hW => br_f h1 hW⟩
theorem qt_b0 {n M P d : Nat} {F G be : Nat → Int32} (h : qt_RW n M P F G be d) : be (729 * d) = nI (qt_L n M P (qt_g G) (qt_B F) d (fun _ => true)) := by
  have e := h 0 (by decide)
  rw [qt_I_0, Nat.add_zero] at e
  exact e
theorem qt_ix0 (d : Nat) : 729 * nI d = nI (729 * d) := by
  rw [show (729 : Int32) = nI 729 from rfl, pk_mul]
theorem qt_dv {n M P d f : Nat} {F G be : Nat → Int32} (hf : f < 6) (h : qt_RW n M P F G be d) : be (729 * d + (0 + 3 ^ f)) + be (729 * d + (0 + 2 * 3 ^ f)) = nI (qt_L n M P (qt_g G) (qt_B F) d (qt_no (qt_B F) (fun _ => true) f) + qt_L n M P (qt_g G) (qt_B F) d (qt_ye (qt_B F) (fun _ => true) f)) := by
  have e : 0 / 3 ^ f % 3 = 0 := by rw [Nat.zero_div]
  have h4 := qt_p3' hf
  have r1 := h (0 + 3 ^ f) (by omega)
  have r2 := h (0 + 2 * 3 ^ f) (by omega)
  rw [qt_I_no hf e, qt_I_0] at r1
  rw [qt_I_ye hf e, qt_I_0] at r2
  rw [r1, r2, nI_add]
/-! what is owed -/
def i_Rel (_ : Nat) (u : SX) (v : SY) : Prop := ∃ (n : Nat) (c m p : Int32) (F G gl bl be pw : Nat → Int32) (sy : Nat → Int64), u = (nI n, c, F, G, gl, bl, sy, be, pw) ∧ v = (nI n, m, p, F, G) ∧ n ≤ 48 ∧ qt_ok F ∧ qt_zo G ∧ qt_pw pw ∧ (¬ c = 0 → qt_CT n F G gl bl)
theorem qt_rel {k n : Nat} {c m p : Int32} {F G gl bl be pw : Nat → Int32} {sy : Nat → Int64} (hn : n ≤ 48) (hF : qt_ok F) (hG : qt_zo G) (hpw : qt_pw pw) (hct : ¬ c = 0 → qt_CT n F G gl bl) : i_Rel k (nI n, c, F, G, gl, bl, sy, be, pw) (nI n, m, p, F, G) :=
  ⟨n, c, m, p, F, G, gl, bl, be, pw, sy, rfl, rfl, hn, hF, hG, hpw, hct⟩
theorem qt_el {k : Nat} {u : SX} {v : SY} {Q : SX → SY → Prop} (I : i_Rel k u v)
    (h : ∀ (n : Nat) (c m p : Int32) (F G gl bl be pw : Nat → Int32) (sy : Nat → Int64), n ≤ 48 → qt_ok F → qt_zo G → qt_pw pw → (¬ c = 0 → qt_CT n F G gl bl) → Q (nI n, c, F, G, gl, bl, sy, be, pw) (nI n, m, p, F, G)) : Q u v := by
  obtain ⟨n, c, m, p, F, G, gl, bl, be, pw, sy, hu, hv, h1, h2, h3, h4, h5⟩ := I
  rw [hu, hv]
  exact h n c m p F G gl bl be pw sy h1 h2 h3 h4 h5
theorem i_up {k : Nat} {u : SX} {v : SY} (h : i_Rel k u v) : i_Rel (k + 3) u v := h
theorem qx_init {post : SX → Prop} {F G gl bl be : Nat → Int32} {sy : Nat → Int64} (hp : ∀ pw, qt_pw pw → post (0, 0, F, G, gl, bl, sy, be, pw)) : ∀ k j (pw : Nat → Int32), j + k = 6 → (∀ f, f < j + 1 → pw f = nI (3 ^ f)) → wX_init_72 post 0 0 (k + 1) (nI j) F G gl bl sy be pw := by
  intro k
  induction k with
  | zero =>
    intro j pw hj h
    obtain rfl : j = 6 := by omega
    exact br_t (nI_le (a := 6) (b := 6) (by omega) (by omega)) (hp pw h)
  | succ k ih =>
    intro j pw hj h
    have hi1 : vp_in (nI j + 1) 7 := by rw [nI_1]; exact vp_in_nI (by omega) (by decide)
    have e : upd pw (nI j + 1).toNatClampNeg (3 * pw (nI j).toNatClampNeg) = upd pw (j + 1) (nI (3 ^ (j + 1))) := by
      rw [nI_1, nI_clamp (n := j + 1) (by omega), nI_clamp (n := j) (by omega), h j (by omega), show (3 : Int32) = nI 3 from rfl, pk_mul, Nat.pow_succ, Nat.mul_comm]
    refine br_f (nI_ge (b := 6) (by omega) (by omega)) ⟨vp_in_nI (by omega) (by decide), hi1, nm_r e (nm_r (nI_1 j) (ih (j + 1) _ (by omega) (fun f hf => ?_)))⟩
    by_cases ef : f = j + 1
    · rw [ef, pk_us]
    · rw [pk_un ef]
      exact h f (by omega)
theorem i_vc0 : wpX_init (fun u => wpY_init (fun v => i_Rel 0 u v)) := by
  refine nm_e ⟨7, qx_init (fun pw hpw => ?_) 6 0 _ (by omega) (fun f hf => ?_)⟩
  · exact qt_rel (k := 0) (n := 0) (m := 0) (p := 0) (by omega) (fun i => ⟨0, by decide, rfl⟩) (fun i => Or.inl rfl) hpw (fun h => absurd rfl h)
  · obtain rfl : f = 0 := by omega
    exact pk_us
theorem i_vc_add {k : Nat} {u : SX} {v : SY} (I : i_Rel k u v) (hk : k + 3 ≤ 1536) (v1 : Int32) (v2 : Int32) : wpX_add (fun r u' => wpY_add (fun r' v' => r' = r ∧ i_Rel (k + 3) u' v') v v1 (lw_bz v2)) u v1 (lw_bz v2) := by
  refine qt_el (Q := fun u v => wpX_add (fun r u' => wpY_add (fun r' v' => r' = r ∧ i_Rel (k + 3) u' v') v v1 (lw_bz v2)) u v1 (lw_bz v2)) I ?_
  intro n c m p F G gl bl be pw sy hn hF hG hpw hct
  by_cases h : n < 48
  · have hcl : (nI n).toNatClampNeg = n := nI_clamp (by omega)
    have hin : vp_in (nI n) 48 := vp_in_nI h (by decide)
    have eF : upd F (nI n).toNatClampNeg (v1 &&& 63) = upd F n (v1 &&& 63) := by rw [hcl]
    have eG : upd G (nI n).toNatClampNeg (vp_nar .boolean (lw_bz v2)) = upd G n (lw_bz v2) := by rw [hcl, qt_nb (lw_bz_01 v2)]
    have hF1 : qt_ok (upd F n (v1 &&& 63)) := fun i => by
      by_cases e : i = n
      · rw [e, pk_us]
        exact pk_andE v1 6 (by decide)
      · rw [pk_un e]
        exact hF i
    have hG1 : qt_zo (upd G n (lw_bz v2)) := fun i => by
      by_cases e : i = n
      · rw [e, pk_us]
        exact lw_bz_01 v2
      · rw [pk_un e]
        exact hG i
    have hne : ¬ nI n = 48 := fun z => by
      have := (nI_eq (a := n) (b := 48) (by omega) (by omega)).mp z
      omega
    exact br_t (nI_lt (b := 48) h (by omega)) ⟨hin, nm_r eF ⟨hin, nm_r eG (nm_r (nI_1 n) (br_f hne ⟨hin, nm_r eF ⟨hin, nm_r eG (nm_r (nI_1 n) ⟨rfl, qt_rel (by omega) hF1 hG1 hpw (fun z => absurd rfl z)⟩)⟩⟩))⟩⟩
  · obtain rfl : n = 48 := by omega
    exact br_f (nI_nlt (a := 48) (b := 48) (by omega) (by omega)) (br_t rfl ⟨rfl, qt_rel hn hF hG hpw hct⟩)
theorem i_vc_drop {k : Nat} {u : SX} {v : SY} (I : i_Rel k u v) (hk : k + 3 ≤ 1536) (v1 : Int32) : wpX_drop (fun r u' => wpY_drop (fun r' v' => r' = r ∧ i_Rel (k + 3) u' v') v v1) u v1 := by
  refine qt_el (Q := fun u v => wpX_drop (fun r u' => wpY_drop (fun r' v' => r' = r ∧ i_Rel (k + 3) u' v') v v1) u v1) I ?_
  intro n c m p F G gl bl be pw sy hn hF hG hpw hct
  by_cases h0 : v1 < 0
  · exact br_t h0 (br_t h0 ⟨rfl, qt_rel hn hF hG hpw hct⟩)
  · obtain ⟨j, hj, rfl⟩ := nI_of h0
    by_cases h1 : nI j < nI n
    · have h2 := (nI_ltI hj (by omega)).mp h1
      obtain ⟨n', rfl⟩ : ∃ n', n = n' + 1 := ⟨n - 1, by omega⟩
      obtain ⟨F', G', hF', hG', hX, hY⟩ := qt_drop n' (by omega) (n' - j) j F G (by omega) hF hG
      exact br_f h0 (br_t h1 (nm_r (nI_pred n') ⟨_, hX _ _ _ _ _ _ _ (br_f h0 (br_t h1 (nm_r (nI_pred n') ⟨_, hY _ _ _ ⟨rfl, qt_rel (by omega) hF' hG' hpw (fun z => absurd rfl z)⟩⟩)))⟩))
    · exact br_f h0 (br_f h1 (br_f h0 (br_f h1 ⟨rfl, qt_rel hn hF hG hpw hct⟩)))
theorem i_vc_doubtful {k : Nat} {u : SX} {v : SY} (I : i_Rel k u v) (hk : k + 3 ≤ 1536) : wpX_doubtful (fun r u' => wpY_doubtful (fun r' => r' = r ∧ i_Rel (k + 3) u' v) v) u := by
  refine qt_el (Q := fun u v => wpX_doubtful (fun r u' => wpY_doubtful (fun r' => r' = r ∧ i_Rel (k + 3) u' v) v) u) I ?_
  intro n c m p F G gl bl be pw sy hn hF hG hpw hct
  unfold wpX_doubtful
  dsimp only
  refine qx_count hn hF hpw hct (fun c' gl' bl' sy' hc h => ?_)
  exact ⟨n + 1, qx_8 hn hF hG hpw h ⟨n + 1, qy_4 hn ⟨rfl, qt_rel hn hF hG hpw (fun _ => h)⟩ n 0 (by omega)⟩ n 0 (by omega)⟩
section
variable {n d p : Nat} {m q v1 v2 : Int32} {F G : Nat → Int32}
theorem qy_mistakes {post : Int32 → SY → Prop} (hn : n ≤ 48) (hF : qt_ok F) (hd : d ≤ 3) (hw : qt_cw 0 3 v1 d) (hp : post (nI (qt_L n 1 0 (qt_g G) (qt_B F) d (fun _ => true))) (nI n, nI 1, nI 0, F, G)) : wpY_mistakes post (nI n, m, q, F, G) v1 := by
  unfold wpY_mistakes wpY_weigh
  dsimp only
  exact hw _ (qy_cheapest (M := 1) (P := 0) hn (by decide) (by decide) hF hd hp)
theorem qy_price {post : Int32 → SY → Prop} (hn : n ≤ 48) (hF : qt_ok F) (hd : d ≤ 3) (hp20 : p ≤ 20) (hw : qt_cw 0 3 v1 d) (hw2 : qt_cw 0 20 v2 p) (hp : post (nI (qt_L n 1 p (qt_g G) (qt_B F) d (fun _ => true))) (nI n, nI 1, nI p, F, G)) : wpY_price post (nI n, m, q, F, G) v1 v2 := by
  unfold wpY_price wpY_weigh
  dsimp only
  refine hw2 (fun r => wpY_within (fun z => wpY_cheapest (fun y => post y (nI n, 1, r, F, G)) (nI n, 1, r, F, G) z) v1 0 3) ?_
  exact hw _ (qy_cheapest (M := 1) (P := p) hn (by decide) hp20 hF hd hp)
theorem qy_leaves {post : Int32 → SY → Prop} (hn : n ≤ 48) (hF : qt_ok F) (hd : d ≤ 3) (hw : qt_cw 0 3 v1 d) (hp : post (nI (qt_L n 100 1 (qt_g G) (qt_B F) d (fun _ => true) % 100 + 1)) (nI n, nI 100, nI 1, F, G)) : wpY_leaves post (nI n, m, q, F, G) v1 := by
  have b := qt_L_b (P := 1) (F := F) (G := G) (M := 100) hn (by decide) d (fun _ => true)
  have e : nI (qt_L n 100 1 (qt_g G) (qt_B F) d (fun _ => true)) - nI (qt_L n 100 1 (qt_g G) (qt_B F) d (fun _ => true)) / nI 100 * nI 100 = nI (qt_L n 100 1 (qt_g G) (qt_B F) d (fun _ => true) % 100) := pk_rem (by omega) (by decide) (by decide)
  rw [← nI_1, ← e] at hp
  unfold wpY_leaves wpY_weigh
  dsimp only
  exact hw _ (qy_cheapest (M := 100) (P := 1) hn (by decide) (by decide) hF hd ⟨by decide, hp⟩)
theorem qy_mistakesBy {post : Int32 → SY → Prop} {f : Nat} (hn : n ≤ 48) (hF : qt_ok F) (hd : d < 3) (hf : f < 6) (hw : qt_cw 1 3 v1 (d + 1)) (hp : post (nI (qt_T n 1 0 F G d (fun _ => true) f)) (nI n, nI 1, nI 0, F, G)) : wpY_mistakesBy post (nI n, m, q, F, G) v1 (nI f) := by
  unfold wpY_mistakesBy wpY_weigh
  dsimp only
  refine br_f (nI_pos (by omega)) (br_t (nI_le (b := 5) (by omega) (by omega)) (hw (fun z => wpY_by (fun r => post r (nI n, 1, 0, F, G)) (nI n, 1, 0, F, G) z (nI f)) ?_))
  exact qy_by (M := 1) (P := 0) hn (by decide) (by decide) hF hd hf hp
end
theorem i_vc_mistakes {k : Nat} {u : SX} {v : SY} (I : i_Rel k u v) (hk : k + 3 ≤ 1536) (v1 : Int32) : wpX_mistakes (fun r u' => wpY_mistakes (fun r' v' => r' = r ∧ i_Rel (k + 3) u' v') v v1) u v1 := by
  refine qt_el (Q := fun u v => wpX_mistakes (fun r u' => wpY_mistakes (fun r' v' => r' = r ∧ i_Rel (k + 3) u' v') v v1) u v1) I ?_
  intro n c m p F G gl bl be pw sy hn hF hG hpw hct
  obtain ⟨d, _, hd, hw⟩ := qt_cl (lo := 0) (hi := 3) (by decide) (by decide) v1
  unfold wpX_mistakes
  dsimp only
  refine hw (fun z => wX_mistakes_18 _ z (nI n) c F G gl bl sy be pw) ?_
  unfold wX_mistakes_18
  refine qx_workOut (M := 1) (P := 0) hn (by decide) (by decide) hF hpw hct (fun c' gl' bl' sy' be' hc h hr => ?_)
  dsimp only
  rw [qt_ix0, nI_clamp (n := 729 * d) (by omega), qt_b0 (hr d hd)]
  exact ⟨vp_in_nI (by omega) (by decide), qy_mistakes hn hF hd hw ⟨rfl, qt_rel hn hF hG hpw (fun _ => h)⟩⟩
theorem i_vc_price {k : Nat} {u : SX} {v : SY} (I : i_Rel k u v) (hk : k + 3 ≤ 1536) (v1 : Int32) (v2 : Int32) : wpX_price (fun r u' => wpY_price (fun r' v' => r' = r ∧ i_Rel (k + 3) u' v') v v1 v2) u v1 v2 := by
  refine qt_el (Q := fun u v => wpX_price (fun r u' => wpY_price (fun r' v' => r' = r ∧ i_Rel (k + 3) u' v') v v1 v2) u v1 v2) I ?_
  intro n c m p F G gl bl be pw sy hn hF hG hpw hct
  obtain ⟨d, _, hd, hw⟩ := qt_cl (lo := 0) (hi := 3) (by decide) (by decide) v1
  obtain ⟨P, _, hP, hw2⟩ := qt_cl (lo := 0) (hi := 20) (by decide) (by decide) v2
  unfold wpX_price
  dsimp only
  refine hw (fun z => wX_price_18 _ v2 z (nI n) c F G gl bl sy be pw) ?_
  unfold wX_price_18
  refine hw2 (fun z => wX_price_39 _ (nI d) z (nI n) c F G gl bl sy be pw) ?_
  unfold wX_price_39
  refine qx_workOut (M := 1) (P := P) hn (by decide) hP hF hpw hct (fun c' gl' bl' sy' be' hc h hr => ?_)
  dsimp only
  rw [qt_ix0, nI_clamp (n := 729 * d) (by omega), qt_b0 (hr d hd)]
  exact ⟨vp_in_nI (by omega) (by decide), qy_price hn hF hd hP hw hw2 ⟨rfl, qt_rel hn hF hG hpw (fun _ => h)⟩⟩
theorem i_vc_leaves {k : Nat} {u : SX} {v : SY} (I : i_Rel k u v) (hk : k + 3 ≤ 1536) (v1 : Int32) : wpX_leaves (fun r u' => wpY_leaves (fun r' v' => r' = r ∧ i_Rel (k + 3) u' v') v v1) u v1 := by
  refine qt_el (Q := fun u v => wpX_leaves (fun r u' => wpY_leaves (fun r' v' => r' = r ∧ i_Rel (k + 3) u' v') v v1) u v1) I ?_
  intro n c m p F G gl bl be pw sy hn hF hG hpw hct
  obtain ⟨d, _, hd, hw⟩ := qt_cl (lo := 0) (hi := 3) (by decide) (by decide) v1
  unfold wpX_leaves
  dsimp only
  refine hw (fun z => wX_leaves_18 _ z (nI n) c F G gl bl sy be pw) ?_
  unfold wX_leaves_18
  refine qx_workOut (M := 64) (P := 1) hn (by decide) (by decide) hF hpw hct (fun c' gl' bl' sy' be' hc h hr => ?_)
  dsimp only
  have b := qt_L_b (P := 1) (F := F) (G := G) (M := 64) hn (by decide) d (fun _ => true)
  have e : nI (qt_L n 64 1 (qt_g G) (qt_B F) d (fun _ => true)) - nI (qt_L n 64 1 (qt_g G) (qt_B F) d (fun _ => true)) / 64 * 64 = nI (qt_L n 64 1 (qt_g G) (qt_B F) d (fun _ => true) % 64) := pk_rem (d := 64) (by omega) (by decide) (by decide)
  rw [qt_ix0, nI_clamp (n := 729 * d) (by omega), qt_b0 (hr d hd), e, nI_1, qt_x_mod hd]
  exact ⟨vp_in_nI (by omega) (by decide), by decide, qy_leaves hn hF hd hw ⟨rfl, qt_rel hn hF hG hpw (fun _ => h)⟩⟩
theorem i_vc_mistakesBy {k : Nat} {u : SX} {v : SY} (I : i_Rel k u v) (hk : k + 3 ≤ 1536) (v1 : Int32) (v2 : Int32) : wpX_mistakesBy (fun r u' => wpY_mistakesBy (fun r' v' => r' = r ∧ i_Rel (k + 3) u' v') v v1 v2) u v1 v2 := by
  refine qt_el (Q := fun u v => wpX_mistakesBy (fun r u' => wpY_mistakesBy (fun r' v' => r' = r ∧ i_Rel (k + 3) u' v') v v1 v2) u v1 v2) I ?_
  intro n c m p F G gl bl be pw sy hn hF hG hpw hct
  by_cases h0 : v2 < 0
  · exact br_t h0 (br_t h0 ⟨rfl, qt_rel hn hF hG hpw hct⟩)
  · by_cases h5 : v2 ≤ 5
    · obtain ⟨f, hf, rfl⟩ := nI_of2 (M := 5) (n := 5) (by decide) h0 h5
      obtain ⟨d1, hd0, hd, hw⟩ := qt_cl (lo := 1) (hi := 3) (by decide) (by decide) v1
      obtain ⟨d, rfl⟩ : ∃ d, d1 = d + 1 := ⟨d1 - 1, by omega⟩
      refine br_f h0 (br_t h5 ?_)
      refine hw (fun z => wX_mistakesBy_30 _ (nI f) z (nI n) c F G gl bl sy be pw) ?_
      unfold wX_mistakesBy_30
      refine qx_workOut (M := 1) (P := 0) hn (by decide) (by decide) hF hpw hct (fun c' gl' bl' sy' be' hc h hr => ?_)
      dsimp only
      refine qx_divided (a := 0) (by omega) (by decide) (by omega) hpw ?_
      rw [qt_dv (by omega) (hr d (by omega))]
      refine qy_mistakesBy hn hF (by omega) (by omega) hw ⟨?_, qt_rel hn hF hG hpw (fun _ => h)⟩
      refine congrArg nI ?_
      unfold qt_T
      omega
    · exact br_f h0 (br_f h5 (br_f h0 (br_f h5 ⟨rfl, qt_rel hn hF hG hpw hct⟩)))
/-! the first question -/
def qt_q (t : Nat → Nat) : Nat → Nat
  | 0 => 0
  | k + 1 => if t (k + 1) < t (qt_q t k) then k + 1 else qt_q t k
theorem qt_q_t {t : Nat → Nat} {k : Nat} (h : t (k + 1) < t (qt_q t k)) : qt_q t (k + 1) = k + 1 := if_pos h
theorem qt_q_f {t : Nat → Nat} {k : Nat} (h : t (qt_q t k) ≤ t (k + 1)) : qt_q t (k + 1) = qt_q t k := if_neg (Nat.not_lt.mpr h)
theorem qt_q_le (t : Nat → Nat) : ∀ k, qt_q t k ≤ k := by
  intro k
  induction k with
  | zero => exact Nat.le_refl 0
  | succ k ih =>
    by_cases h : t (k + 1) < t (qt_q t k)
    · rw [qt_q_t h]; omega
    · rw [qt_q_f (by omega)]; omega
section
variable {n P d : Nat} {c : Int32} {F G gl bl be pw : Nat → Int32} {sy : Nat → Int64}
theorem qy_28 {post : Int32 → SY → Prop} (hn : n ≤ 48) (hP : P ≤ 20) (hF : qt_ok F) (hd : d < 3) (hp : post (nI (qt_q (qt_T n 1 P F G d (fun _ => true)) 5)) (nI n, nI 1, nI P, F, G)) :
    ∀ k j, j + k = 5 → wY_question_28 post (nI (d + 1)) (nI n) (nI 1) (nI P) F G (k + 1) (nI (qt_q (qt_T n 1 P F G d (fun _ => true)) j)) (nI (j + 1)) := by
  intro k
  induction k with
  | zero =>
    intro j hj
    obtain rfl : j = 5 := by omega
    exact br_t (nI_le (a := 6) (b := 6) (by omega) (by omega)) hp
  | succ k ih =>
    intro j hj
    have IH := ih (j + 1) (by omega)
    have hq := qt_q_le (qt_T n 1 P F G d (fun _ => true)) j
    have b1 := qt_T_b (M := 1) (F := F) (G := G) hn (by decide) hP d (fun _ => true) (j + 1)
    have b2 := qt_T_b (M := 1) (F := F) (G := G) hn (by decide) hP d (fun _ => true) (qt_q (qt_T n 1 P F G d (fun _ => true)) j)
    refine br_f (nI_ge (b := 6) (by omega) (by omega)) (qy_by hn (by decide) hP hF hd (by omega) (qy_by hn (by decide) hP hF hd (by omega) ?_))
    refine pk_le (qt_T n 1 P F G d (fun _ => true) (qt_q (qt_T n 1 P F G d (fun _ => true)) j)) (qt_T n 1 P F G d (fun _ => true) (j + 1)) (fun h => nm_r (nI_1 (j + 1)) ?_) (fun h => nm_r (nI_1 (j + 1)) ?_)
    · rw [qt_q_f h] at IH; exact IH
    · rw [qt_q_t h] at IH; exact IH
theorem qx_55 {post : Int32 → SX → Prop} (hn : n ≤ 48) (hP : P ≤ 20) (hd : d < 3) (hpw : qt_pw pw) (hr : qt_RW n 1 P F G be d) (hp : post (nI (qt_q (qt_T n 1 P F G d (fun _ => true)) 5)) (nI n, c, F, G, gl, bl, sy, be, pw)) :
    ∀ k j, j + k = 5 → wX_question_55 post (nI (d + 1)) (nI n) c F G gl bl sy be pw (k + 1) (nI (qt_q (qt_T n 1 P F G d (fun _ => true)) j)) (nI (j + 1)) := by
  intro k
  induction k with
  | zero =>
    intro j hj
    obtain rfl : j = 5 := by omega
    exact br_t (nI_le (a := 6) (b := 6) (by omega) (by omega)) hp
  | succ k ih =>
    intro j hj
    have IH := ih (j + 1) (by omega)
    have hq := qt_q_le (qt_T n 1 P F G d (fun _ => true)) j
    have b1 := qt_T_b (M := 1) (F := F) (G := G) hn (by decide) hP d (fun _ => true) (j + 1)
    have b2 := qt_T_b (M := 1) (F := F) (G := G) hn (by decide) hP d (fun _ => true) (qt_q (qt_T n 1 P F G d (fun _ => true)) j)
    have e : ∀ f, qt_T n 1 P F G d (fun _ => true) f = P + (qt_L n 1 P (qt_g G) (qt_B F) d (qt_no (qt_B F) (fun _ => true) f) + qt_L n 1 P (qt_g G) (qt_B F) d (qt_ye (qt_B F) (fun _ => true) f)) := fun f => Nat.add_assoc _ _ _
    have e1 := e (j + 1)
    have e2 := e (qt_q (qt_T n 1 P F G d (fun _ => true)) j)
    refine br_f (nI_ge (b := 6) (by omega) (by omega)) (qx_divided (a := 0) (f := j + 1) hd (by decide) (by omega) hpw ?_)
    refine qx_divided (a := 0) (f := qt_q (qt_T n 1 P F G d (fun _ => true)) j) hd (by decide) (by omega) hpw ?_
    rw [qt_dv (by omega) hr, qt_dv (by omega) hr]
    refine pk_le _ _ (fun h => nm_r (nI_1 (j + 1)) ?_) (fun h => nm_r (nI_1 (j + 1)) ?_) rfl rfl (by omega) (by omega)
    · rw [qt_q_f (by omega)] at IH; exact IH
    · rw [qt_q_t (by omega)] at IH; exact IH
end
theorem qy_question {n d p : Nat} {m q v1 v2 : Int32} {F G : Nat → Int32} {post : Int32 → SY → Prop} (hn : n ≤ 48) (hF : qt_ok F) (hd : d < 3) (hp20 : p ≤ 20) (hw : qt_cw 1 3 v1 (d + 1)) (hw2 : qt_cw 0 20 v2 p) (hp : post (nI (qt_q (qt_T n 1 p F G d (fun _ => true)) 5)) (nI n, nI 1, nI p, F, G)) : wpY_question post (nI n, m, q, F, G) v1 v2 := by
  unfold wpY_question wpY_weigh
  dsimp only
  refine hw2 (fun r => wpY_within (fun z => ∃ n28 : Nat, wY_question_28 post z (nI n) 1 r F G n28 0 1) v1 1 3) ?_
  refine hw (fun z => ∃ n28 : Nat, wY_question_28 post z (nI n) 1 (nI p) F G n28 0 1) ?_
  exact ⟨6, qy_28 hn hp20 hF hd hp 5 0 (by omega)⟩
theorem i_vc_question {k : Nat} {u : SX} {v : SY} (I : i_Rel k u v) (hk : k + 3 ≤ 1536) (v1 : Int32) (v2 : Int32) : wpX_question (fun r u' => wpY_question (fun r' v' => r' = r ∧ i_Rel (k + 3) u' v') v v1 v2) u v1 v2 := by
  refine qt_el (Q := fun u v => wpX_question (fun r u' => wpY_question (fun r' v' => r' = r ∧ i_Rel (k + 3) u' v') v v1 v2) u v1 v2) I ?_
  intro n c m p F G gl bl be pw sy hn hF hG hpw hct
  obtain ⟨d1, hd0, hd, hw⟩ := qt_cl (lo := 1) (hi := 3) (by decide) (by decide) v1
  obtain ⟨d, rfl⟩ : ∃ d, d1 = d + 1 := ⟨d1 - 1, by omega⟩
  obtain ⟨P, _, hP, hw2⟩ := qt_cl (lo := 0) (hi := 20) (by decide) (by decide) v2
  unfold wpX_question
  dsimp only
  refine hw (fun z => wX_question_19 _ v2 z (nI n) c F G gl bl sy be pw) ?_
  unfold wX_question_19
  refine hw2 (fun z => wX_question_40 _ (nI (d + 1)) z (nI n) c F G gl bl sy be pw) ?_
  unfold wX_question_40
  refine qx_workOut (M := 1) (P := P) hn (by decide) hP hF hpw hct (fun c' gl' bl' sy' be' hc h hr => ?_)
  exact ⟨6, qx_55 hn hP (by omega) hpw (hr d (by omega)) (qy_question hn hF (by omega) hP hw hw2 ⟨rfl, qt_rel hn hF hG hpw (fun _ => h)⟩) 5 0 (by omega)⟩
end
