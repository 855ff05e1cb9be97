section
/-! rows of the kit, pasted (STARTING TEXTS: kit/rows) -/
theorem pk_us {f : Nat → Int32} {k : Nat} {x : Int32} : upd f k x k = x := if_pos rfl
theorem pk_un {f : Nat → Int32} {k j : Nat} {x : Int32} (h : j ≠ k) : upd f k x j = f j := if_neg h
theorem pk_sub {a b : Nat} (h : b ≤ a) : nI a - nI b = nI (a - b) := by
  obtain ⟨c, rfl⟩ : ∃ c, a = c + b := ⟨a - b, by omega⟩
  rw [← nI_add, Int32.add_sub_cancel, Nat.add_sub_cancel]
theorem pk_m1 (n : Nat) : nI (n + 1) + (-1) = nI n := by
  rw [← nI_1, Int32.add_assoc, show (1 : Int32) + (-1) = 0 from rfl, Int32.add_zero]
theorem pk_mul (a b : Nat) : nI a * nI b = nI (a * b) := (Int32.ofNat_mul a b).symm
theorem pk_div {a d : Nat} (ha : a < 2 ^ 31) (h0 : 0 < d) (hd : d < 2 ^ 31) : nI a / nI d = nI (a / d) := by
  apply Int32.toInt_inj.mp
  rw [lg_idiv_nonneg (by rw [nI_toInt ha]; omega) (by rw [nI_toInt hd]; omega), nI_toInt ha, nI_toInt hd, nI_toInt (Nat.lt_of_le_of_lt (Nat.div_le_self a d) ha)]
  first | rfl | exact (Int.natCast_ediv _ _).symm
theorem pk_rem {a d : Nat} (ha : a < 2 ^ 31) (h0 : 0 < d) (hd : d < 2 ^ 31) : nI a - nI a / nI d * nI d = nI (a % d) := by
  rw [pk_div ha h0 hd, pk_mul, pk_sub (Nat.div_mul_le_self a d)]
  exact congrArg nI (by have := Nat.div_add_mod' a d; omega)
theorem pk_ix (x : Int32) {n : Nat} (hn : n < 2 ^ 31) : x < 0 ∨ nI n ≤ x ∨ ∃ j : Nat, j < n ∧ x = nI j := by
  by_cases h : x < 0
  · exact Or.inl h
  · obtain ⟨j, hj, rfl⟩ := nI_of h
    by_cases h2 : j < n
    · exact Or.inr (Or.inr ⟨j, h2, rfl⟩)
    · exact Or.inr (Or.inl (nI_le (by omega) hj))
theorem pk_le {x y : Int32} {A B : Prop} (a b : Nat) (f : a ≤ b → A) (g : b < a → B) (hx : x = nI a := by rfl) (hy : y = nI b := by rfl) (ha : a < 2 ^ 31 := by omega) (hb : b < 2 ^ 31 := by omega) : (x ≤ y → A) ∧ (¬ x ≤ y → B) := by
  subst hx hy
  rw [nI_leI ha hb]
  exact ⟨f, fun z => g (by omega)⟩
theorem pk_lt {x y : Int32} {A B : Prop} (a b : Nat) (f : a < b → A) (g : b ≤ a → B) (hx : x = nI a := by rfl) (hy : y = nI b := by rfl) (ha : a < 2 ^ 31 := by omega) (hb : b < 2 ^ 31 := by omega) : (x < y → A) ∧ (¬ x < y → B) := by
  subst hx hy
  rw [nI_ltI ha hb]
  exact ⟨f, fun z => g (by omega)⟩
theorem pk_eq {x y : Int32} {A B : Prop} (a b : Nat) (f : a = b → A) (g : a ≠ b → B) (hx : x = nI a := by rfl) (hy : y = nI b := by rfl) (ha : a < 2 ^ 31 := by omega) (hb : b < 2 ^ 31 := by omega) : (x = y → A) ∧ (¬ x = y → B) := by
  subst hx hy
  rw [nI_eq ha hb]
  exact ⟨f, g⟩
theorem pk_in {x : Int32} (n N : Nat) (h : n < N) (hx : x = nI n := by rfl) (hN : N < 2 ^ 31 := by omega) : vp_in x N := by
  subst hx
  exact vp_in_nI h hN
theorem pk_cl {x : Int32} (n : Nat) (hx : x = nI n := by rfl) (h : n < 2 ^ 31 := by omega) : x.toNatClampNeg = n := by
  subst hx
  exact nI_clamp h
def bt (x : Int32) (i : Nat) : Bool := x.toBitVec.getLsbD i
theorem b_ext {x y : Int32} (h : ∀ i, i < 32 → bt x i = bt y i) : x = y := Int32.toBitVec_inj.mp (BitVec.eq_of_getLsbD_eq (fun i hi => h i hi))
theorem b_or (x y : Int32) (i : Nat) : bt (x ||| y) i = (bt x i || bt y i) := by unfold bt; rw [Int32.toBitVec_or, BitVec.getLsbD_or]
theorem b_and (x y : Int32) (i : Nat) : bt (x &&& y) i = (bt x i && bt y i) := by unfold bt; rw [Int32.toBitVec_and, BitVec.getLsbD_and]
theorem b_big {x : Int32} {i : Nat} (h : 32 ≤ i) : bt x i = false := BitVec.getLsbD_of_ge _ _ h
theorem b_0 (i : Nat) : bt 0 i = false := BitVec.getLsbD_zero
theorem s_l : ∀ n, n < 32 → ((nI n &&& 31).toBitVec.smod 32).toNat = n := by decide +kernel
theorem b_shl (n : Nat) (hn : n < 32) (x : Int32) {i : Nat} (hi : i < 32) : bt (x <<< (nI n &&& 31)) i = (decide (n ≤ i) && bt x (i - n)) := by
  unfold bt
  rw [Int32.toBitVec_shiftLeft]
  show (x.toBitVec <<< ((nI n &&& 31).toBitVec.smod 32).toNat).getLsbD i = _
  rw [s_l n hn, BitVec.getLsbD_shiftLeft]
  rcases Nat.lt_or_ge i n with h | h
  · simp [h, Nat.not_le.mpr h]
  · simp [hi, h, Nat.not_lt.mpr h]
theorem b_sshr (n : Nat) (hn : n < 32) (x : Int32) {i : Nat} (hi : i < 32) : bt (x >>> (nI n &&& 31)) i = if n + i < 32 then bt x (n + i) else bt x 31 := by
  unfold bt
  rw [Int32.toBitVec_shiftRight]
  show (x.toBitVec.sshiftRight ((nI n &&& 31).toBitVec.smod 32).toNat).getLsbD i = _
  rw [s_l n hn, BitVec.getLsbD_sshiftRight, BitVec.msb_eq_getLsbD_last]
  simp [hi]
end
section
/-! base: arrays as Nat functions, number rows, masks -/
def tr_f (f : Nat → Nat) : Nat → Int32 := fun j => nI (f j)
def tr_u (f : Nat → Nat) (k v : Nat) : Nat → Nat := fun j => if j = k then v else f j
theorem tr_us {f : Nat → Nat} {k v : Nat} : tr_u f k v k = v := if_pos rfl
theorem tr_un {f : Nat → Nat} {k v j : Nat} (h : j ≠ k) : tr_u f k v j = f j := if_neg h
theorem tr_ub {f : Nat → Nat} {k v b : Nat} (h : ∀ j, f j ≤ b) (hv : v ≤ b) : ∀ j, tr_u f k v j ≤ b := by
  intro j
  unfold tr_u
  split
  · exact hv
  · exact h j
theorem tr_ap (f : Nat → Nat) (k : Nat) : tr_f f k = nI (f k) := rfl
theorem tr_upd (f : Nat → Nat) (k v : Nat) : upd (tr_f f) k (nI v) = tr_f (tr_u f k v) := by
  funext j
  show (if j = k then nI v else nI (f j)) = nI (if j = k then v else f j)
  split <;> rfl
theorem tr_0 : (fun _ => 0 : Nat → Int32) = tr_f (fun _ => 0) := rfl
theorem tr_m8 (a : Nat) : (8 : Int32) * nI a = nI (8 * a) := pk_mul 8 a
theorem tr_m5 (a : Nat) : (5 : Int32) * nI a = nI (5 * a) := pk_mul 5 a
theorem tr_8m (a : Nat) : nI a * (8 : Int32) = nI (8 * a) := by rw [Nat.mul_comm]; exact pk_mul a 8
theorem tr_5m (a : Nat) : nI a * (5 : Int32) = nI (5 * a) := by rw [Nat.mul_comm]; exact pk_mul a 5
theorem tr_p8 (a : Nat) : nI a + (8 : Int32) = nI (a + 8) := nI_add a 8
theorem tr_p5 (a : Nat) : nI a + (5 : Int32) = nI (a + 5) := nI_add a 5
theorem tr_s1 {a : Nat} (h : 1 ≤ a) : nI a - (1 : Int32) = nI (a - 1) := pk_sub (b := 1) h
theorem tr_s8 {a : Nat} (h : 8 ≤ a) : nI a - (8 : Int32) = nI (a - 8) := pk_sub (b := 8) h
theorem tr_8le {a : Nat} (h : a < 2 ^ 31) : (8 : Int32) ≤ nI a ↔ 8 ≤ a := nI_leI (a := 8) (by decide) h
theorem tr_88le {a : Nat} (h : a < 2 ^ 31) : (88 : Int32) ≤ nI a ↔ 88 ≤ a := nI_leI (a := 88) (by decide) h
theorem tr_Nle {a : Nat} (h : a < 2 ^ 31) : (100000 : Int32) ≤ nI a ↔ 100000 ≤ a := nI_leI (a := 100000) (by decide) h
theorem tr_ltN {a : Nat} (h : a < 2 ^ 31) : nI a < (100000 : Int32) ↔ a < 100000 := nI_ltI (b := 100000) h (by decide)
theorem tr_eqN {a : Nat} (h : a < 2 ^ 31) : nI a = (100000 : Int32) ↔ a = 100000 := nI_eq (b := 100000) h (by decide)
theorem tr_eq0 {a : Nat} (h : a < 2 ^ 31) : nI a = (0 : Int32) ↔ a = 0 := nI_eq (b := 0) h (by decide)
theorem tr_eq5 {a : Nat} (h : a < 2 ^ 31) : nI a = (5 : Int32) ↔ a = 5 := nI_eq (b := 5) h (by decide)
theorem tr_eq10 {a : Nat} (h : a < 2 ^ 31) : nI a = (10 : Int32) ↔ a = 10 := nI_eq (b := 10) h (by decide)
theorem tr_le0 {a : Nat} (h : a < 2 ^ 31) : nI a ≤ (0 : Int32) ↔ a ≤ 0 := nI_leI (b := 0) h (by decide)
theorem tr_lt0 {a : Nat} (h : a < 2 ^ 31) : nI a < (0 : Int32) ↔ a < 0 := nI_ltI (b := 0) h (by decide)
theorem tr_10lt {a : Nat} (h : a < 2 ^ 31) : (10 : Int32) < nI a ↔ 10 < a := nI_ltI (a := 10) (by decide) h
theorem tr_lt10 {a : Nat} (h : a < 2 ^ 31) : nI a < (10 : Int32) ↔ a < 10 := nI_ltI (b := 10) h (by decide)
theorem tr_le10 {a : Nat} (h : a < 2 ^ 31) : nI a ≤ (10 : Int32) ↔ a ≤ 10 := nI_leI (b := 10) h (by decide)
theorem tr_lt5 {a : Nat} (h : a < 2 ^ 31) : nI a < (5 : Int32) ↔ a < 5 := nI_ltI (b := 5) h (by decide)
theorem tr_le99 {a : Nat} (h : a < 2 ^ 31) : nI a ≤ (99 : Int32) ↔ a ≤ 99 := nI_leI (b := 99) h (by decide)
theorem tr_le999 {a : Nat} (h : a < 2 ^ 31) : nI a ≤ (999 : Int32) ↔ a ≤ 999 := nI_leI (b := 999) h (by decide)
theorem tr_999lt {a : Nat} (h : a < 2 ^ 31) : (999 : Int32) < nI a ↔ 999 < a := nI_ltI (a := 999) (by decide) h
theorem tr_nb : ∀ a, a < 128 → (nI a).toInt8.toInt32 = nI a := by decide +kernel
theorem tr_ns : ∀ a, a < 1100 → (nI a).toInt16.toInt32 = nI a := by decide +kernel
theorem tr_vb {a : Nat} (h : a < 128) : vp_nar .byte (nI a) = nI a := by rw [vp_nar_byte, tr_nb a h]
theorem tr_vs {a : Nat} (h : a < 1100) : vp_nar .short (nI a) = nI a := by rw [vp_nar_short, tr_ns a h]
/-! masks -/
def tr_mk (p : Nat → Bool) : Nat → Int32
  | 0 => 0
  | i + 1 => if p i = true then tr_mk p i ||| ((1 : Int32) <<< (nI i &&& 31)) else tr_mk p i
theorem tr_mks (p : Nat → Bool) (i : Nat) : tr_mk p (i + 1) = if p i = true then tr_mk p i ||| ((1 : Int32) <<< (nI i &&& 31)) else tr_mk p i := rfl
theorem tr_b1 : ∀ i, i < 32 → bt 1 i = decide (i = 0) := by decide +kernel
theorem tr_bs (i j : Nat) (hi : i < 32) (hj : j < 32) : bt ((1 : Int32) <<< (nI i &&& 31)) j = decide (j = i) := by
  rw [b_shl i hi 1 hj, tr_b1 (j - i) (by omega)]
  by_cases h : j = i
  · subst h; simp
  · by_cases h2 : i ≤ j
    · have : ¬ (j - i = 0) := by omega
      simp [h, this]
    · simp [h, h2]
theorem tr_bm (p : Nat → Bool) : ∀ n, n ≤ 32 → ∀ j, j < 32 → bt (tr_mk p n) j = (decide (j < n) && p j) := by
  intro n
  induction n with
  | zero => intro _ j _; show bt 0 j = _; rw [b_0]; simp
  | succ n ih =>
    intro hn j hj
    have e := ih (by omega) j hj
    rw [tr_mks]
    by_cases hp : p n = true
    · rw [if_pos hp, b_or, e, tr_bs n j (by omega) hj]
      by_cases h : j = n
      · subst h; simp [hp]
      · have : (j < n + 1) ↔ (j < n) := by omega
        simp [h, this]
    · rw [if_neg hp, e]
      by_cases h : j = n
      · subst h
        have : p j = false := by simpa using hp
        simp [this]
      · have : (j < n + 1) ↔ (j < n) := by omega
        simp [this]
theorem tr_mz {p : Nat → Bool} (h : tr_mk p 8 = 0) : ∀ s, s < 8 → p s = false := by
  intro s hs
  have e := tr_bm p 8 (by omega) s (by omega)
  rw [h, b_0, decide_eq_true hs] at e
  simpa using e.symm
theorem tr_bit (x : Int32) (s : Nat) (hs : s < 31) : ((x >>> (nI s &&& 31)) &&& 1) = 0 ↔ bt x s = false := by
  constructor
  · intro h
    have e : bt ((x >>> (nI s &&& 31)) &&& 1) 0 = false := by rw [h, b_0]
    rw [b_and, b_sshr s (by omega) x (by omega), tr_b1 0 (by omega)] at e
    simpa [show s < 32 from by omega] using e
  · intro h
    apply b_ext
    intro i hi
    rw [b_and, b_sshr s (by omega) x hi, tr_b1 i hi, b_0]
    by_cases h0 : i = 0
    · subst h0
      simp [show s < 32 from by omega, h]
    · simp [h0]
theorem tr_mke {p q : Nat → Bool} : ∀ n, (∀ j, j < n → p j = q j) → tr_mk p n = tr_mk q n := by
  intro n
  induction n with
  | zero => intro _; rfl
  | succ n ih =>
    intro h
    rw [tr_mks, tr_mks, ih (fun j hj => h j (by omega)), h n (by omega)]
/-! counts -/
def tr_cn (p : Nat → Bool) : Nat → Nat
  | 0 => 0
  | i + 1 => if p i = true then tr_cn p i + 1 else tr_cn p i
theorem tr_cns (p : Nat → Bool) (i : Nat) : tr_cn p (i + 1) = if p i = true then tr_cn p i + 1 else tr_cn p i := rfl
theorem tr_cle (p : Nat → Bool) : ∀ n, tr_cn p n ≤ n := by
  intro n
  induction n with
  | zero => exact Nat.le_refl 0
  | succ n ih => rw [tr_cns]; split <;> omega
theorem tr_cne {p q : Nat → Bool} : ∀ n, (∀ j, j < n → p j = q j) → tr_cn p n = tr_cn q n := by
  intro n
  induction n with
  | zero => intro _; rfl
  | succ n ih =>
    intro h
    rw [tr_cns, tr_cns, ih (fun j hj => h j (by omega)), h n (by omega)]
theorem tr_cnf {q : Nat → Bool} (m : Nat) : ∀ d, (∀ j, m ≤ j → j < m + d → q j = false) → tr_cn q (m + d) = tr_cn q m := by
  intro d
  induction d with
  | zero => intro _; rfl
  | succ d ih =>
    intro h
    show tr_cn q (m + d + 1) = _
    rw [tr_cns, h (m + d) (by omega) (by omega)]
    exact ih (fun j h1 h2 => h j h1 (by omega))
end
section
/-! the pure law: with just k rides one gets off at s by time x (tp_off), after at most one walk (tp_th), with fewer than r rides (tp_at) -/
def tp_th (W : Nat → Nat) (P : Nat → Nat → Prop) (s x : Nat) : Prop := P s x ∨ ∃ u y, u < 8 ∧ 0 < W (8 * u + s) ∧ y + W (8 * u + s) ≤ x ∧ P u y
def tp_rd (T : Nat) (C S M : Nat → Nat) (Q : Nat → Prop) (P : Nat → Nat → Prop) (s x : Nat) : Prop := ∃ i p c, i < T ∧ Q i ∧ p < c ∧ c < C i ∧ P (S (5 * i + p)) (M (5 * i + p)) ∧ S (5 * i + c) = s ∧ M (5 * i + c) ≤ x
def tp_off (T : Nat) (C S M W : Nat → Nat) (a t : Nat) : Nat → Nat → Nat → Prop
  | 0 => fun s x => s = a ∧ t ≤ x
  | k + 1 => tp_rd T C S M (fun _ => True) (tp_th W (tp_off T C S M W a t k))
def tp_at (T : Nat) (C S M W : Nat → Nat) (a t : Nat) (r s x : Nat) : Prop := ∃ k, k < r ∧ tp_th W (tp_off T C S M W a t k) s x
/-- what the timetable keeps -/
def tp_ok (T : Nat) (C S M W : Nat → Nat) : Prop := T ≤ 10 ∧ (∀ j, C j ≤ 5) ∧ (∀ j, S j ≤ 7) ∧ (∀ j, M j ≤ 999) ∧ (∀ j, W j ≤ 99) ∧ (∀ i, i < T → 1 ≤ C i) ∧ (∀ i, i < T → ∀ k, k + 1 < C i → M (5 * i + k) ≤ M (5 * i + (k + 1)))
theorem tp_th_m {W : Nat → Nat} {P P' : Nat → Nat → Prop} {s x : Nat} (h : ∀ s x, P s x → P' s x) (g : tp_th W P s x) : tp_th W P' s x := by
  rcases g with g | ⟨u, y, a, b, c, d⟩
  · exact Or.inl (h _ _ g)
  · exact Or.inr ⟨u, y, a, b, c, h _ _ d⟩
theorem tp_th_or {W : Nat → Nat} {P A B : Nat → Nat → Prop} {s x : Nat} (h : ∀ s x, P s x → A s x ∨ B s x) (g : tp_th W P s x) : tp_th W A s x ∨ tp_th W B s x := by
  rcases g with g | ⟨u, y, a, b, c, d⟩
  · rcases h _ _ g with k | k
    · exact Or.inl (Or.inl k)
    · exact Or.inr (Or.inl k)
  · rcases h _ _ d with k | k
    · exact Or.inl (Or.inr ⟨u, y, a, b, c, k⟩)
    · exact Or.inr (Or.inr ⟨u, y, a, b, c, k⟩)
theorem tp_rd_m {T : Nat} {C S M : Nat → Nat} {Q Q' : Nat → Prop} {P P' : Nat → Nat → Prop} (hS : ∀ j, S j ≤ 7) (hM : ∀ j, M j ≤ 999) (hQ : ∀ i, Q i → Q' i) (h : ∀ s x, s ≤ 7 → x ≤ 999 → P s x → P' s x) : ∀ s x, tp_rd T C S M Q P s x → tp_rd T C S M Q' P' s x := by
  rintro s x ⟨i, p, c, h1, h2, h3, h4, h5, h6, h7⟩
  exact ⟨i, p, c, h1, hQ _ h2, h3, h4, h _ _ (hS _) (hM _) h5, h6, h7⟩
section
variable {T : Nat} {C S M W : Nat → Nat} {a t : Nat}
theorem tp_at_m {r r' s x : Nat} (h : r ≤ r') (g : tp_at T C S M W a t r s x) : tp_at T C S M W a t r' s x := by
  obtain ⟨k, hk, z⟩ := g
  exact ⟨k, by omega, z⟩
theorem tp_at_0 {s x : Nat} : ¬ tp_at T C S M W a t 0 s x := by
  rintro ⟨k, hk, _⟩
  omega
theorem tp_at_1 {s x : Nat} : tp_at T C S M W a t 1 s x ↔ tp_th W (fun s x => s = a ∧ t ≤ x) s x := by
  constructor
  · rintro ⟨k, hk, z⟩
    have : k = 0 := by omega
    subst this
    exact z
  · intro z
    exact ⟨0, by omega, z⟩
theorem tp_at_s {r s x : Nat} : tp_at T C S M W a t (r + 1) s x ↔ tp_at T C S M W a t r s x ∨ tp_th W (tp_off T C S M W a t r) s x := by
  constructor
  · rintro ⟨k, hk, z⟩
    by_cases h : k = r
    · subst h; exact Or.inr z
    · exact Or.inl ⟨k, by omega, z⟩
  · rintro (z | z)
    · exact tp_at_m (by omega) z
    · exact ⟨r, by omega, z⟩
/-- a ride after fewer than r rides, then a walk -/
theorem tp_rw {Q : Nat → Prop} {r s x : Nat} (g : tp_th W (tp_rd T C S M Q (tp_at T C S M W a t r)) s x) : tp_at T C S M W a t (r + 1) s x := by
  have e : ∀ u y, tp_rd T C S M Q (tp_at T C S M W a t r) u y → ∃ k, k < r ∧ tp_off T C S M W a t (k + 1) u y := by
    rintro u y ⟨i, p, c, h1, h2, h3, h4, ⟨k, hk, h5⟩, h6, h7⟩
    exact ⟨k, hk, i, p, c, h1, trivial, h3, h4, h5, h6, h7⟩
  rcases g with g | ⟨u, y, b, c, d, g⟩
  · obtain ⟨k, hk, z⟩ := e _ _ g
    exact ⟨k + 1, by omega, Or.inl z⟩
  · obtain ⟨k, hk, z⟩ := e _ _ g
    exact ⟨k + 1, by omega, Or.inr ⟨u, y, b, c, d, z⟩⟩
theorem tp_wr {r s x : Nat} (g : tp_at T C S M W a t (r + 1) s x) : tp_at T C S M W a t 1 s x ∨ tp_th W (tp_rd T C S M (fun _ => True) (tp_at T C S M W a t r)) s x := by
  obtain ⟨k, hk, z⟩ := g
  cases k with
  | zero => exact Or.inl ⟨0, by omega, z⟩
  | succ k =>
    refine Or.inr (tp_th_m ?_ z)
    rintro u y ⟨i, p, c, h1, h2, h3, h4, h5, h6, h7⟩
    exact ⟨i, p, c, h1, h2, h3, h4, ⟨k, by omega, h5⟩, h6, h7⟩
/-- a round that skips the trips with no bettered call loses nothing -/
theorem tp_skip {Q : Nat → Prop} {r s x : Nat} (hM : ∀ j, M j ≤ 999) (hQ : ∀ i, i < T → ¬ Q i → ∀ p, p < C i → ∀ x, x < 100000 → tp_at T C S M W a t (r + 1) (S (5 * i + p)) x → tp_at T C S M W a t r (S (5 * i + p)) x) : tp_at T C S M W a t (r + 2) s x ↔ tp_at T C S M W a t (r + 1) s x ∨ tp_th W (tp_rd T C S M Q (tp_at T C S M W a t (r + 1))) s x := by
  constructor
  · intro g
    rcases tp_wr g with g | g
    · exact Or.inl (tp_at_m (by omega) g)
    · have e := tp_th_or (A := tp_rd T C S M Q (tp_at T C S M W a t (r + 1))) (B := tp_rd T C S M (fun _ => True) (tp_at T C S M W a t r)) (by
        rintro u y ⟨i, p, c, h1, h2, h3, h4, h5, h6, h7⟩
        by_cases q : Q i
        · exact Or.inl ⟨i, p, c, h1, q, h3, h4, h5, h6, h7⟩
        · refine Or.inr ⟨i, p, c, h1, h2, h3, h4, hQ i h1 q p (by omega) _ ?_ h5, h6, h7⟩
          have := hM (5 * i + p)
          omega) g
      rcases e with e | e
      · exact Or.inr e
      · exact Or.inl (tp_rw e)
  · rintro (g | g)
    · exact tp_at_m (by omega) g
    · exact tp_rw g
/-- when no stop was bettered, further rides better none -/
theorem tp_stop {r : Nat} (hS : ∀ j, S j ≤ 7) (hM : ∀ j, M j ≤ 999) (h : ∀ s, s < 8 → ∀ x, x < 100000 → tp_at T C S M W a t (r + 1) s x → tp_at T C S M W a t r s x) : ∀ k s x, tp_at T C S M W a t k s x → tp_at T C S M W a t (r + 1) s x := by
  intro k
  induction k with
  | zero => intro s x g; exact absurd g tp_at_0
  | succ k ih =>
    intro s x g
    rcases tp_wr g with g | g
    · exact tp_at_m (by omega) g
    · refine tp_rw (Q := fun _ => True) (tp_th_m (tp_rd_m hS hM (fun _ z => z) ?_) g)
      intro s x hs hx z
      exact h s (by omega) x (by omega) (ih s x z)
theorem tp_inc (H : tp_ok T C S M W) {i : Nat} (hi : i < T) (p : Nat) : ∀ d, p + d < C i → M (5 * i + p) ≤ M (5 * i + (p + d)) := by
  intro d
  induction d with
  | zero => intro _; exact Nat.le_refl _
  | succ d ih =>
    intro h
    exact Nat.le_trans (ih (by omega)) (H.2.2.2.2.2.2 i hi (p + d) h)
theorem tp_inc2 (H : tp_ok T C S M W) {i p c : Nat} (hi : i < T) (h : p ≤ c) (hc : c < C i) : M (5 * i + p) ≤ M (5 * i + c) := by
  have e := tp_inc H hi p (c - p) (by omega)
  rwa [show p + (c - p) = c from by omega] at e
/-- nobody arrives before the start -/
theorem tp_th_ge {P : Nat → Nat → Prop} {b : Nat} (h : ∀ s x, P s x → b ≤ x) {s x : Nat} (g : tp_th W P s x) : b ≤ x := by
  rcases g with g | ⟨u, y, _, _, d, g⟩
  · exact h _ _ g
  · have := h _ _ g
    omega
theorem tp_off_ge (H : tp_ok T C S M W) : ∀ k s x, tp_off T C S M W a t k s x → t ≤ x := by
  intro k
  induction k with
  | zero => intro s x g; exact g.2
  | succ k ih =>
    rintro s x ⟨i, p, c, h1, h2, h3, h4, h5, h6, h7⟩
    have e1 := tp_th_ge (b := t) ih h5
    have e2 := tp_inc2 H h1 (Nat.le_of_lt h3) h4
    omega
theorem tp_at_ge (H : tp_ok T C S M W) {r s x : Nat} (g : tp_at T C S M W a t r s x) : t ≤ x := by
  obtain ⟨k, hk, z⟩ := g
  exact tp_th_ge (tp_off_ge H k) z
/-- leaving later never makes one arrive earlier -/
theorem tp_off_t {t' : Nat} (h : t' ≤ t) : ∀ k s x, tp_off T C S M W a t k s x → tp_off T C S M W a t' k s x := by
  intro k
  induction k with
  | zero => intro s x g; exact ⟨g.1, Nat.le_trans h g.2⟩
  | succ k ih =>
    rintro s x ⟨i, p, c, h1, h2, h3, h4, h5, h6, h7⟩
    exact ⟨i, p, c, h1, h2, h3, h4, tp_th_m ih h5, h6, h7⟩
theorem tp_at_t {t' : Nat} (h : t' ≤ t) {r s x : Nat} (g : tp_at T C S M W a t r s x) : tp_at T C S M W a t' r s x := by
  obtain ⟨k, hk, z⟩ := g
  exact ⟨k, hk, tp_th_m (tp_off_t h k) z⟩
end
/-- a row of arrivals by riding, and one walk from each -/
theorem tp_num {W R : Nat → Nat} {P : Nat → Nat → Prop} (h : ∀ u, u < 8 → ∀ y, R u ≤ y ↔ 100000 ≤ y ∨ P u y) {s x : Nat} (hs : s < 8) : (R s ≤ x ∨ ∃ u, u < 8 ∧ R u < 100000 ∧ 0 < W (8 * u + s) ∧ R u + W (8 * u + s) ≤ x) ↔ 100000 ≤ x ∨ tp_th W P s x := by
  constructor
  · rintro (g | ⟨u, h1, h2, h3, h4⟩)
    · rcases (h s hs x).mp g with g | g
      · exact Or.inl g
      · exact Or.inr (Or.inl g)
    · rcases (h u h1 (R u)).mp (Nat.le_refl _) with g | g
      · omega
      · exact Or.inr (Or.inr ⟨u, R u, h1, h3, h4, g⟩)
  · rintro (g | g | ⟨u, y, h1, h2, h3, g⟩)
    · exact Or.inl ((h s hs x).mpr (Or.inl g))
    · exact Or.inl ((h s hs x).mpr (Or.inr g))
    · have e := (h u h1 y).mpr (Or.inr g)
      by_cases z : R u < 100000
      · exact Or.inr ⟨u, h1, z, h2, by omega⟩
      · exact Or.inl ((h s hs x).mpr (Or.inl (by omega)))
theorem tp_eq {v w : Nat} {P : Nat → Prop} (h1 : ∀ x, v ≤ x ↔ P x) (h2 : ∀ x, w ≤ x ↔ P x) : v = w := by
  have a := (h2 v).mpr ((h1 v).mp (Nat.le_refl v))
  have b := (h1 w).mpr ((h2 w).mp (Nat.le_refl w))
  omega
end
section
/-! X: walkOn, callsAtBettered, ride -/
def tx_wI (W R B0 : Nat → Nat) (r u i : Nat) (B : Nat → Nat) : Prop := (∀ j, B j ≤ 100000) ∧ (∀ j, (j < 8 * r ∨ 8 * r + 8 ≤ j) → B j = B0 j) ∧ ∀ s, s < 8 → ∀ x, (B (8 * r + s) ≤ x ↔ B0 (8 * r + s) ≤ x ∨ (s < i ∧ 0 < W (8 * u + s) ∧ R u + W (8 * u + s) ≤ x))
def tx_wO (W R B0 : Nat → Nat) (r i : Nat) (B : Nat → Nat) : Prop := (∀ j, B j ≤ 100000) ∧ (∀ j, (j < 8 * r ∨ 8 * r + 8 ≤ j) → B j = B0 j) ∧ ∀ s, s < 8 → ∀ x, (B (8 * r + s) ≤ x ↔ B0 (8 * r + s) ≤ x ∨ ∃ u, u < i ∧ R u < 100000 ∧ 0 < W (8 * u + s) ∧ R u + W (8 * u + s) ≤ x)
theorem tx_wI0 {W R B0 : Nat → Nat} {r u : Nat} (h : ∀ j, B0 j ≤ 100000) : tx_wI W R B0 r u 0 B0 := by
  refine ⟨h, fun _ _ => rfl, fun s _ x => ⟨Or.inl, ?_⟩⟩
  rintro (z | z)
  · exact z
  · omega
theorem tx_wIk {W R B0 B : Nat → Nat} {r u i : Nat} (h : tx_wI W R B0 r u i B) (z : W (8 * u + i) = 0 ∨ B (8 * r + i) ≤ R u + W (8 * u + i)) : tx_wI W R B0 r u (i + 1) B := by
  refine ⟨h.1, h.2.1, fun s hs x => ?_⟩
  have e := h.2.2 s hs x
  by_cases q : s = i
  · subst q
    omega
  · omega
theorem tx_wIs {W R B0 B : Nat → Nat} {r u i : Nat} (h : tx_wI W R B0 r u i B) (hi : i < 8) (z : ¬ W (8 * u + i) = 0) (y : R u + W (8 * u + i) < B (8 * r + i)) : tx_wI W R B0 r u (i + 1) (tr_u B (8 * r + i) (R u + W (8 * u + i))) := by
  have hb := h.1 (8 * r + i)
  refine ⟨tr_ub h.1 (by omega), fun j hj => ?_, fun s hs x => ?_⟩
  · rw [tr_un (by omega)]
    exact h.2.1 j hj
  · have e := h.2.2 s hs x
    by_cases q : s = i
    · subst q
      rw [tr_us]
      omega
    · rw [tr_un (by omega)]
      omega
theorem tx_wO0 {W R B0 : Nat → Nat} {r : Nat} (h : ∀ j, B0 j ≤ 100000) : tx_wO W R B0 r 0 B0 := by
  refine ⟨h, fun _ _ => rfl, fun s _ x => ⟨Or.inl, ?_⟩⟩
  rintro (z | ⟨u, hu, _⟩)
  · exact z
  · omega
theorem tx_wOk {W R B0 B : Nat → Nat} {r u : Nat} (h : tx_wO W R B0 r u B) (z : ¬ R u < 100000) : tx_wO W R B0 r (u + 1) B := by
  refine ⟨h.1, h.2.1, fun s hs x => ?_⟩
  rw [h.2.2 s hs x]
  constructor
  · rintro (g | ⟨v, h1, h2⟩)
    · exact Or.inl g
    · exact Or.inr ⟨v, by omega, h2⟩
  · rintro (g | ⟨v, h1, h2⟩)
    · exact Or.inl g
    · refine Or.inr ⟨v, ?_, h2⟩
      by_cases q : v = u
      · subst q; exact absurd h2.1 z
      · omega
theorem tx_wOs {W R B0 B B' : Nat → Nat} {r u : Nat} (h : tx_wO W R B0 r u B) (z : R u < 100000) (g : tx_wI W R B r u 8 B') : tx_wO W R B0 r (u + 1) B' := by
  refine ⟨g.1, fun j hj => (g.2.1 j hj).trans (h.2.1 j hj), fun s hs x => ?_⟩
  rw [g.2.2 s hs x, h.2.2 s hs x]
  constructor
  · rintro ((k | ⟨v, h1, h2⟩) | ⟨_, k⟩)
    · exact Or.inl k
    · exact Or.inr ⟨v, by omega, h2⟩
    · exact Or.inr ⟨u, by omega, z, k⟩
  · rintro (k | ⟨v, h1, h2, h3⟩)
    · exact Or.inl (Or.inl k)
    · by_cases q : v = u
      · subst q; exact Or.inr ⟨hs, h3⟩
      · exact Or.inl (Or.inr ⟨v, by omega, h2, h3⟩)
section
variable {T : Nat} {C S M W : Nat → Nat} {fT fb fr : Int32}
theorem tx_w24 {post : SX → Prop} {J : Int32 → (Nat → Int32) → (Nat → Int32) → (Nat → Int32) → (Nat → Int32) → (Nat → Int32) → (Nat → Int32) → Prop} {r u : Nat} {B0 R : Nat → Nat} (hr : r ≤ 10) (hu : u < 8) (hW : ∀ j, W j ≤ 99) (hR : R u < 100000) (h0 : ∀ j, B0 j ≤ 100000) (K : ∀ B, tx_wI W R B0 r u 8 B → J (nI (u + 1)) (tr_f C) (tr_f S) (tr_f M) (tr_f W) (tr_f B) (tr_f R)) : ∀ n, 8 < n → wX_walkOn_24 post J (nI r) (nI u) fT fb fr n 0 (tr_f C) (tr_f S) (tr_f M) (tr_f W) (tr_f B0) (tr_f R) := by
  intro n hn
  refine loop_i (σ := Nat → Nat) (fun n i B => wX_walkOn_24 post J (nI r) (nI u) fT fb fr n (nI i) (tr_f C) (tr_f S) (tr_f M) (tr_f W) (tr_f B) (tr_f R)) (tx_wI W R B0 r u) 8 ?_ ?_ n 0 B0 (by omega) (by omega) (tx_wI0 h0)
  · intro n B h
    exact br_t (nI_le (a := 8) (b := 8) (Nat.le_refl 8) (by decide)) (nm_r (nI_1 u) (K B h))
  · intro n i B hi h K'
    have b1 := hW (8 * u + i)
    have b2 := h.1 (8 * r + i)
    refine br_f (nI_ge (a := i) (b := 8) hi (by decide)) ?_
    simp (disch := omega) only [forall_eq, tr_m8, tr_m5, tr_8m, tr_5m, tr_p8, tr_p5, nI_add, nI_1, tr_ap, nI_clamp, tr_upd, vp_in_nI, nI_leI, nI_ltI, nI_eq, tr_8le, tr_88le, tr_Nle, tr_ltN, tr_eqN, tr_eq0, tr_eq5, tr_eq10, tr_le0, tr_lt0, tr_10lt, tr_lt10, tr_le10, tr_lt5, tr_le99, tr_le999, tr_999lt, tr_s1, tr_s8, Nat.add_sub_cancel, true_and, not_false_eq_true, forall_const, false_implies, implies_true, and_true]
    exact ⟨fun z => K' _ (tx_wIk h (Or.inl z)), fun z => ⟨fun y => K' _ (tx_wIs h hi z y), fun y => K' _ (tx_wIk h (Or.inr (Nat.not_lt.mp y)))⟩⟩
theorem tx_w2 {post : SX → Prop} {r : Nat} {B0 R : Nat → Nat} (hr : r ≤ 10) (hW : ∀ j, W j ≤ 99) (hR : ∀ j, R j ≤ 100000) (h0 : ∀ j, B0 j ≤ 100000) (K : ∀ B, tx_wO W R B0 r 8 B → post (fT, fb, fr, tr_f C, tr_f S, tr_f M, tr_f W, tr_f B, tr_f R)) : ∀ n, 8 < n → wX_walkOn_2 post (nI r) fT fb fr n 0 (tr_f C) (tr_f S) (tr_f M) (tr_f W) (tr_f B0) (tr_f R) := by
  intro n hn
  refine loop_i (σ := Nat → Nat) (fun n i B => wX_walkOn_2 post (nI r) fT fb fr n (nI i) (tr_f C) (tr_f S) (tr_f M) (tr_f W) (tr_f B) (tr_f R)) (tx_wO W R B0 r) 8 ?_ ?_ n 0 B0 (by omega) (by omega) (tx_wO0 h0)
  · intro n B h
    exact br_t (nI_le (a := 8) (b := 8) (Nat.le_refl 8) (by decide)) (K B h)
  · intro n u B hu h K'
    have b1 := hR u
    refine br_f (nI_ge (a := u) (b := 8) hu (by decide)) ⟨vp_in_nI hu (by decide), ?_⟩
    rw [nI_clamp (show u < 2 ^ 31 by omega), tr_ap]
    refine br_c (fun z => ⟨9, ?_⟩) (fun z => ?_)
    · rw [tr_ltN (by omega)] at z
      exact tx_w24 hr hu hW z h.1 (fun B' g => K' B' (tx_wOs h z g)) 9 (by omega)
    · rw [tr_ltN (by omega)] at z
      exact nm_r (nI_1 u) (K' B (tx_wOk h z))
theorem tx_walkOn {post : SX → Prop} {r : Nat} {B0 R : Nat → Nat} (hr : r ≤ 10) (hW : ∀ j, W j ≤ 99) (hR : ∀ j, R j ≤ 100000) (h0 : ∀ j, B0 j ≤ 100000) (K : ∀ B, tx_wO W R B0 r 8 B → post (fT, fb, fr, tr_f C, tr_f S, tr_f M, tr_f W, tr_f B, tr_f R)) : wpX_walkOn post (fT, fb, fr, tr_f C, tr_f S, tr_f M, tr_f W, tr_f B0, tr_f R) (nI r) := ⟨9, tx_w2 hr hW hR h0 K 9 (by omega)⟩
def tx_Q (C S : Nat → Nat) (fb : Int32) (i : Nat) : Prop := ∃ p, p < C i ∧ bt fb (S (5 * i + p)) = true
theorem tx_cab {post : Int32 → Prop} {i : Nat} {B R : Nat → Nat} (hi : i < 10) (hC : ∀ j, C j ≤ 5) (hS : ∀ j, S j ≤ 7) (k1 : tx_Q C S fb i → post 1) (k0 : ¬ tx_Q C S fb i → post 0) : wpX_callsAtBettered post (fT, fb, fr, tr_f C, tr_f S, tr_f M, tr_f W, tr_f B, tr_f R) (nI i) := by
  have c1 := hC i
  refine nm_r (tr_m5 i) ⟨6, ?_⟩
  refine loop_i (σ := Unit) (fun n k _ => wX_callsAtBettered_4 post (nI i) fT fb fr (tr_f C) (tr_f S) (tr_f M) (tr_f W) (tr_f B) (tr_f R) n (nI (5 * i + k))) (fun k _ => ∀ p, p < k → bt fb (S (5 * i + p)) = false) (C i) ?_ ?_ 6 0 () (by omega) (by omega) (fun p hp => absurd hp (Nat.not_lt_zero p))
  · intro n _ h
    try dsimp only
    rw [wX_callsAtBettered_4]
    simp (disch := omega) only [forall_eq, tr_m8, tr_m5, tr_8m, tr_5m, tr_p8, tr_p5, nI_add, nI_1, tr_ap, nI_clamp, tr_upd, vp_in_nI, nI_leI, nI_ltI, nI_eq, tr_8le, tr_88le, tr_Nle, tr_ltN, tr_eqN, tr_eq0, tr_eq5, tr_eq10, tr_le0, tr_lt0, tr_10lt, tr_lt10, tr_le10, tr_lt5, tr_le99, tr_le999, tr_999lt, tr_s1, tr_s8, Nat.add_sub_cancel, true_and, not_false_eq_true, forall_const, false_implies, implies_true, and_true]
    refine ⟨fun _ => k0 ?_, fun z => absurd (Nat.le_refl _) z⟩
    rintro ⟨p, hp, e⟩
    rw [h p hp] at e
    exact absurd e (by decide)
  · intro n k _ hk h K'
    have s1 := hS (5 * i + k)
    try dsimp only
    rw [wX_callsAtBettered_4]
    simp (disch := omega) only [forall_eq, tr_m8, tr_m5, tr_8m, tr_5m, tr_p8, tr_p5, nI_add, nI_1, tr_ap, nI_clamp, tr_upd, vp_in_nI, nI_leI, nI_ltI, nI_eq, tr_8le, tr_88le, tr_Nle, tr_ltN, tr_eqN, tr_eq0, tr_eq5, tr_eq10, tr_le0, tr_lt0, tr_10lt, tr_lt10, tr_le10, tr_lt5, tr_le99, tr_le999, tr_999lt, tr_s1, tr_s8, Nat.add_sub_cancel, true_and, not_false_eq_true, forall_const, false_implies, implies_true, and_true, tr_bit]
    refine ⟨fun z => by omega, fun _ => ⟨fun z => K' () ?_, fun z => k1 ⟨k, hk, by simpa using z⟩⟩⟩
    intro p hp
    by_cases q : p = k
    · subst q; exact z
    · exact h p (by omega)
end
end
section
/-! X: ride, finishRound -/
/-- what riding trip i to its call n gives -/
def tx_rk (C S M : Nat → Nat) (H : Nat → Nat) (i n s x : Nat) : Prop := ∃ p c, p < c ∧ c < n ∧ H (S (5 * i + p)) ≤ M (5 * i + p) ∧ S (5 * i + c) = s ∧ M (5 * i + c) ≤ x
def tx_rI (C S M H R0 : Nat → Nat) (i k : Nat) (q : Nat × (Nat → Nat)) : Prop := ((q.1 = 0 ∧ ∀ p, p < k → ¬ H (S (5 * i + p)) ≤ M (5 * i + p)) ∨ (q.1 = 1 ∧ ∃ p, p < k ∧ H (S (5 * i + p)) ≤ M (5 * i + p))) ∧ (∀ j, q.2 j ≤ 100000) ∧ ∀ s x, (q.2 s ≤ x ↔ R0 s ≤ x ∨ tx_rk C S M H i k s x)
theorem tx_rks {C S M H : Nat → Nat} {i n s x : Nat} : tx_rk C S M H i (n + 1) s x ↔ tx_rk C S M H i n s x ∨ ((∃ p, p < n ∧ H (S (5 * i + p)) ≤ M (5 * i + p)) ∧ S (5 * i + n) = s ∧ M (5 * i + n) ≤ x) := by
  constructor
  · rintro ⟨p, c, h1, h2, h3, h4, h5⟩
    by_cases q : c = n
    · subst q; exact Or.inr ⟨⟨p, h1, h3⟩, h4, h5⟩
    · exact Or.inl ⟨p, c, h1, by omega, h3, h4, h5⟩
  · rintro (⟨p, c, h1, h2, h3, h4, h5⟩ | ⟨⟨p, h1, h3⟩, h4, h5⟩)
    · exact ⟨p, c, h1, by omega, h3, h4, h5⟩
    · exact ⟨p, n, h1, by omega, h3, h4, h5⟩
/-- one call: R' is R with the call's time at its stop, if aboard -/
theorem tx_rIs {C S M H R0 R R' : Nat → Nat} {i k ab : Nat} (h : tx_rI C S M H R0 i k (ab, R)) (hb : ∀ j, R' j ≤ 100000) (h0 : ab = 0 → R' = R) (h1 : ¬ ab = 0 → ∀ s x, R' s ≤ x ↔ R s ≤ x ∨ (S (5 * i + k) = s ∧ M (5 * i + k) ≤ x)) : (M (5 * i + k) < H (S (5 * i + k)) → tx_rI C S M H R0 i (k + 1) (ab, R')) ∧ (¬ M (5 * i + k) < H (S (5 * i + k)) → tx_rI C S M H R0 i (k + 1) (1, R')) := by
  obtain ⟨hab, hR, hc⟩ := h
  dsimp only at hab hR hc
  have e : ∀ s x, (R' s ≤ x ↔ R0 s ≤ x ∨ tx_rk C S M H i (k + 1) s x) := by
    intro s x
    rw [tx_rks]
    rcases hab with ⟨z, g⟩ | ⟨z, g⟩
    · rw [h0 z, hc s x]
      constructor
      · rintro (k | k)
        · exact Or.inl k
        · exact Or.inr (Or.inl k)
      · rintro (k | k | ⟨⟨p, hp, k⟩, _⟩)
        · exact Or.inl k
        · exact Or.inr k
        · exact absurd k (g p hp)
    · rw [h1 (by omega) s x, hc s x]
      constructor
      · rintro ((k | k) | k)
        · exact Or.inl k
        · exact Or.inr (Or.inl k)
        · exact Or.inr (Or.inr ⟨g, k⟩)
      · rintro (k | k | k)
        · exact Or.inl (Or.inl k)
        · exact Or.inl (Or.inr k)
        · exact Or.inr k.2
  constructor
  · intro z
    refine ⟨?_, hb, e⟩
    rcases hab with ⟨y, g⟩ | ⟨y, p, hp, g⟩
    · refine Or.inl ⟨y, fun p hp => ?_⟩
      by_cases q : p = k
      · subst q; omega
      · exact g p (by omega)
    · exact Or.inr ⟨y, p, by omega, g⟩
  · intro z
    exact ⟨Or.inr ⟨rfl, k, by omega, by omega⟩, hb, e⟩
section
variable {T : Nat} {C S M W : Nat → Nat} {fT fb fr : Int32}
theorem tx_r61 {post : SX → Prop} {J : Int32 → Int32 → (Nat → Int32) → (Nat → Int32) → (Nat → Int32) → (Nat → Int32) → (Nat → Int32) → (Nat → Int32) → Prop} {i r ab c s : Nat} {B R : Nat → Nat} (hr : r < 10) (hs : s < 8) (hc : c < 50) (hM : ∀ j, M j ≤ 999) (hB : ∀ j, B j ≤ 100000) (k1 : M c < B (8 * r + s) → J (nI ab) (nI (c + 1)) (tr_f C) (tr_f S) (tr_f M) (tr_f W) (tr_f B) (tr_f R)) (k2 : ¬ M c < B (8 * r + s) → J (nI 1) (nI (c + 1)) (tr_f C) (tr_f S) (tr_f M) (tr_f W) (tr_f B) (tr_f R)) : wX_ride_61 post J (nI i) (nI ab) (nI c) (nI s) fT fb (nI (r + 1)) (tr_f C) (tr_f S) (tr_f M) (tr_f W) (tr_f B) (tr_f R) := by
  have b1 := hM c
  have b2 := hB (8 * r + s)
  unfold wX_ride_61
  simp (disch := omega) only [forall_eq, tr_m8, tr_m5, tr_8m, tr_5m, tr_p8, tr_p5, nI_add, nI_1, tr_ap, nI_clamp, tr_upd, vp_in_nI, nI_leI, nI_ltI, nI_eq, tr_8le, tr_88le, tr_Nle, tr_ltN, tr_eqN, tr_eq0, tr_eq5, tr_eq10, tr_le0, tr_lt0, tr_10lt, tr_lt10, tr_le10, tr_lt5, tr_le99, tr_le999, tr_999lt, tr_s1, tr_s8, Nat.add_sub_cancel, true_and, not_false_eq_true, forall_const, false_implies, implies_true, and_true]
  exact ⟨k1, k2⟩
theorem tx_ride {post : SX → Prop} {i r : Nat} {B R0 : Nat → Nat} (hi : i < 10) (hr : r < 10) (hC : ∀ j, C j ≤ 5) (hS : ∀ j, S j ≤ 7) (hM : ∀ j, M j ≤ 999) (hB : ∀ j, B j ≤ 100000) (hR : ∀ j, R0 j ≤ 100000) (K : ∀ R, (∀ j, R j ≤ 100000) → (∀ s x, R s ≤ x ↔ R0 s ≤ x ∨ tx_rk C S M (fun s => B (8 * r + s)) i (C i) s x) → post (fT, fb, nI (r + 1), tr_f C, tr_f S, tr_f M, tr_f W, tr_f B, tr_f R)) : wpX_ride post (fT, fb, nI (r + 1), tr_f C, tr_f S, tr_f M, tr_f W, tr_f B, tr_f R0) (nI i) := by
  have c1 := hC i
  refine nm_r (tr_m5 i) ⟨6, ?_⟩
  refine loop_i (σ := Nat × (Nat → Nat)) (fun n k q => wX_ride_6 post (nI i) fT fb (nI (r + 1)) n (nI q.1) (nI (5 * i + k)) (tr_f C) (tr_f S) (tr_f M) (tr_f W) (tr_f B) (tr_f (q.2))) (tx_rI C S M (fun s => B (8 * r + s)) R0 i) (C i) ?_ ?_ 6 0 (0, R0) (by omega) (by omega) ?_
  · rintro n ⟨ab, R⟩ h
    try dsimp only
    rw [wX_ride_6]
    simp (disch := omega) only [forall_eq, tr_m8, tr_m5, tr_8m, tr_5m, tr_p8, tr_p5, nI_add, nI_1, tr_ap, nI_clamp, tr_upd, vp_in_nI, nI_leI, nI_ltI, nI_eq, tr_8le, tr_88le, tr_Nle, tr_ltN, tr_eqN, tr_eq0, tr_eq5, tr_eq10, tr_le0, tr_lt0, tr_10lt, tr_lt10, tr_le10, tr_lt5, tr_le99, tr_le999, tr_999lt, tr_s1, tr_s8, Nat.add_sub_cancel, true_and, not_false_eq_true, forall_const, false_implies, implies_true, and_true]
    exact ⟨fun _ => K R h.2.1 h.2.2, fun z => absurd (Nat.le_refl _) z⟩
  · rintro n k ⟨ab, R⟩ hk h K'
    have s1 := hS (5 * i + k)
    have m1 := hM (5 * i + k)
    have r1 := h.2.1 (S (5 * i + k))
    dsimp only at r1
    have a1 : ab ≤ 1 := by rcases h.1 with z | z <;> (have := z.1; dsimp only at this; omega)
    try dsimp only
    rw [wX_ride_6]
    simp (disch := omega) only [forall_eq, tr_m8, tr_m5, tr_8m, tr_5m, tr_p8, tr_p5, nI_add, nI_1, tr_ap, nI_clamp, tr_upd, vp_in_nI, nI_leI, nI_ltI, nI_eq, tr_8le, tr_88le, tr_Nle, tr_ltN, tr_eqN, tr_eq0, tr_eq5, tr_eq10, tr_le0, tr_lt0, tr_10lt, tr_lt10, tr_le10, tr_lt5, tr_le99, tr_le999, tr_999lt, tr_s1, tr_s8, Nat.add_sub_cancel, true_and, not_false_eq_true, forall_const, false_implies, implies_true, and_true]
    refine ⟨fun z => by omega, fun _ => ⟨fun z => ?_, fun z => ⟨fun y => ?_, fun y => ?_⟩⟩⟩
    · have g := tx_rIs (R' := R) h h.2.1 (fun _ => rfl) (fun q => absurd z q)
      exact tx_r61 hr (by omega) (by omega) hM hB (fun q => K' (ab, R) (g.1 q)) (fun q => K' (1, R) (g.2 q))
    · have g := tx_rIs (R' := R) h h.2.1 (fun q => absurd q z) (fun q s x => ⟨Or.inl, by
        rintro (w | ⟨w1, w2⟩)
        · exact w
        · subst w1; show R _ ≤ x; omega⟩)
      exact tx_r61 hr (by omega) (by omega) hM hB (fun q => K' (ab, R) (g.1 q)) (fun q => K' (1, R) (g.2 q))
    · have g := tx_rIs (R' := tr_u R (S (5 * i + k)) (M (5 * i + k))) h (tr_ub h.2.1 (by omega)) (fun q => absurd q z) (fun q s x => by
        by_cases w : s = S (5 * i + k)
        · subst w; rw [tr_us]; omega
        · rw [tr_un w]
          constructor
          · exact Or.inl
          · rintro (v | ⟨v, _⟩)
            · exact v
            · exact absurd v.symm w)
      exact tx_r61 hr (by omega) (by omega) hM hB (fun q => K' (ab, tr_u R (S (5 * i + k)) (M (5 * i + k))) (g.1 q)) (fun q => K' (1, tr_u R (S (5 * i + k)) (M (5 * i + k))) (g.2 q))
  · refine ⟨Or.inl ⟨rfl, fun p hp => absurd hp (Nat.not_lt_zero p)⟩, hR, fun s x => ⟨Or.inl, ?_⟩⟩
    rintro (w | ⟨p, c, _, w, _⟩)
    · exact w
    · omega
theorem tx_f72 {post : SX → Prop} {r : Nat} {B R : Nat → Nat} (hr : r < 10) (hB : ∀ j, B j ≤ 100000) (K : post (fT, tr_mk (fun s => decide (B (8 * (r + 1) + s) < B (8 * r + s))) 8, nI (r + 1), tr_f C, tr_f S, tr_f M, tr_f W, tr_f B, tr_f R)) : ∃ n, wX_finishRound_72 post fT (nI (r + 1)) (tr_f C) (tr_f S) (tr_f M) (tr_f W) (tr_f B) (tr_f R) n 0 0 := by
  refine loop_0 (σ := Int32) (fun n i m => wX_finishRound_72 post fT (nI (r + 1)) (tr_f C) (tr_f S) (tr_f M) (tr_f W) (tr_f B) (tr_f R) n (nI i) m) (fun i m => m = tr_mk (fun s => decide (B (8 * (r + 1) + s) < B (8 * r + s))) i) 8 0 rfl ?_ ?_
  · intro n m h
    subst h
    exact br_t (nI_le (a := 8) (b := 8) (Nat.le_refl 8) (by decide)) K
  · intro n i m hi h K'
    have b1 := hB (8 * (r + 1) + i)
    have b2 := hB (8 * r + i)
    have e8 : 8 * (r + 1) - 8 + i = 8 * r + i := by omega
    refine br_f (nI_ge (a := i) (b := 8) hi (by decide)) ?_
    simp (disch := omega) only [forall_eq, tr_m8, tr_m5, tr_8m, tr_5m, tr_p8, tr_p5, nI_add, nI_1, tr_ap, nI_clamp, tr_upd, vp_in_nI, nI_leI, nI_ltI, nI_eq, tr_8le, tr_88le, tr_Nle, tr_ltN, tr_eqN, tr_eq0, tr_eq5, tr_eq10, tr_le0, tr_lt0, tr_10lt, tr_lt10, tr_le10, tr_lt5, tr_le99, tr_le999, tr_999lt, tr_s1, tr_s8, Nat.add_sub_cancel, true_and, not_false_eq_true, forall_const, false_implies, implies_true, and_true, e8]
    refine ⟨fun z => K' _ ?_, fun z => K' _ ?_⟩
    · rw [tr_mks, if_neg (by simp; omega)]
      exact h
    · rw [tr_mks, if_pos (by simp; omega), h]
def tx_fI (R B0 : Nat → Nat) (r i : Nat) (B : Nat → Nat) : Prop := (∀ j, B j ≤ 100000) ∧ (∀ j, (j < 8 * r ∨ 8 * r + 8 ≤ j) → B j = B0 j) ∧ ∀ s, s < 8 → ∀ x, (B (8 * r + s) ≤ x ↔ B0 (8 * r + s) ≤ x ∨ (s < i ∧ R s ≤ x))
def tx_fO (W R B0 : Nat → Nat) (r : Nat) (B : Nat → Nat) : Prop := (∀ j, B j ≤ 100000) ∧ (∀ j, (j < 8 * r ∨ 8 * r + 8 ≤ j) → B j = B0 j) ∧ ∀ s, s < 8 → ∀ x, (B (8 * r + s) ≤ x ↔ B0 (8 * r + s) ≤ x ∨ (R s ≤ x ∨ ∃ u, u < 8 ∧ R u < 100000 ∧ 0 < W (8 * u + s) ∧ R u + W (8 * u + s) ≤ x))
theorem tx_finish {post : SX → Prop} {r : Nat} {B0 R : Nat → Nat} (hr : r < 10) (hW : ∀ j, W j ≤ 99) (hB : ∀ j, B0 j ≤ 100000) (hR : ∀ j, R j ≤ 100000) (K : ∀ B, tx_fO W R B0 (r + 1) B → post (fT, tr_mk (fun s => decide (B (8 * (r + 1) + s) < B (8 * r + s))) 8, nI (r + 1), tr_f C, tr_f S, tr_f M, tr_f W, tr_f B, tr_f R)) : wpX_finishRound post (fT, fb, nI (r + 1), tr_f C, tr_f S, tr_f M, tr_f W, tr_f B0, tr_f R) := by
  refine loop_0 (σ := Nat → Nat) (fun n i B => wX_finishRound_2 post fT fb (nI (r + 1)) n (nI i) (tr_f C) (tr_f S) (tr_f M) (tr_f W) (tr_f B) (tr_f R)) (tx_fI R B0 (r + 1)) 8 B0 ?_ ?_ ?_
  · refine ⟨hB, fun _ _ => rfl, fun s _ x => ⟨Or.inl, ?_⟩⟩
    rintro (z | z)
    · exact z
    · omega
  · intro n B h
    refine br_t (nI_le (a := 8) (b := 8) (Nat.le_refl 8) (by decide)) ?_
    refine tx_walkOn (by omega) hW hR h.1 ?_
    intro B' g
    refine tx_f72 hr g.1 (K B' ⟨g.1, fun j hj => (g.2.1 j hj).trans (h.2.1 j hj), fun s hs x => ?_⟩)
    rw [g.2.2 s hs x, h.2.2 s hs x]
    constructor
    · rintro ((k | ⟨_, k⟩) | k)
      · exact Or.inl k
      · exact Or.inr (Or.inl k)
      · exact Or.inr (Or.inr k)
    · rintro (k | k | k)
      · exact Or.inl (Or.inl k)
      · exact Or.inl (Or.inr ⟨hs, k⟩)
      · exact Or.inr k
  · intro n i B hi h K'
    have b1 := h.1 (8 * (r + 1) + i)
    have b2 := hR i
    refine br_f (nI_ge (a := i) (b := 8) hi (by decide)) ?_
    simp (disch := omega) only [forall_eq, tr_m8, tr_m5, tr_8m, tr_5m, tr_p8, tr_p5, nI_add, nI_1, tr_ap, nI_clamp, tr_upd, vp_in_nI, nI_leI, nI_ltI, nI_eq, tr_8le, tr_88le, tr_Nle, tr_ltN, tr_eqN, tr_eq0, tr_eq5, tr_eq10, tr_le0, tr_lt0, tr_10lt, tr_lt10, tr_le10, tr_lt5, tr_le99, tr_le999, tr_999lt, tr_s1, tr_s8, Nat.add_sub_cancel, true_and, not_false_eq_true, forall_const, false_implies, implies_true, and_true]
    refine ⟨fun z => K' _ ⟨h.1, h.2.1, fun s hs x => ?_⟩, fun z => K' _ ⟨tr_ub h.1 b2, fun j hj => ?_, fun s hs x => ?_⟩⟩
    · have e := h.2.2 s hs x
      by_cases q : s = i
      · subst q; omega
      · omega
    · rw [tr_un (by omega)]
      exact h.2.1 j hj
    · have e := h.2.2 s hs x
      by_cases q : s = i
      · subst q; rw [tr_us]; omega
      · rw [tr_un (by omega)]; omega
end
end
section
/-! X: search -/
/-- between two rounds -/
def tx_SI (T : Nat) (C S M W : Nat → Nat) (a t r : Nat) (fb : Int32) (B : Nat → Nat) : Prop := (∀ j, B j ≤ 100000) ∧ (∀ q, q ≤ r → ∀ s, s < 8 → ∀ x, (B (8 * q + s) ≤ x ↔ 100000 ≤ x ∨ tp_at T C S M W a t (q + 1) s x)) ∧ (∀ s, s < 8 → bt fb s = false → ∀ x, x < 100000 → tp_at T C S M W a t (r + 1) s x → tp_at T C S M W a t r s x)
/-- behind the last round -/
def tx_SF (T : Nat) (C S M W : Nat → Nat) (a t rides r : Nat) (B : Nat → Nat) : Prop := r ≤ rides ∧ (∀ j, B j ≤ 100000) ∧ (∀ q, q ≤ r → ∀ s, s < 8 → ∀ x, (B (8 * q + s) ≤ x ↔ 100000 ≤ x ∨ tp_at T C S M W a t (q + 1) s x)) ∧ (∀ k s x, k ≤ rides + 1 → tp_at T C S M W a t k s x → tp_at T C S M W a t (r + 1) s x)
section
variable {T : Nat} {C S M W : Nat → Nat} {fT fb fr : Int32} {a t : Nat}
/-- the marks behind a row -/
theorem tx_mark {r : Nat} {B : Nat → Nat} {p : Nat → Bool} (h : ∀ s, s < 8 → p s = false → ∀ x, x < 100000 → tp_at T C S M W a t (r + 1) s x → tp_at T C S M W a t r s x) : ∀ s, s < 8 → bt (tr_mk p 8) s = false → ∀ x, x < 100000 → tp_at T C S M W a t (r + 1) s x → tp_at T C S M W a t r s x := by
  intro s hs hb
  rw [tr_bm p 8 (by omega) s (by omega), decide_eq_true hs, Bool.true_and] at hb
  exact h s hs hb
/-- one round, purely -/
theorem tx_round (H : tp_ok T C S M W) {r : Nat} {B0 B1 B2 R : Nat → Nat} (h : tx_SI T C S M W a t r fb B0) (hk : ∀ j, j < 8 * r + 8 → B1 j = B0 j) (hc : ∀ s, s < 8 → B1 (8 * r + 8 + s) = B0 (8 * r + s)) (hR : ∀ s, s < 8 → ∀ x, (R s ≤ x ↔ 100000 ≤ x ∨ tp_rd T C S M (tx_Q C S fb) (fun s x => B1 (8 * r + s) ≤ x) s x)) (g : tx_fO W R B1 (r + 1) B2) : tx_SI T C S M W a t (r + 1) (tr_mk (fun s => decide (B2 (8 * (r + 1) + s) < B2 (8 * r + s))) 8) B2 := by
  obtain ⟨hT, hC, hS, hM, hW, hC1, hso⟩ := id H
  have hrow : ∀ q, q ≤ r → ∀ s, s < 8 → ∀ x, (B2 (8 * q + s) ≤ x ↔ 100000 ≤ x ∨ tp_at T C S M W a t (q + 1) s x) := by
    intro q hq s hs x
    rw [g.2.1 _ (by omega), hk _ (by omega)]
    exact h.2.1 q hq s hs x
  have hR2 : ∀ u, u < 8 → ∀ y, (R u ≤ y ↔ 100000 ≤ y ∨ tp_rd T C S M (tx_Q C S fb) (tp_at T C S M W a t (r + 1)) u y) := by
    intro u hu y
    rw [hR u hu y]
    have e : ∀ s x, s ≤ 7 → x ≤ 999 → (B1 (8 * r + s) ≤ x ↔ tp_at T C S M W a t (r + 1) s x) := by
      intro s x hs hx
      rw [hk _ (by omega), h.2.1 r (Nat.le_refl r) s (by omega) x]
      constructor
      · rintro (z | z)
        · omega
        · exact z
      · exact Or.inr
    constructor
    · rintro (z | z)
      · exact Or.inl z
      · exact Or.inr (tp_rd_m hS hM (fun _ z => z) (fun s x hs hx z => (e s x hs hx).mp z) _ _ z)
    · rintro (z | z)
      · exact Or.inl z
      · exact Or.inr (tp_rd_m hS hM (fun _ z => z) (fun s x hs hx z => (e s x hs hx).mpr z) _ _ z)
  have hnew : ∀ s, s < 8 → ∀ x, (B2 (8 * (r + 1) + s) ≤ x ↔ 100000 ≤ x ∨ tp_at T C S M W a t (r + 2) s x) := by
    intro s hs x
    have hQ : ∀ i, i < T → ¬ tx_Q C S fb i → ∀ p, p < C i → ∀ x, x < 100000 → tp_at T C S M W a t (r + 1) (S (5 * i + p)) x → tp_at T C S M W a t r (S (5 * i + p)) x := by
      intro i hi hq p hp x hx z
      have s1 := hS (5 * i + p)
      refine h.2.2 (S (5 * i + p)) (by omega) ?_ x hx z
      cases e : bt fb (S (5 * i + p)) with
      | false => rfl
      | true => exact absurd ⟨p, hp, e⟩ hq
    rw [g.2.2 s hs x, tp_num hR2 hs, show 8 * (r + 1) + s = 8 * r + 8 + s from by omega, hc s hs, h.2.1 r (Nat.le_refl r) s hs x, tp_skip hM hQ]
    constructor
    · rintro ((z | z) | (z | z))
      · exact Or.inl z
      · exact Or.inr (Or.inl z)
      · exact Or.inl z
      · exact Or.inr (Or.inr z)
    · rintro (z | (z | z))
      · exact Or.inl (Or.inl z)
      · exact Or.inl (Or.inr z)
      · exact Or.inr (Or.inr z)
  refine ⟨g.1, ?_, ?_⟩
  · intro q hq s hs x
    by_cases e : q = r + 1
    · subst e; exact hnew s hs x
    · exact hrow q (by omega) s hs x
  · apply tx_mark (B := B2)
    intro s hs hp x hx z
    have e1 := (hnew s hs x).mpr (Or.inr z)
    have e2 : ¬ B2 (8 * (r + 1) + s) < B2 (8 * r + s) := by simpa using hp
    rcases (hrow r (Nat.le_refl r) s hs x).mp (by omega) with k | k
    · omega
    · exact k
theorem tx_190 (H : tp_ok T C S M W) {post : SX → Prop} {J : Int32 → Int32 → Int32 → (Nat → Int32) → (Nat → Int32) → (Nat → Int32) → (Nat → Int32) → (Nat → Int32) → (Nat → Int32) → Prop} {rides : Int32} {r : Nat} {B R0 : Nat → Nat} (hr : r < 10) (hB : ∀ j, B j ≤ 100000) (hR0 : ∀ j, R0 j ≤ 100000) (hN : ∀ s, s < 8 → R0 s = 100000) (K : ∀ R B2, (∀ j, R j ≤ 100000) → (∀ s, s < 8 → ∀ x, (R s ≤ x ↔ 100000 ≤ x ∨ tp_rd T C S M (tx_Q C S fb) (fun s x => B (8 * r + s) ≤ x) s x)) → tx_fO W R B (r + 1) B2 → J (nI T) (tr_mk (fun s => decide (B2 (8 * (r + 1) + s) < B2 (8 * r + s))) 8) (nI (r + 1)) (tr_f C) (tr_f S) (tr_f M) (tr_f W) (tr_f B2) (tr_f R)) : ∃ n, wX_search_190 post J rides n 0 (nI T) fb (nI (r + 1)) (tr_f C) (tr_f S) (tr_f M) (tr_f W) (tr_f B) (tr_f R0) := by
  obtain ⟨hT, hC, hS, hM, hW, hC1, hso⟩ := id H
  refine loop_0 (σ := Nat → Nat) (fun n i R => wX_search_190 post J rides n (nI i) (nI T) fb (nI (r + 1)) (tr_f C) (tr_f S) (tr_f M) (tr_f W) (tr_f B) (tr_f R)) (fun i R => (∀ j, R j ≤ 100000) ∧ ∀ s, s < 8 → ∀ x, (R s ≤ x ↔ 100000 ≤ x ∨ tp_rd i C S M (tx_Q C S fb) (fun s x => B (8 * r + s) ≤ x) s x)) T R0 ?_ ?_ ?_
  · refine ⟨hR0, fun s hs x => ?_⟩
    rw [hN s hs]
    constructor
    · exact Or.inl
    · rintro (z | ⟨i, _, _, hi, _⟩)
      · exact z
      · omega
  · intro n R h
    refine br_t (nI_le (Nat.le_refl T) (by omega)) ?_
    exact tx_finish hr hW hB h.1 (fun B2 g => K R B2 h.1 h.2 g)
  · intro n i R hi h K'
    refine br_f (nI_ge hi (by omega)) ?_
    refine tx_cab (by omega) hC hS ?_ ?_
    · intro hq
      refine br_f (by decide) ?_
      refine tx_ride (by omega) hr hC hS hM hB h.1 ?_
      intro R' h1 h2
      refine nm_r (nI_1 i) (K' R' ⟨h1, fun s hs x => ?_⟩)
      rw [h2 s x, h.2 s hs x]
      constructor
      · rintro ((z | ⟨i', p, c, g⟩) | ⟨p, c, g1, g2, g3⟩)
        · exact Or.inl z
        · exact Or.inr ⟨i', p, c, by omega, g.2⟩
        · exact Or.inr ⟨i, p, c, by omega, hq, g1, g2, g3⟩
      · rintro (z | ⟨i', p, c, g1, g2, g3, g4, g5⟩)
        · exact Or.inl (Or.inl z)
        · by_cases e : i' = i
          · subst e; exact Or.inr ⟨p, c, g3, g4, g5⟩
          · exact Or.inl (Or.inr ⟨i', p, c, by omega, g2, g3, g4, g5⟩)
    · intro hq
      refine br_t rfl ?_
      refine nm_r (nI_1 i) (K' R ⟨h.1, fun s hs x => ?_⟩)
      rw [h.2 s hs x]
      constructor
      · rintro (z | ⟨i', p, c, g⟩)
        · exact Or.inl z
        · exact Or.inr ⟨i', p, c, by omega, g.2⟩
      · rintro (z | ⟨i', p, c, g1, g2, g3⟩)
        · exact Or.inl z
        · by_cases e : i' = i
          · subst e; exact absurd g2 hq
          · exact Or.inr ⟨i', p, c, by omega, g2, g3⟩
theorem tx_122 (H : tp_ok T C S M W) {post : SX → Prop} {J : Int32 → Int32 → Int32 → (Nat → Int32) → (Nat → Int32) → (Nat → Int32) → (Nat → Int32) → (Nat → Int32) → (Nat → Int32) → Prop} {rides : Int32} {r : Nat} {B0 R0 : Nat → Nat} (hr : r < 10) (h : tx_SI T C S M W a t r fb B0) (hR0 : ∀ j, R0 j ≤ 100000) (K : ∀ fb' R B2, (∀ j, R j ≤ 100000) → tx_SI T C S M W a t (r + 1) fb' B2 → J (nI T) fb' (nI (r + 1)) (tr_f C) (tr_f S) (tr_f M) (tr_f W) (tr_f B2) (tr_f R)) : ∃ n, wX_search_122 post J rides (nI T) fb (nI r) n 0 (tr_f C) (tr_f S) (tr_f M) (tr_f W) (tr_f B0) (tr_f R0) := by
  refine loop_0 (σ := (Nat → Nat) × (Nat → Nat)) (fun n i q => wX_search_122 post J rides (nI T) fb (nI r) n (nI i) (tr_f C) (tr_f S) (tr_f M) (tr_f W) (tr_f (q.1)) (tr_f (q.2))) (fun i q => (∀ j, q.1 j ≤ 100000) ∧ (∀ j, q.2 j ≤ 100000) ∧ (∀ j, j < 8 * r + 8 → q.1 j = B0 j) ∧ (∀ s, s < i → q.1 (8 * r + 8 + s) = B0 (8 * r + s)) ∧ (∀ s, s < i → q.2 s = 100000)) 8 (B0, R0) ?_ ?_ ?_
  · exact ⟨h.1, hR0, fun _ _ => rfl, fun s hs => absurd hs (Nat.not_lt_zero s), fun s hs => absurd hs (Nat.not_lt_zero s)⟩
  · rintro n ⟨B, R⟩ ⟨g1, g2, g3, g4, g5⟩
    dsimp only at g1 g2 g3 g4 g5
    refine br_t (nI_le (a := 8) (b := 8) (Nat.le_refl 8) (by decide)) (nm_r (nI_1 r) ?_)
    exact tx_190 H hr g1 g2 g5 (fun R' B2 k1 k2 k3 => K _ R' B2 k1 (tx_round H h g3 g4 k2 k3))
  · rintro n i ⟨B, R⟩ hi ⟨g1, g2, g3, g4, g5⟩ K'
    dsimp only at g1 g2 g3 g4 g5
    refine br_f (nI_ge (a := i) (b := 8) hi (by decide)) ?_
    have eN : ∀ k, upd (tr_f R) k 100000 = tr_f (tr_u R k 100000) := fun k => tr_upd R k 100000
    simp (disch := omega) only [forall_eq, tr_m8, tr_m5, tr_8m, tr_5m, tr_p8, tr_p5, nI_add, nI_1, tr_ap, nI_clamp, tr_upd, vp_in_nI, nI_leI, nI_ltI, nI_eq, tr_8le, tr_88le, tr_Nle, tr_ltN, tr_eqN, tr_eq0, tr_eq5, tr_eq10, tr_le0, tr_lt0, tr_10lt, tr_lt10, tr_le10, tr_lt5, tr_le99, tr_le999, tr_999lt, tr_s1, tr_s8, Nat.add_sub_cancel, true_and, not_false_eq_true, forall_const, false_implies, implies_true, and_true, eN]
    refine K' (tr_u B (8 * r + 8 + i) (B (8 * r + i)), tr_u R i 100000) ⟨tr_ub g1 (g1 _), tr_ub g2 (Nat.le_refl _), fun j hj => ?_, fun s hs => ?_, fun s hs => ?_⟩
    · dsimp only
      rw [tr_un (by omega)]
      exact g3 j hj
    · dsimp only
      by_cases e : s = i
      · subst e
        rw [tr_us]
        exact g3 _ (by omega)
      · rw [tr_un (by omega)]
        exact g4 s (by omega)
    · dsimp only
      by_cases e : s = i
      · subst e
        rw [tr_us]
      · rw [tr_un (by omega)]
        exact g5 s (by omega)
theorem tx_104 (H : tp_ok T C S M W) {post : SX → Prop} {rides : Nat} (hrd : rides ≤ 10) (K : ∀ fb r B R, (∀ j, R j ≤ 100000) → tx_SF T C S M W a t rides r B → post (nI T, fb, nI r, tr_f C, tr_f S, tr_f M, tr_f W, tr_f B, tr_f R)) : ∀ d r fb B R, r + d = rides → (∀ j, R j ≤ 100000) → tx_SI T C S M W a t r fb B → wX_search_104 post (nI rides) (d + 1) (nI T) fb (nI r) (tr_f C) (tr_f S) (tr_f M) (tr_f W) (tr_f B) (tr_f R) := by
  obtain ⟨hT, hC, hS, hM, hW, hC1, hso⟩ := id H
  intro d
  induction d with
  | zero =>
    intro r fb B R hd hR h
    have e : r = rides := by omega
    subst e
    refine br_t (nI_le (Nat.le_refl r) (by omega)) (K fb r B R hR ⟨Nat.le_refl r, h.1, h.2.1, fun k s x hk z => tp_at_m hk z⟩)
  | succ d ih =>
    intro r fb B R hd hR h
    refine br_f (nI_ge (by omega) (by omega)) (br_c (fun z => ?_) (fun z => ?_))
    · refine K fb r B R hR ⟨by omega, h.1, h.2.1, fun k s x _ g => ?_⟩
      refine tp_stop hS hM (fun s hs x hx y => h.2.2 s hs ?_ x hx y) k s x g
      rw [z, b_0]
    · exact tx_122 H (by omega) h hR (fun fb' R' B2 k1 k2 => ih (r + 1) fb' B2 R' (by omega) k1 k2)
theorem tx_66 (H : tp_ok T C S M W) {post : SX → Prop} {rides : Nat} (hrd : rides ≤ 10) {B R : Nat → Nat} (hB : ∀ j, B j ≤ 100000) (hR : ∀ j, R j ≤ 100000) (hrow : ∀ s, s < 8 → ∀ x, (B s ≤ x ↔ 100000 ≤ x ∨ tp_at T C S M W a t 1 s x)) (K : ∀ fb r B R, (∀ j, R j ≤ 100000) → tx_SF T C S M W a t rides r B → post (nI T, fb, nI r, tr_f C, tr_f S, tr_f M, tr_f W, tr_f B, tr_f R)) : ∃ n, wX_search_66 post (nI rides) (nI T) 0 (tr_f C) (tr_f S) (tr_f M) (tr_f W) (tr_f B) (tr_f R) n 0 0 := by
  refine loop_0 (σ := Int32) (fun n i m => wX_search_66 post (nI rides) (nI T) 0 (tr_f C) (tr_f S) (tr_f M) (tr_f W) (tr_f B) (tr_f R) n (nI i) m) (fun i m => m = tr_mk (fun s => decide (B s < 100000)) i) 8 0 rfl ?_ ?_
  · intro n m h
    subst h
    refine br_t (nI_le (a := 8) (b := 8) (Nat.le_refl 8) (by decide)) ⟨rides + 1, ?_⟩
    refine tx_104 H hrd K rides 0 _ B R (by omega) hR ⟨hB, ?_, ?_⟩
    · intro q hq s hs x
      have e : q = 0 := by omega
      subst e
      rw [show 8 * 0 + s = s from by omega]
      exact hrow s hs x
    · apply tx_mark (B := B)
      intro s hs hp x hx z
      have e1 := (hrow s hs x).mpr (Or.inr z)
      have e2 : ¬ B s < 100000 := by simpa using hp
      omega
  · intro n i m hi h K'
    have b1 := hB i
    refine br_f (nI_ge (a := i) (b := 8) hi (by decide)) ?_
    simp (disch := omega) only [forall_eq, tr_m8, tr_m5, tr_8m, tr_5m, tr_p8, tr_p5, nI_add, nI_1, tr_ap, nI_clamp, tr_upd, vp_in_nI, nI_leI, nI_ltI, nI_eq, tr_8le, tr_88le, tr_Nle, tr_ltN, tr_eqN, tr_eq0, tr_eq5, tr_eq10, tr_le0, tr_lt0, tr_10lt, tr_lt10, tr_le10, tr_lt5, tr_le99, tr_le999, tr_999lt, tr_s1, tr_s8, Nat.add_sub_cancel, true_and, not_false_eq_true, forall_const, false_implies, implies_true, and_true]
    refine ⟨fun z => K' _ ?_, fun z => K' _ ?_⟩
    · rw [tr_mks, if_neg (by simp; omega)]
      exact h
    · rw [tr_mks, if_pos (by simp; omega), h]
theorem tx_search (H : tp_ok T C S M W) {post : SX → Prop} {rides : Nat} {B R : Nat → Nat} (ha : a < 8) (ht : t ≤ 999) (hrd : rides ≤ 10) (hB : ∀ j, B j ≤ 100000) (hR : ∀ j, R j ≤ 100000) (K : ∀ fb r B R, (∀ j, R j ≤ 100000) → tx_SF T C S M W a t rides r B → post (nI T, fb, nI r, tr_f C, tr_f S, tr_f M, tr_f W, tr_f B, tr_f R)) : wpX_search post (nI T, fb, fr, tr_f C, tr_f S, tr_f M, tr_f W, tr_f B, tr_f R) (nI a) (nI t) (nI rides) := by
  obtain ⟨hT, hC, hS, hM, hW, hC1, hso⟩ := id H
  refine loop_0 (σ := (Nat → Nat) × (Nat → Nat)) (fun n i q => wX_search_8 post (nI a) (nI t) (nI rides) (nI T) fb 0 n (nI i) (tr_f C) (tr_f S) (tr_f M) (tr_f W) (tr_f (q.1)) (tr_f (q.2))) (fun i q => (∀ j, q.1 j ≤ 100000) ∧ (∀ j, q.2 j ≤ 100000) ∧ (∀ s, s < i → q.1 s = 100000) ∧ (∀ s, s < i → q.2 s = 100000)) 8 (B, R) ?_ ?_ ?_
  · exact ⟨hB, hR, fun s hs => absurd hs (Nat.not_lt_zero s), fun s hs => absurd hs (Nat.not_lt_zero s)⟩
  · rintro n ⟨B1, R1⟩ ⟨g1, g2, g3, g4⟩
    dsimp only at g1 g2 g3 g4
    refine br_t (nI_le (a := 8) (b := 8) (Nat.le_refl 8) (by decide)) ?_
    try dsimp only
    rw [nI_clamp (show a < 2 ^ 31 by omega)]
    refine ⟨vp_in_nI ha (by decide), nm_r (tr_upd R1 a t) ⟨vp_in_nI (by omega) (by decide), nm_r (tr_upd B1 a t) ?_⟩⟩
    have q1 : ∀ j, tr_u R1 a t j ≤ 100000 := tr_ub g2 (by omega)
    have q2 : ∀ j, tr_u B1 a t j ≤ 100000 := tr_ub g1 (by omega)
    have q3 : ∀ u, u < 8 → ∀ y, (tr_u R1 a t u ≤ y ↔ 100000 ≤ y ∨ (u = a ∧ t ≤ y)) := by
      intro u hu y
      by_cases e : u = a
      · subst e; rw [tr_us]; omega
      · rw [tr_un e, g4 u hu]
        constructor
        · exact Or.inl
        · rintro (z | z)
          · exact z
          · exact absurd z.1 e
    have q4 : ∀ u, u < 8 → tr_u B1 a t u = tr_u R1 a t u := by
      intro u hu
      by_cases e : u = a
      · subst e; rw [tr_us, tr_us]
      · rw [tr_un e, tr_un e, g3 u hu, g4 u hu]
    refine tx_walkOn (r := 0) (by omega) hW q1 q2 ?_
    intro B2 g
    refine tx_66 H hrd g.1 q1 ?_ K
    intro s hs x
    have e := g.2.2 s hs x
    rw [show 8 * 0 + s = s from by omega, q4 s hs] at e
    rw [e, tp_num (P := fun s x => s = a ∧ t ≤ x) q3 hs, tp_at_1]
  · rintro n i ⟨B1, R1⟩ hi ⟨g1, g2, g3, g4⟩ K'
    dsimp only at g1 g2 g3 g4
    refine br_f (nI_ge (a := i) (b := 8) hi (by decide)) ?_
    have eN : ∀ f k, upd (tr_f f) k 100000 = tr_f (tr_u f k 100000) := fun f k => tr_upd f k 100000
    simp (disch := omega) only [forall_eq, tr_m8, tr_m5, tr_8m, tr_5m, tr_p8, tr_p5, nI_add, nI_1, tr_ap, nI_clamp, tr_upd, vp_in_nI, nI_leI, nI_ltI, nI_eq, tr_8le, tr_88le, tr_Nle, tr_ltN, tr_eqN, tr_eq0, tr_eq5, tr_eq10, tr_le0, tr_lt0, tr_10lt, tr_lt10, tr_le10, tr_lt5, tr_le99, tr_le999, tr_999lt, tr_s1, tr_s8, Nat.add_sub_cancel, true_and, not_false_eq_true, forall_const, false_implies, implies_true, and_true, eN]
    refine K' (tr_u B1 i 100000, tr_u R1 i 100000) ⟨tr_ub g1 (Nat.le_refl _), tr_ub g2 (Nat.le_refl _), fun s hs => ?_, fun s hs => ?_⟩
    · dsimp only
      by_cases e : s = i
      · subst e
        rw [tr_us]
      · rw [tr_un (by omega)]
        exact g3 s (by omega)
    · dsimp only
      by_cases e : s = i
      · subst e
        rw [tr_us]
      · rw [tr_un (by omega)]
        exact g4 s (by omega)
end
end
section
/-! Y: walkOn, ride, search, best -/
theorem ty_num {W R : Nat → Nat} {P : Nat → Nat → Prop} (h : ∀ u, u < 8 → ∀ y, R u ≤ y ↔ 100000 ≤ y ∨ P u y) {s x : Nat} (hs : s < 8) : (R s ≤ x ∨ ∃ u, u < 8 ∧ 0 < W (8 * u + s) ∧ R u + W (8 * u + s) ≤ x) ↔ 100000 ≤ x ∨ tp_th W P s x := by
  rw [← tp_num h hs]
  constructor
  · rintro (z | ⟨u, h1, h2, h3⟩)
    · exact Or.inl z
    · by_cases q : R u < 100000
      · exact Or.inr ⟨u, h1, q, h2, h3⟩
      · exact Or.inl ((h s hs x).mpr (Or.inl (by omega)))
  · rintro (z | ⟨u, h1, _, h2, h3⟩)
    · exact Or.inl z
    · exact Or.inr ⟨u, h1, h2, h3⟩
section
variable {T : Nat} {C S M W : Nat → Nat} {fT : Int32}
def ty_wI (W O : Nat → Nat) (r s u b : Nat) : Prop := b ≤ 100000 ∧ ∀ x, (b ≤ x ↔ O (8 * r + s) ≤ x ∨ ∃ v, v < u ∧ 0 < W (8 * v + s) ∧ O (8 * r + v) + W (8 * v + s) ≤ x)
theorem ty_wIk {O : Nat → Nat} {r s u b : Nat} (h : ty_wI W O r s u b) (z : W (8 * u + s) ≤ 0 ∨ b ≤ O (8 * r + u) + W (8 * u + s)) : ty_wI W O r s (u + 1) b := by
  refine ⟨h.1, fun x => ?_⟩
  constructor
  · intro g
    rcases (h.2 x).mp g with k | ⟨v, k1, k2⟩
    · exact Or.inl k
    · exact Or.inr ⟨v, by omega, k2⟩
  · rintro (k | ⟨v, k1, k2, k3⟩)
    · exact (h.2 x).mpr (Or.inl k)
    · by_cases q : v = u
      · subst q; omega
      · exact (h.2 x).mpr (Or.inr ⟨v, by omega, k2, k3⟩)
theorem ty_wIs {O : Nat → Nat} {r s u b : Nat} (h : ty_wI W O r s u b) (z : ¬ W (8 * u + s) ≤ 0) (y : ¬ b ≤ O (8 * r + u) + W (8 * u + s)) : ty_wI W O r s (u + 1) (O (8 * r + u) + W (8 * u + s)) := by
  have h1 := h.1
  refine ⟨by omega, fun x => ?_⟩
  constructor
  · intro g
    exact Or.inr ⟨u, by omega, by omega, g⟩
  · rintro (k | ⟨v, k1, k2, k3⟩)
    · have := (h.2 x).mpr (Or.inl k)
      omega
    · by_cases q : v = u
      · subst q; exact k3
      · have := (h.2 x).mpr (Or.inr ⟨v, by omega, k2, k3⟩)
        omega
theorem ty_w23 {post : SY → Prop} {J : Int32 → (Nat → Int32) → (Nat → Int32) → (Nat → Int32) → (Nat → Int32) → (Nat → Int32) → (Nat → Int32) → Prop} {r s : Nat} {O H : Nat → Nat} (hr : r ≤ 10) (hs : s < 8) (hW : ∀ j, W j ≤ 99) (hO : ∀ j, O j ≤ 100000) (K : ∀ b, ty_wI W O r s 8 b → J (nI (s + 1)) (tr_f C) (tr_f S) (tr_f M) (tr_f W) (tr_f O) (tr_f (tr_u H (8 * r + s) b))) : ∃ n, wY_walkOn_23 post J (nI r) (nI s) fT (tr_f C) (tr_f S) (tr_f M) (tr_f W) (tr_f O) (tr_f H) n (nI (O (8 * r + s))) 0 := by
  refine loop_0 (σ := Nat) (fun n u b => wY_walkOn_23 post J (nI r) (nI s) fT (tr_f C) (tr_f S) (tr_f M) (tr_f W) (tr_f O) (tr_f H) n (nI b) (nI u)) (ty_wI W O r s) 8 (O (8 * r + s)) ?_ ?_ ?_
  · refine ⟨hO _, fun x => ⟨Or.inl, ?_⟩⟩
    rintro (z | ⟨v, hv, _⟩)
    · exact z
    · omega
  · intro n b h
    refine br_t (nI_le (a := 8) (b := 8) (Nat.le_refl 8) (by decide)) ?_
    simp (disch := omega) only [forall_eq, tr_m8, tr_m5, tr_8m, tr_5m, tr_p8, tr_p5, nI_add, nI_1, tr_ap, nI_clamp, tr_upd, vp_in_nI, nI_leI, nI_ltI, nI_eq, tr_8le, tr_88le, tr_Nle, tr_ltN, tr_eqN, tr_eq0, tr_eq5, tr_eq10, tr_le0, tr_lt0, tr_10lt, tr_lt10, tr_le10, tr_lt5, tr_le99, tr_le999, tr_999lt, tr_s1, tr_s8, Nat.add_sub_cancel, true_and, not_false_eq_true, forall_const, false_implies, implies_true, and_true]
    exact K b h
  · intro n u b hu h K'
    have b1 := hW (8 * u + s)
    have b2 := hO (8 * r + u)
    have b3 := h.1
    refine br_f (nI_ge (a := u) (b := 8) hu (by decide)) ?_
    simp (disch := omega) only [forall_eq, tr_m8, tr_m5, tr_8m, tr_5m, tr_p8, tr_p5, nI_add, nI_1, tr_ap, nI_clamp, tr_upd, vp_in_nI, nI_leI, nI_ltI, nI_eq, tr_8le, tr_88le, tr_Nle, tr_ltN, tr_eqN, tr_eq0, tr_eq5, tr_eq10, tr_le0, tr_lt0, tr_10lt, tr_lt10, tr_le10, tr_lt5, tr_le99, tr_le999, tr_999lt, tr_s1, tr_s8, Nat.add_sub_cancel, true_and, not_false_eq_true, forall_const, false_implies, implies_true, and_true]
    exact ⟨fun z => K' _ (ty_wIk h (Or.inl z)), fun z => ⟨fun y => K' _ (ty_wIk h (Or.inr y)), fun y => K' _ (ty_wIs h z y)⟩⟩
def ty_wO (W O H0 : Nat → Nat) (r i : Nat) (H : Nat → Nat) : Prop := (∀ j, H j ≤ 100000) ∧ (∀ j, (j < 8 * r ∨ 8 * r + 8 ≤ j) → H j = H0 j) ∧ ∀ s, s < i → ∀ x, (H (8 * r + s) ≤ x ↔ O (8 * r + s) ≤ x ∨ ∃ u, u < 8 ∧ 0 < W (8 * u + s) ∧ O (8 * r + u) + W (8 * u + s) ≤ x)
theorem ty_walkOn {post : SY → Prop} {r : Nat} {O H0 : Nat → Nat} (hr : r ≤ 10) (hW : ∀ j, W j ≤ 99) (hO : ∀ j, O j ≤ 100000) (hH : ∀ j, H0 j ≤ 100000) (K : ∀ H, ty_wO W O H0 r 8 H → post (fT, tr_f C, tr_f S, tr_f M, tr_f W, tr_f O, tr_f H)) : wpY_walkOn post (fT, tr_f C, tr_f S, tr_f M, tr_f W, tr_f O, tr_f H0) (nI r) := by
  refine loop_0 (σ := Nat → Nat) (fun n i H => wY_walkOn_2 post (nI r) fT n (nI i) (tr_f C) (tr_f S) (tr_f M) (tr_f W) (tr_f O) (tr_f H)) (ty_wO W O H0 r) 8 H0 ?_ ?_ ?_
  · exact ⟨hH, fun _ _ => rfl, fun s hs => absurd hs (Nat.not_lt_zero s)⟩
  · intro n H h
    exact br_t (nI_le (a := 8) (b := 8) (Nat.le_refl 8) (by decide)) (K H h)
  · intro n s H hs h K'
    refine br_f (nI_ge (a := s) (b := 8) hs (by decide)) ?_
    have e1 : nI r * 8 + nI s = nI (8 * r + s) := by rw [tr_8m, nI_add]
    rw [e1, nI_clamp (show 8 * r + s < 2 ^ 31 by omega), tr_ap]
    refine ⟨vp_in_nI (by omega) (by decide), nm_e ?_⟩
    refine ty_w23 hr hs hW hO ?_
    intro b g
    refine K' _ ⟨tr_ub h.1 g.1, fun j hj => ?_, fun s' hs' x => ?_⟩
    · rw [tr_un (by omega)]
      exact h.2.1 j hj
    · by_cases q : s' = s
      · subst q
        rw [tr_us]
        exact g.2 x
      · rw [tr_un (by omega)]
        exact h.2.2 s' (by omega) x
def ty_rO (C S M H O0 : Nat → Nat) (r i k : Nat) (O : Nat → Nat) : Prop := (∀ j, O j ≤ 100000) ∧ (∀ j, (j < 8 * (r + 1) ∨ 8 * (r + 1) + 8 ≤ j) → O j = O0 j) ∧ ∀ s, s < 8 → ∀ x, (O (8 * (r + 1) + s) ≤ x ↔ O0 (8 * (r + 1) + s) ≤ x ∨ (H (8 * r + S (5 * i + k)) ≤ M (5 * i + k) ∧ ∃ c, k < c ∧ c < C i ∧ S (5 * i + c) = s ∧ M (5 * i + c) ≤ x))
def ty_rI (S M O0 : Nat → Nat) (r i k c : Nat) (O : Nat → Nat) : Prop := (∀ j, O j ≤ 100000) ∧ (∀ j, (j < 8 * (r + 1) ∨ 8 * (r + 1) + 8 ≤ j) → O j = O0 j) ∧ ∀ s, s < 8 → ∀ x, (O (8 * (r + 1) + s) ≤ x ↔ O0 (8 * (r + 1) + s) ≤ x ∨ ∃ d, k < d ∧ d < c ∧ S (5 * i + d) = s ∧ M (5 * i + d) ≤ x)
theorem ty_rIk {O0 O : Nat → Nat} {r i k c : Nat} (h : ty_rI S M O0 r i k c O) (hS : ∀ j, S j ≤ 7) (z : O (8 * (r + 1) + S (5 * i + c)) ≤ M (5 * i + c)) : ty_rI S M O0 r i k (c + 1) O := by
  refine ⟨h.1, h.2.1, fun s hs x => ?_⟩
  have e := h.2.2 s hs x
  constructor
  · intro g
    rcases e.mp g with g | ⟨d, g1, g2, g3⟩
    · exact Or.inl g
    · exact Or.inr ⟨d, g1, by omega, g3⟩
  · rintro (g | ⟨d, g1, g2, g3, g4⟩)
    · exact e.mpr (Or.inl g)
    · by_cases q : d = c
      · subst q; subst g3; omega
      · exact e.mpr (Or.inr ⟨d, g1, by omega, g3, g4⟩)
theorem ty_rIs {O0 O : Nat → Nat} {r i k c : Nat} (h : ty_rI S M O0 r i k c O) (hS : ∀ j, S j ≤ 7) (hM : ∀ j, M j ≤ 999) (hk : k < c) (z : ¬ O (8 * (r + 1) + S (5 * i + c)) ≤ M (5 * i + c)) : ty_rI S M O0 r i k (c + 1) (tr_u O (8 * (r + 1) + S (5 * i + c)) (M (5 * i + c))) := by
  have m1 := hM (5 * i + c)
  have s1 := hS (5 * i + c)
  refine ⟨tr_ub h.1 (by omega), fun j hj => ?_, fun s hs x => ?_⟩
  · rw [tr_un (by omega)]
    exact h.2.1 j hj
  · have e := h.2.2 s hs x
    by_cases w : s = S (5 * i + c)
    · subst w
      rw [tr_us]
      constructor
      · intro g
        exact Or.inr ⟨c, hk, by omega, rfl, g⟩
      · rintro (g | ⟨d, g1, g2, g3, g4⟩)
        · have := e.mpr (Or.inl g)
          omega
        · by_cases q : d = c
          · subst q; exact g4
          · have := e.mpr (Or.inr ⟨d, g1, by omega, g3, g4⟩)
            omega
    · rw [tr_un (by omega), e]
      constructor
      · rintro (g | ⟨d, g1, g2, g3⟩)
        · exact Or.inl g
        · exact Or.inr ⟨d, g1, by omega, g3⟩
      · rintro (g | ⟨d, g1, g2, g3, g4⟩)
        · exact Or.inl g
        · by_cases q : d = c
          · subst q; exact absurd g3.symm w
          · exact Or.inr ⟨d, g1, by omega, g3, g4⟩
theorem ty_ride {post : SY → Prop} {r i k : Nat} {O0 H : Nat → Nat} (hr : r < 10) (hi : i < 10) (hk : k < C i) (hC : ∀ j, C j ≤ 5) (hS : ∀ j, S j ≤ 7) (hM : ∀ j, M j ≤ 999) (hO : ∀ j, O0 j ≤ 100000) (hH : ∀ j, H j ≤ 100000) (K : ∀ O, ty_rO C S M H O0 r i k O → post (fT, tr_f C, tr_f S, tr_f M, tr_f W, tr_f O, tr_f H)) : wpY_ride post (fT, tr_f C, tr_f S, tr_f M, tr_f W, tr_f O0, tr_f H) (nI (r + 1)) (nI i) (nI k) := by
  have c1 := hC i
  have s1 := hS (5 * i + k)
  have m1 := hM (5 * i + k)
  have h1 := hH (8 * r + S (5 * i + k))
  unfold wpY_ride
  simp (disch := omega) only [forall_eq, tr_m8, tr_m5, tr_8m, tr_5m, tr_p8, tr_p5, nI_add, nI_1, tr_ap, nI_clamp, tr_upd, vp_in_nI, nI_leI, nI_ltI, nI_eq, tr_8le, tr_88le, tr_Nle, tr_ltN, tr_eqN, tr_eq0, tr_eq5, tr_eq10, tr_le0, tr_lt0, tr_10lt, tr_lt10, tr_le10, tr_lt5, tr_le99, tr_le999, tr_999lt, tr_s1, tr_s8, Nat.add_sub_cancel, true_and, not_false_eq_true, forall_const, false_implies, implies_true, and_true]
  refine ⟨fun z => ⟨6, ?_⟩, fun z => K O0 ⟨hO, fun _ _ => rfl, fun s hs x => ⟨Or.inl, ?_⟩⟩⟩
  · refine loop_i (σ := Nat → Nat) (fun n c O => wY_ride_41 post (nI (r + 1)) (nI i) fT n (nI c) (tr_f C) (tr_f S) (tr_f M) (tr_f W) (tr_f O) (tr_f H)) (fun c O => k < c ∧ ty_rI S M O0 r i k c O) (C i) ?_ ?_ 6 (k + 1) O0 (by omega) (by omega) ?_
    · rintro n O ⟨_, h⟩
      try dsimp only
      rw [wY_ride_41]
      simp (disch := omega) only [forall_eq, tr_m8, tr_m5, tr_8m, tr_5m, tr_p8, tr_p5, nI_add, nI_1, tr_ap, nI_clamp, tr_upd, vp_in_nI, nI_leI, nI_ltI, nI_eq, tr_8le, tr_88le, tr_Nle, tr_ltN, tr_eqN, tr_eq0, tr_eq5, tr_eq10, tr_le0, tr_lt0, tr_10lt, tr_lt10, tr_le10, tr_lt5, tr_le99, tr_le999, tr_999lt, tr_s1, tr_s8, Nat.add_sub_cancel, true_and, not_false_eq_true, forall_const, false_implies, implies_true, and_true]
      refine ⟨fun _ => K O ⟨h.1, h.2.1, fun s hs x => ?_⟩, fun z => absurd (Nat.le_refl _) z⟩
      rw [h.2.2 s hs x]
      constructor
      · rintro (g | g)
        · exact Or.inl g
        · exact Or.inr ⟨z, g⟩
      · rintro (g | g)
        · exact Or.inl g
        · exact Or.inr g.2
    · rintro n c O hc ⟨hkc, h⟩ K'
      have s2 := hS (5 * i + c)
      have m2 := hM (5 * i + c)
      have o2 := h.1 (8 * (r + 1) + S (5 * i + c))
      try dsimp only
      rw [wY_ride_41]
      simp (disch := omega) only [forall_eq, tr_m8, tr_m5, tr_8m, tr_5m, tr_p8, tr_p5, nI_add, nI_1, tr_ap, nI_clamp, tr_upd, vp_in_nI, nI_leI, nI_ltI, nI_eq, tr_8le, tr_88le, tr_Nle, tr_ltN, tr_eqN, tr_eq0, tr_eq5, tr_eq10, tr_le0, tr_lt0, tr_10lt, tr_lt10, tr_le10, tr_lt5, tr_le99, tr_le999, tr_999lt, tr_s1, tr_s8, Nat.add_sub_cancel, true_and, not_false_eq_true, forall_const, false_implies, implies_true, and_true]
      refine ⟨fun z => by omega, fun _ => ⟨fun y => K' _ ⟨by omega, ty_rIk h hS y⟩, fun y => K' _ ⟨by omega, ty_rIs h hS hM hkc y⟩⟩⟩
    · refine ⟨by omega, hO, fun _ _ => rfl, fun s hs x => ⟨Or.inl, ?_⟩⟩
      rintro (g | ⟨d, g1, g2, _⟩)
      · exact g
      · omega
  · rintro (g | ⟨g, _⟩)
    · exact g
    · exact absurd g z
end
end
section
/-! Y: search, best -/
theorem ty_d5 {m : Nat} (h : m < 2 ^ 31) : nI m / (5 : Int32) = nI (m / 5) := pk_div (d := 5) h (by decide) (by decide)
/-- what the rides of the first m places give -/
def ty_rm (C S M H : Nat → Nat) (r m s x : Nat) : Prop := ∃ i p c, 5 * i + p < m ∧ p < c ∧ c < C i ∧ H (8 * r + S (5 * i + p)) ≤ M (5 * i + p) ∧ S (5 * i + c) = s ∧ M (5 * i + c) ≤ x
def ty_YF (T : Nat) (C S M W : Nat → Nat) (a t : Nat) (H : Nat → Nat) : Prop := (∀ j, H j ≤ 100000) ∧ ∀ q, q ≤ 10 → ∀ s, s < 8 → ∀ x, (H (8 * q + s) ≤ x ↔ 100000 ≤ x ∨ tp_th W (tp_off T C S M W a t q) s x)
def ty_YI (T : Nat) (C S M W : Nat → Nat) (a t q : Nat) (O H : Nat → Nat) : Prop := (∀ j, O j ≤ 100000) ∧ (∀ j, H j ≤ 100000) ∧ (∀ p, p < q → ∀ s, s < 8 → ∀ x, (H (8 * p + s) ≤ x ↔ 100000 ≤ x ∨ tp_th W (tp_off T C S M W a t p) s x)) ∧ (∀ j, 8 * q ≤ j → j < 88 → O j = 100000)
section
variable {T : Nat} {C S M W : Nat → Nat} {fT : Int32} {a t : Nat}
theorem ty_round (G : tp_ok T C S M W) {r : Nat} {O0 O H H2 : Nat → Nat} (h : ty_YI T C S M W a t (r + 1) O0 H) (hO : ∀ j, O j ≤ 100000) (hk : ∀ j, 8 * (r + 1) + 8 ≤ j → O j = O0 j) (hc : ∀ s, s < 8 → ∀ x, (O (8 * (r + 1) + s) ≤ x ↔ 100000 ≤ x ∨ ty_rm C S M H r (5 * T) s x)) (g : ty_wO W O H (r + 1) 8 H2) : ty_YI T C S M W a t (r + 2) O H2 := by
  obtain ⟨hT, hC, hS, hM, hW, hC1, hso⟩ := id G
  have e : ∀ u, u < 8 → ∀ y, (O (8 * (r + 1) + u) ≤ y ↔ 100000 ≤ y ∨ tp_off T C S M W a t (r + 1) u y) := by
    intro u hu y
    rw [hc u hu y]
    have e2 : ∀ s x, s ≤ 7 → x ≤ 999 → (H (8 * r + s) ≤ x ↔ tp_th W (tp_off T C S M W a t r) s x) := by
      intro s x hs hx
      rw [h.2.2.1 r (by omega) s (by omega) x]
      constructor
      · rintro (z | z)
        · omega
        · exact z
      · exact Or.inr
    constructor
    · rintro (z | ⟨i, p, c, h1, h2, h3, h4, h5, h6⟩)
      · exact Or.inl z
      · have c1 := hC i
        exact Or.inr ⟨i, p, c, by omega, trivial, h2, h3, (e2 _ _ (hS _) (hM _)).mp h4, h5, h6⟩
    · rintro (z | ⟨i, p, c, h1, _, h2, h3, h4, h5, h6⟩)
      · exact Or.inl z
      · have c1 := hC i
        exact Or.inr ⟨i, p, c, by omega, h2, h3, (e2 _ _ (hS _) (hM _)).mpr h4, h5, h6⟩
  refine ⟨hO, g.1, ?_, ?_⟩
  · intro p hp s hs x
    by_cases q : p = r + 1
    · subst q
      rw [g.2.2 s hs x]
      exact ty_num (R := fun u => O (8 * (r + 1) + u)) e hs
    · rw [g.2.1 _ (by omega)]
      exact h.2.2.1 p (by omega) s hs x
  · intro j h1 h2
    rw [hk j (by omega)]
    exact h.2.2.2 j (by omega) h2
theorem ty_47 (G : tp_ok T C S M W) {post : SY → Prop} {J : Int32 → Int32 → (Nat → Int32) → (Nat → Int32) → (Nat → Int32) → (Nat → Int32) → (Nat → Int32) → (Nat → Int32) → Prop} {r : Nat} {O0 H : Nat → Nat} (hr : r < 10) (h : ty_YI T C S M W a t (r + 1) O0 H) (K : ∀ O H, ty_YI T C S M W a t (r + 2) O H → J (nI (r + 2)) (nI T) (tr_f C) (tr_f S) (tr_f M) (tr_f W) (tr_f O) (tr_f H)) : ∃ n, wY_search_47 post J (nI (r + 1)) n 0 (nI T) (tr_f C) (tr_f S) (tr_f M) (tr_f W) (tr_f O0) (tr_f H) := by
  obtain ⟨hT, hC, hS, hM, hW, hC1, hso⟩ := id G
  refine loop_0 (σ := Nat → Nat) (fun n m O => wY_search_47 post J (nI (r + 1)) n (nI m) (nI T) (tr_f C) (tr_f S) (tr_f M) (tr_f W) (tr_f O) (tr_f H)) (fun m O => (∀ j, O j ≤ 100000) ∧ (∀ j, 8 * (r + 1) + 8 ≤ j → O j = O0 j) ∧ ∀ s, s < 8 → ∀ x, (O (8 * (r + 1) + s) ≤ x ↔ 100000 ≤ x ∨ ty_rm C S M H r m s x)) (5 * T) O0 ?_ ?_ ?_
  · refine ⟨h.1, fun _ _ => rfl, fun s hs x => ?_⟩
    rw [h.2.2.2 (8 * (r + 1) + s) (by omega) (by omega)]
    constructor
    · exact Or.inl
    · rintro (z | ⟨i, p, c, hi, _⟩)
      · exact z
      · omega
  · intro n O g
    refine br_t (by rw [tr_5m]; exact nI_le (Nat.le_refl _) (by omega)) ?_
    refine ty_walkOn (by omega) hW g.1 h.2.1 ?_
    intro H2 g2
    exact nm_r (nI_1 (r + 1)) (K O H2 (ty_round G h g.1 g.2.1 g.2.2 g2))
  · intro n m O hm g K'
    obtain ⟨i, k, e, hk⟩ : ∃ i k, m = 5 * i + k ∧ k < 5 := ⟨m / 5, m % 5, by omega, by omega⟩
    subst e
    have c1 := hC i
    have e1 : (5 * i + k) / 5 = i := by omega
    have e2 : 5 * i + k - 5 * i = k := by omega
    refine br_f (by rw [tr_5m]; exact nI_ge hm (by omega)) ⟨by decide, by decide, ?_⟩
    rw [ty_d5 (show 5 * i + k < 2 ^ 31 by omega), e1, tr_5m, pk_sub (show 5 * i ≤ 5 * i + k by omega), e2, nI_clamp (show i < 2 ^ 31 by omega), tr_ap]
    refine ⟨vp_in_nI (by omega) (by decide), br_c (fun z => ?_) (fun z => ⟨by decide, by decide, ?_⟩)⟩
    · rw [nI_leI (by omega) (by omega)] at z
      refine nm_r (nI_1 (5 * i + k)) (K' O ⟨g.1, g.2.1, fun s hs x => ?_⟩)
      rw [g.2.2 s hs x]
      constructor
      · rintro (y | ⟨i', p, c, h1, h2⟩)
        · exact Or.inl y
        · exact Or.inr ⟨i', p, c, by omega, h2⟩
      · rintro (y | ⟨i', p, c, h1, h2, h3, h4⟩)
        · exact Or.inl y
        · by_cases q : 5 * i' + p = 5 * i + k
          · have c2 := hC i'
            have q1 : i' = i := by omega
            subst q1
            omega
          · exact Or.inr ⟨i', p, c, by omega, h2, h3, h4⟩
    · rw [nI_leI (by omega) (by omega)] at z
      refine ty_ride hr (by omega) (by omega) hC hS hM g.1 h.2.1 ?_
      intro O' g'
      refine nm_r (nI_1 (5 * i + k)) (K' O' ⟨g'.1, fun j hj => (g'.2.1 j (Or.inr hj)).trans (g.2.1 j hj), fun s hs x => ?_⟩)
      rw [g'.2.2 s hs x, g.2.2 s hs x]
      constructor
      · rintro ((y | ⟨i', p, c, h1, h2⟩) | ⟨y, c, h1, h2, h3⟩)
        · exact Or.inl y
        · exact Or.inr ⟨i', p, c, by omega, h2⟩
        · exact Or.inr ⟨i, k, c, by omega, h1, h2, y, h3⟩
      · rintro (y | ⟨i', p, c, h1, h2, h3, h4, h5⟩)
        · exact Or.inl (Or.inl y)
        · by_cases q : 5 * i' + p = 5 * i + k
          · have c2 := hC i'
            have q1 : i' = i := by omega
            subst q1
            have q2 : p = k := by omega
            subst q2
            exact Or.inr ⟨h4, c, h2, h3, h5⟩
          · exact Or.inl (Or.inr ⟨i', p, c, by omega, h2, h3, h4, h5⟩)
theorem ty_38 (G : tp_ok T C S M W) {post : SY → Prop} (K : ∀ O H, (∀ j, O j ≤ 100000) → ty_YF T C S M W a t H → post (nI T, tr_f C, tr_f S, tr_f M, tr_f W, tr_f O, tr_f H)) : ∀ d q O H, q + d = 10 → ty_YI T C S M W a t (q + 1) O H → wY_search_38 post (d + 1) (nI (q + 1)) (nI T) (tr_f C) (tr_f S) (tr_f M) (tr_f W) (tr_f O) (tr_f H) := by
  intro d
  induction d with
  | zero =>
    intro q O H hd h
    have e : q = 10 := by omega
    subst e
    exact br_t (nI_lt (a := 10) (b := 11) (by decide) (by decide)) (K O H h.1 ⟨h.2.1, fun p hp s hs x => h.2.2.1 p (by omega) s hs x⟩)
  | succ d ih =>
    intro q O H hd h
    refine br_f (nI_nlt (a := 10) (b := q + 1) (by omega) (by decide)) ?_
    exact ty_47 G (by omega) h (fun O' H' k => ih (q + 1) O' H' (by omega) k)
theorem ty_search (G : tp_ok T C S M W) {post : SY → Prop} {O H : Nat → Nat} (ha : a < 8) (ht : t ≤ 999) (hO : ∀ j, O j ≤ 100000) (hH : ∀ j, H j ≤ 100000) (K : ∀ O H, (∀ j, O j ≤ 100000) → ty_YF T C S M W a t H → post (nI T, tr_f C, tr_f S, tr_f M, tr_f W, tr_f O, tr_f H)) : wpY_search post (nI T, tr_f C, tr_f S, tr_f M, tr_f W, tr_f O, tr_f H) (nI a) (nI t) := by
  obtain ⟨hT, hC, hS, hM, hW, hC1, hso⟩ := id G
  refine loop_0 (σ := Nat → Nat) (fun n i O => wY_search_2 post (nI a) (nI t) (nI T) n (nI i) (tr_f C) (tr_f S) (tr_f M) (tr_f W) (tr_f O) (tr_f H)) (fun i O => (∀ j, O j ≤ 100000) ∧ (∀ j, j < i → O j = if j = a then t else 100000)) 88 O ?_ ?_ ?_
  · exact ⟨hO, fun s hs => absurd hs (Nat.not_lt_zero s)⟩
  · rintro n O1 ⟨g1, g2⟩
    refine br_t (nI_le (a := 88) (b := 88) (Nat.le_refl 88) (by decide)) ?_
    refine ty_walkOn (r := 0) (by omega) hW g1 hH ?_
    intro H2 g
    refine ⟨11, ty_38 G K 10 0 O1 H2 (by omega) ⟨g1, g.1, ?_, ?_⟩⟩
    · intro p hp s hs x
      have e : p = 0 := by omega
      subst e
      rw [g.2.2 s hs x]
      refine ty_num (R := fun u => O1 (8 * 0 + u)) (P := fun s x => s = a ∧ t ≤ x) ?_ hs
      intro u hu y
      try dsimp only
      rw [show 8 * 0 + u = u from by omega, g2 u (by omega)]
      split <;> omega
    · intro j h1 h2
      rw [g2 j h2, if_neg (by omega)]
  · rintro n i O1 hi ⟨g1, g2⟩ K'
    refine br_f (nI_ge (a := i) (b := 88) hi (by decide)) ?_
    have eN : ∀ f k, upd (tr_f f) k 100000 = tr_f (tr_u f k 100000) := fun f k => tr_upd f k 100000
    simp (disch := omega) only [forall_eq, tr_m8, tr_m5, tr_8m, tr_5m, tr_p8, tr_p5, nI_add, nI_1, tr_ap, nI_clamp, tr_upd, vp_in_nI, nI_leI, nI_ltI, nI_eq, tr_8le, tr_88le, tr_Nle, tr_ltN, tr_eqN, tr_eq0, tr_eq5, tr_eq10, tr_le0, tr_lt0, tr_10lt, tr_lt10, tr_le10, tr_lt5, tr_le99, tr_le999, tr_999lt, tr_s1, tr_s8, Nat.add_sub_cancel, true_and, not_false_eq_true, forall_const, false_implies, implies_true, and_true, eN]
    refine ⟨fun z => K' _ ⟨tr_ub g1 (by omega), fun j hj => ?_⟩, fun z => K' _ ⟨tr_ub g1 (by omega), fun j hj => ?_⟩⟩
    · by_cases e : j = i
      · subst e
        rw [tr_us, if_pos z]
      · rw [tr_un e]
        exact g2 j (by omega)
    · by_cases e : j = i
      · subst e
        rw [tr_us, if_neg z]
      · rw [tr_un e]
        exact g2 j (by omega)
/-- the least of the first k rows at stop b -/
def ty_mn (H : Nat → Nat) (b : Nat) : Nat → Nat
  | 0 => 100000
  | k + 1 => if ty_mn H b k ≤ H (8 * k + b) then ty_mn H b k else H (8 * k + b)
theorem ty_mns (H : Nat → Nat) (b k : Nat) : ty_mn H b (k + 1) = if ty_mn H b k ≤ H (8 * k + b) then ty_mn H b k else H (8 * k + b) := rfl
theorem ty_mnb (H : Nat → Nat) (b : Nat) : ∀ k, ty_mn H b k ≤ 100000 := by
  intro k
  induction k with
  | zero => exact Nat.le_refl _
  | succ k ih => rw [ty_mns]; split <;> omega
theorem ty_mn_at {H : Nat → Nat} {b : Nat} (h : ty_YF T C S M W a t H) (hb : b < 8) : ∀ k, k ≤ 11 → ∀ x, (ty_mn H b k ≤ x ↔ 100000 ≤ x ∨ tp_at T C S M W a t k b x) := by
  intro k
  induction k with
  | zero =>
    intro _ x
    constructor
    · exact Or.inl
    · rintro (z | z)
      · exact z
      · exact absurd z tp_at_0
  | succ k ih =>
    intro hk x
    have e1 := ih (by omega) x
    have e2 := h.2 k (by omega) b hb x
    rw [tp_at_s]
    have e3 : (ty_mn H b (k + 1) ≤ x ↔ ty_mn H b k ≤ x ∨ H (8 * k + b) ≤ x) := by rw [ty_mns]; split <;> omega
    rw [e3, e1, e2]
    constructor
    · rintro ((z | z) | (z | z))
      · exact Or.inl z
      · exact Or.inr (Or.inl z)
      · exact Or.inl z
      · exact Or.inr (Or.inr z)
    · rintro (z | (z | z))
      · exact Or.inl (Or.inl z)
      · exact Or.inl (Or.inr z)
      · exact Or.inr (Or.inr z)
theorem ty_best {post : Int32 → Prop} {b r : Nat} {O H : Nat → Nat} (hb : b < 8) (hr : r ≤ 10) (hH : ∀ j, H j ≤ 100000) (K : post (nI (ty_mn H b (r + 1)))) : wpY_best post (fT, tr_f C, tr_f S, tr_f M, tr_f W, tr_f O, tr_f H) (nI b) (nI r) := by
  refine loop_0 (σ := Nat) (fun n k m => wY_best_6 post (nI b) (nI r) fT (tr_f C) (tr_f S) (tr_f M) (tr_f W) (tr_f O) (tr_f H) n (nI m) (nI k)) (fun k m => m = ty_mn H b k) (r + 1) 100000 rfl ?_ ?_
  · intro n m h
    subst h
    exact br_t (nI_lt (by omega) (by omega)) K
  · intro n k m hk h K'
    have b1 := hH (8 * k + b)
    have b2 := ty_mnb H b k
    rw [← h] at b2
    refine br_f (nI_nlt (by omega) (by omega)) ?_
    simp (disch := omega) only [forall_eq, tr_m8, tr_m5, tr_8m, tr_5m, tr_p8, tr_p5, nI_add, nI_1, tr_ap, nI_clamp, tr_upd, vp_in_nI, nI_leI, nI_ltI, nI_eq, tr_8le, tr_88le, tr_Nle, tr_ltN, tr_eqN, tr_eq0, tr_eq5, tr_eq10, tr_le0, tr_lt0, tr_10lt, tr_lt10, tr_le10, tr_lt5, tr_le99, tr_le999, tr_999lt, tr_s1, tr_s8, Nat.add_sub_cancel, true_and, not_false_eq_true, forall_const, false_implies, implies_true, and_true]
    refine ⟨fun z => K' _ ?_, fun z => K' _ ?_⟩
    · rw [ty_mns, ← h, if_pos z]
    · rw [ty_mns, ← h, if_neg z]
end
end
section
/-! the relation, the constructors, trip, call, walk -/
def i_Rel (_ : Nat) (u : SX) (v : SY) : Prop := ∃ (T : Nat) (C S M W : Nat → Nat) (fb fr : Int32) (B R O H : Nat → Nat), tp_ok T C S M W ∧ (∀ j, B j ≤ 100000) ∧ (∀ j, R j ≤ 100000) ∧ (∀ j, O j ≤ 100000) ∧ (∀ j, H j ≤ 100000) ∧ u = (nI T, fb, fr, tr_f C, tr_f S, tr_f M, tr_f W, tr_f B, tr_f R) ∧ v = (nI T, tr_f C, tr_f S, tr_f M, tr_f W, tr_f O, tr_f H)
theorem i_up {k : Nat} {u : SX} {v : SY} (h : i_Rel k u v) : i_Rel (k + 5) u v := h
theorem tz_in {k T : Nat} {C S M W : Nat → Nat} {fb fr : Int32} {B R O H : Nat → Nat} (h1 : tp_ok T C S M W) (h2 : ∀ j, B j ≤ 100000) (h3 : ∀ j, R j ≤ 100000) (h4 : ∀ j, O j ≤ 100000) (h5 : ∀ j, H j ≤ 100000) : i_Rel k (nI T, fb, fr, tr_f C, tr_f S, tr_f M, tr_f W, tr_f B, tr_f R) (nI T, tr_f C, tr_f S, tr_f M, tr_f W, tr_f O, tr_f H) := ⟨T, C, S, M, W, fb, fr, B, R, O, H, h1, h2, h3, h4, h5, rfl, rfl⟩
theorem tz_el {k : Nat} {u : SX} {v : SY} {P : SX → SY → Prop} (I : i_Rel k u v) (h : ∀ (T : Nat) (C S M W : Nat → Nat) (fb fr : Int32) (B R O H : Nat → Nat), tp_ok T C S M W → (∀ j, B j ≤ 100000) → (∀ j, R j ≤ 100000) → (∀ j, O j ≤ 100000) → (∀ j, H j ≤ 100000) → P (nI T, fb, fr, tr_f C, tr_f S, tr_f M, tr_f W, tr_f B, tr_f R) (nI T, tr_f C, tr_f S, tr_f M, tr_f W, tr_f O, tr_f H)) : P u v := by
  obtain ⟨T, C, S, M, W, fb, fr, B, R, O, H, h1, h2, h3, h4, h5, rfl, rfl⟩ := I
  exact h T C S M W fb fr B R O H h1 h2 h3 h4 h5
theorem i_vc0 : wpX_init (fun u => wpY_init (fun v => i_Rel 0 u v)) :=
  tz_in (k := 0) (T := 0) (C := fun _ => 0) (S := fun _ => 0) (M := fun _ => 0) (W := fun _ => 0) (fb := 0) (fr := 0) (B := fun _ => 0) (R := fun _ => 0) (O := fun _ => 0) (H := fun _ => 0) ⟨by omega, fun _ => Nat.zero_le _, fun _ => Nat.zero_le _, fun _ => Nat.zero_le _, fun _ => Nat.zero_le _, fun i hi => absurd hi (Nat.not_lt_zero i), fun i hi => absurd hi (Nat.not_lt_zero i)⟩ (fun _ => Nat.zero_le _) (fun _ => Nat.zero_le _) (fun _ => Nat.zero_le _) (fun _ => Nat.zero_le _)
theorem tz_ix (x : Int32) (n : Nat) (hn : n < 2 ^ 31) : x < 0 ∨ (¬ x < 0 ∧ nI n ≤ x ∧ ¬ x < nI n) ∨ ∃ j, j < n ∧ x = nI j := by
  rcases pk_ix x hn with h | h | h
  · exact Or.inl h
  · by_cases g : x < 0
    · exact Or.inl g
    · exact Or.inr (Or.inl ⟨g, h, Int32.not_lt.mpr h⟩)
  · exact Or.inr (Or.inr h)
theorem tz_st (p : Int32) : ((∀ (u : SX) (post : Int32 → Prop), post 0 → wpX_isStop post u p) ∧ (∀ (v : SY) (post : Int32 → Prop), post 0 → wpY_isStop post v p)) ∨ ∃ a, a < 8 ∧ p = nI a ∧ (∀ (u : SX) (post : Int32 → Prop), post 1 → wpX_isStop post u p) ∧ (∀ (v : SY) (post : Int32 → Prop), post 1 → wpY_isStop post v p) := by
  rcases tz_ix p 8 (by decide) with h | ⟨h, g, _⟩ | ⟨j, hj, rfl⟩
  · exact Or.inl ⟨fun ⟨_, _, _, _, _, _, _, _, _⟩ post k => br_t h k, fun ⟨_, _, _, _, _, _, _⟩ post k => br_t h k⟩
  · exact Or.inl ⟨fun ⟨_, _, _, _, _, _, _, _, _⟩ post k => br_f h (br_t g k), fun ⟨_, _, _, _, _, _, _⟩ post k => br_f h (br_t g k)⟩
  · have h0 : ¬ nI j < 0 := nI_pos (by omega)
    have h1 : ¬ (8 : Int32) ≤ nI j := nI_ge (b := 8) hj (by decide)
    exact Or.inr ⟨j, hj, rfl, fun ⟨_, _, _, _, _, _, _, _, _⟩ post k => br_f h0 (br_f h1 k), fun ⟨_, _, _, _, _, _, _⟩ post k => br_f h0 (br_f h1 k)⟩
theorem tz_ti (p : Int32) : ((∀ (u : SX) (post : Int32 → Prop), post 0 → wpX_isTime post u p) ∧ (∀ (v : SY) (post : Int32 → Prop), post 0 → wpY_isTime post v p)) ∨ ∃ t, t ≤ 999 ∧ p = nI t ∧ (∀ (u : SX) (post : Int32 → Prop), post 1 → wpX_isTime post u p) ∧ (∀ (v : SY) (post : Int32 → Prop), post 1 → wpY_isTime post v p) := by
  by_cases h : p < 0
  · exact Or.inl ⟨fun ⟨_, _, _, _, _, _, _, _, _⟩ post k => br_t h k, fun ⟨_, _, _, _, _, _, _⟩ post k => br_t h k⟩
  · obtain ⟨j, hj, rfl⟩ := nI_of h
    by_cases g : 999 < j
    · have g1 : (999 : Int32) < nI j := nI_lt (a := 999) g hj
      exact Or.inl ⟨fun ⟨_, _, _, _, _, _, _, _, _⟩ post k => br_f h (br_t g1 k), fun ⟨_, _, _, _, _, _, _⟩ post k => br_f h (br_t g1 k)⟩
    · have g1 : ¬ (999 : Int32) < nI j := nI_nlt (a := 999) (by omega) (by decide)
      exact Or.inr ⟨j, by omega, rfl, fun ⟨_, _, _, _, _, _, _, _, _⟩ post k => br_f h (br_f g1 k), fun ⟨_, _, _, _, _, _, _⟩ post k => br_f h (br_f g1 k)⟩
theorem tz_wr {f : Nat → Nat} {x y : Int32} (k v : Nat) (hx : x = nI k) (hy : y = nI v) (h : k < 2 ^ 31) : upd (tr_f f) x.toNatClampNeg y = tr_f (tr_u f k v) := by
  subst hx hy
  rw [nI_clamp h, tr_upd]
theorem tz_b {a : Nat} (h : a < 128) : vp_nar .byte (nI a).toInt8.toInt32 = nI a := by rw [tr_nb a h, tr_vb h]
theorem tz_s {a : Nat} (h : a < 1100) : vp_nar .short (nI a).toInt16.toInt32 = nI a := by rw [tr_ns a h, tr_vs h]
theorem tz_b1 : vp_nar .byte 1 = nI 1 := tr_vb (a := 1) (by decide)
section
variable {T : Nat} {C S M W : Nat → Nat}
theorem tz_ok_trip {a t : Nat} (ok : tp_ok T C S M W) (hT : T < 10) (ha : a < 8) (ht : t ≤ 999) : tp_ok (T + 1) (tr_u C T 1) (tr_u S (5 * T) a) (tr_u M (5 * T) t) W := by
  obtain ⟨_, hC, hS, hM, hW, hC1, hso⟩ := ok
  refine ⟨by omega, tr_ub hC (by omega), tr_ub hS (by omega), tr_ub hM ht, hW, fun i hi => ?_, fun i hi k hk => ?_⟩
  · by_cases e : i = T
    · subst e; rw [tr_us]; exact Nat.le_refl _
    · rw [tr_un e]; exact hC1 i (by omega)
  · by_cases e : i = T
    · subst e; rw [tr_us] at hk; omega
    · rw [tr_un e] at hk
      have c1 := hC i
      rw [tr_un (by omega), tr_un (by omega)]
      exact hso i (by omega) k hk
theorem tz_ok_call {N a t : Nat} (ok : tp_ok (N + 1) C S M W) (hc : C N < 5) (ha : a < 8) (ht : t ≤ 999) (hm : M (5 * N + C N - 1) ≤ t) : tp_ok (N + 1) (tr_u C N (C N + 1)) (tr_u S (5 * N + C N) a) (tr_u M (5 * N + C N) t) W := by
  obtain ⟨hT, hC, hS, hM, hW, hC1, hso⟩ := ok
  have c0 := hC1 N (by omega)
  refine ⟨hT, tr_ub hC (by omega), tr_ub hS (by omega), tr_ub hM ht, hW, fun i hi => ?_, fun i hi k hk => ?_⟩
  · by_cases e : i = N
    · subst e; rw [tr_us]; omega
    · rw [tr_un e]; exact hC1 i hi
  · by_cases e : i = N
    · subst e
      rw [tr_us] at hk
      by_cases e2 : k + 1 = C i
      · rw [tr_un (by omega), show 5 * i + (k + 1) = 5 * i + C i from by omega, tr_us, show 5 * i + k = 5 * i + C i - 1 from by omega]
        exact hm
      · rw [tr_un (by omega), tr_un (by omega)]
        exact hso i hi k (by omega)
    · rw [tr_un e] at hk
      have c1 := hC i
      rw [tr_un (by omega), tr_un (by omega)]
      exact hso i hi k hk
end
theorem i_vc_trip {k : Nat} {u : SX} {v : SY} (I : i_Rel k u v) (hk : k + 5 ≤ 2560) (v1 : Int32) (v2 : Int32) : wpX_trip (fun r u' => wpY_trip (fun r' v' => r' = r ∧ i_Rel (k + 5) u' v') v v1 v2) u v1 v2 := by
  refine tz_el (P := fun u v => wpX_trip (fun r u' => wpY_trip (fun r' v' => r' = r ∧ i_Rel (k + 5) u' v') v v1 v2) u v1 v2) I ?_
  intro T C S M W fb fr B R O H ok hB hR hO hH
  have hT := ok.1
  by_cases z : T < 10
  · have zx : nI T < (10 : Int32) := nI_lt (b := 10) z (by decide)
    have zy : ¬ nI T = (10 : Int32) := by rw [tr_eq10 (by omega)]; omega
    refine br_t zx ?_
    rcases tz_st v1 with ⟨sx, sy⟩ | ⟨a, ha, rfl, sx, sy⟩
    · exact sx _ _ (br_t rfl (br_f zy (sy _ _ (br_t rfl ⟨rfl, tz_in ok hB hR hO hH⟩))))
    · refine sx _ _ (br_f (by decide) ?_)
      rcases tz_ti v2 with ⟨tx, ty⟩ | ⟨t, ht, rfl, tx, ty⟩
      · exact tx _ _ (br_t rfl (br_f zy (sy _ _ (br_f (by decide) (ty _ _ (br_t rfl ⟨rfl, tz_in ok hB hR hO hH⟩))))))
      · refine tx _ _ (br_f (by decide) ?_)
        refine ⟨pk_in (5 * T) 50 (by omega) (tr_m5 T), nm_r (tz_wr (5 * T) a (tr_m5 T) (tz_b (by omega)) (by omega)) ⟨pk_in (5 * T) 50 (by omega) (tr_m5 T), nm_r (tz_wr (5 * T) t (tr_m5 T) (tz_s (by omega)) (by omega)) ⟨vp_in_nI z (by decide), nm_r (tz_wr T 1 rfl tz_b1 (by omega)) (nm_r (nI_1 T) ?_)⟩⟩⟩
        refine br_f zy (sy _ _ (br_f (by decide) (ty _ _ (br_f (by decide) ?_))))
        refine ⟨pk_in (5 * T) 50 (by omega) (tr_5m T), nm_r (tz_wr (5 * T) a (tr_5m T) rfl (by omega)) ⟨pk_in (5 * T) 50 (by omega) (tr_5m T), nm_r (tz_wr (5 * T) t (tr_5m T) rfl (by omega)) ⟨vp_in_nI z (by decide), nm_r (tz_wr T 1 rfl rfl (by omega)) (nm_r (nI_1 T) ?_)⟩⟩⟩
        exact ⟨rfl, tz_in (tz_ok_trip ok z ha ht) hB hR hO hH⟩
  · have e : T = 10 := by omega
    subst e
    exact br_f (nI_nlt (a := 10) (b := 10) (Nat.le_refl 10) (by decide)) (br_t rfl ⟨rfl, tz_in ok hB hR hO hH⟩)
section
variable {C S M W : Nat → Nat} {fT fb fr : Int32}
theorem tz_cx {post : Int32 → SX → Prop} {N a t : Nat} {B R : Nat → Nat} (hN : N < 10) (hc0 : 1 ≤ C N) (hc : C N < 5) (ha : a < 8) (ht : t ≤ 999) (hS : ∀ j, S j ≤ 7) (hM : ∀ j, M j ≤ 999) (k1 : (∃ p, p < C N ∧ S (5 * N + p) = a) → post (-1) (fT, fb, fr, tr_f C, tr_f S, tr_f M, tr_f W, tr_f B, tr_f R)) (k2 : (∀ p, p < C N → ¬ S (5 * N + p) = a) → M (5 * N + C N - 1) ≤ t → post (nI (C N + 1)) (fT, fb, fr, tr_f (tr_u C N (C N + 1)), tr_f (tr_u S (5 * N + C N) a), tr_f (tr_u M (5 * N + C N) t), tr_f W, tr_f B, tr_f R)) (k3 : (∀ p, p < C N → ¬ S (5 * N + p) = a) → ¬ M (5 * N + C N - 1) ≤ t → post (-1) (fT, fb, fr, tr_f C, tr_f S, tr_f M, tr_f W, tr_f B, tr_f R)) : ∃ n, wX_call_52 post (nI a) (nI t) (nI N) (nI (C N)) fT fb fr (tr_f C) (tr_f S) (tr_f M) (tr_f W) (tr_f B) (tr_f R) n 0 := by
  refine loop_0 (σ := Unit) (fun n k _ => wX_call_52 post (nI a) (nI t) (nI N) (nI (C N)) fT fb fr (tr_f C) (tr_f S) (tr_f M) (tr_f W) (tr_f B) (tr_f R) n (nI k)) (fun k _ => ∀ p, p < k → ¬ S (5 * N + p) = a) (C N) () (fun p hp => absurd hp (Nat.not_lt_zero p)) ?_ ?_
  · intro n _ h
    have m1 := hM (5 * N + C N - 1)
    refine br_t (nI_le (Nat.le_refl _) (by omega)) ?_
    simp (disch := omega) only [forall_eq, tr_m8, tr_m5, tr_8m, tr_5m, tr_p8, tr_p5, nI_add, nI_1, tr_ap, nI_clamp, tr_upd, vp_in_nI, nI_leI, nI_ltI, nI_eq, tr_8le, tr_88le, tr_Nle, tr_ltN, tr_eqN, tr_eq0, tr_eq5, tr_eq10, tr_le0, tr_lt0, tr_10lt, tr_lt10, tr_le10, tr_lt5, tr_le99, tr_le999, tr_999lt, tr_s1, tr_s8, Nat.add_sub_cancel, true_and, not_false_eq_true, forall_const, false_implies, implies_true, and_true, tr_nb, tr_ns, tr_vb, tr_vs]
    exact ⟨k2 h, k3 h⟩
  · intro n k _ hk h K'
    have s1 := hS (5 * N + k)
    refine br_f (nI_ge hk (by omega)) ?_
    simp (disch := omega) only [forall_eq, tr_m8, tr_m5, tr_8m, tr_5m, tr_p8, tr_p5, nI_add, nI_1, tr_ap, nI_clamp, tr_upd, vp_in_nI, nI_leI, nI_ltI, nI_eq, tr_8le, tr_88le, tr_Nle, tr_ltN, tr_eqN, tr_eq0, tr_eq5, tr_eq10, tr_le0, tr_lt0, tr_10lt, tr_lt10, tr_le10, tr_lt5, tr_le99, tr_le999, tr_999lt, tr_s1, tr_s8, Nat.add_sub_cancel, true_and, not_false_eq_true, forall_const, false_implies, implies_true, and_true]
    refine ⟨fun z => k1 ⟨k, hk, z⟩, fun z => K' () ?_⟩
    intro p hp
    by_cases q : p = k
    · subst q; exact z
    · exact h p (by omega)
theorem tz_cy {post : Int32 → SY → Prop} {N a t : Nat} {O H : Nat → Nat} (hN : N < 10) (hc0 : 1 ≤ C N) (hc : C N < 5) (ha : a < 8) (ht : t ≤ 999) (hS : ∀ j, S j ≤ 7) (hM : ∀ j, M j ≤ 999) (k1 : (∃ p, p < C N ∧ S (5 * N + p) = a) → post (-1) (fT, tr_f C, tr_f S, tr_f M, tr_f W, tr_f O, tr_f H)) (k2 : (∀ p, p < C N → ¬ S (5 * N + p) = a) → M (5 * N + C N - 1) ≤ t → post (nI (C N + 1)) (fT, tr_f (tr_u C N (C N + 1)), tr_f (tr_u S (5 * N + C N) a), tr_f (tr_u M (5 * N + C N) t), tr_f W, tr_f O, tr_f H)) (k3 : (∀ p, p < C N → ¬ S (5 * N + p) = a) → ¬ M (5 * N + C N - 1) ≤ t → post (-1) (fT, tr_f C, tr_f S, tr_f M, tr_f W, tr_f O, tr_f H)) : ∃ n, wY_call_48 post (nI a) (nI t) (nI N) fT (tr_f C) (tr_f S) (tr_f M) (tr_f W) (tr_f O) (tr_f H) n 0 := by
  refine loop_0 (σ := Unit) (fun n k _ => wY_call_48 post (nI a) (nI t) (nI N) fT (tr_f C) (tr_f S) (tr_f M) (tr_f W) (tr_f O) (tr_f H) n (nI k)) (fun k _ => ∀ p, p < k → ¬ S (5 * N + p) = a) (C N) () (fun p hp => absurd hp (Nat.not_lt_zero p)) ?_ ?_
  · intro n _ h
    have m1 := hM (5 * N + C N - 1)
    rw [wY_call_48]
    simp (disch := omega) only [forall_eq, tr_m8, tr_m5, tr_8m, tr_5m, tr_p8, tr_p5, nI_add, nI_1, tr_ap, nI_clamp, tr_upd, vp_in_nI, nI_leI, nI_ltI, nI_eq, tr_8le, tr_88le, tr_Nle, tr_ltN, tr_eqN, tr_eq0, tr_eq5, tr_eq10, tr_le0, tr_lt0, tr_10lt, tr_lt10, tr_le10, tr_lt5, tr_le99, tr_le999, tr_999lt, tr_s1, tr_s8, Nat.add_sub_cancel, true_and, not_false_eq_true, forall_const, false_implies, implies_true, and_true, tr_us, Nat.le_refl, not_true_eq_false]
    exact ⟨k2 h, k3 h⟩
  · intro n k _ hk h K'
    have s1 := hS (5 * N + k)
    have z0 : ¬ C N ≤ k := by omega
    rw [wY_call_48]
    simp (disch := omega) only [forall_eq, tr_m8, tr_m5, tr_8m, tr_5m, tr_p8, tr_p5, nI_add, nI_1, tr_ap, nI_clamp, tr_upd, vp_in_nI, nI_leI, nI_ltI, nI_eq, tr_8le, tr_88le, tr_Nle, tr_ltN, tr_eqN, tr_eq0, tr_eq5, tr_eq10, tr_le0, tr_lt0, tr_10lt, tr_lt10, tr_le10, tr_lt5, tr_le99, tr_le999, tr_999lt, tr_s1, tr_s8, Nat.add_sub_cancel, true_and, not_false_eq_true, forall_const, false_implies, implies_true, and_true, z0]
    refine ⟨fun z => k1 ⟨k, hk, z⟩, fun z => K' () ?_⟩
    intro p hp
    by_cases q : p = k
    · subst q; exact z
    · exact h p (by omega)
end
theorem i_vc_call {k : Nat} {u : SX} {v : SY} (I : i_Rel k u v) (hk : k + 5 ≤ 2560) (v1 : Int32) (v2 : Int32) : wpX_call (fun r u' => wpY_call (fun r' v' => r' = r ∧ i_Rel (k + 5) u' v') v v1 v2) u v1 v2 := by
  refine tz_el (P := fun u v => wpX_call (fun r u' => wpY_call (fun r' v' => r' = r ∧ i_Rel (k + 5) u' v') v v1 v2) u v1 v2) I ?_
  intro T C S M W fb fr B R O H ok hB hR hO hH
  obtain ⟨hT, hC, hS, hM, hW, hC1, hso⟩ := id ok
  cases T with
  | zero => exact br_t rfl (br_t rfl ⟨rfl, tz_in ok hB hR hO hH⟩)
  | succ N =>
    have z : ¬ nI (N + 1) = 0 := nI_ne0 (by omega) (by omega)
    refine br_f z ?_
    rcases tz_st v1 with ⟨sx, sy⟩ | ⟨a, ha, rfl, sx, sy⟩
    · exact sx _ _ (br_t rfl (br_f z (sy _ _ (br_t rfl ⟨rfl, tz_in ok hB hR hO hH⟩))))
    · refine sx _ _ (br_f (by decide) ?_)
      rcases tz_ti v2 with ⟨tx, ty⟩ | ⟨t, ht, rfl, tx, ty⟩
      · exact tx _ _ (br_t rfl (br_f z (sy _ _ (br_f (by decide) (ty _ _ (br_t rfl ⟨rfl, tz_in ok hB hR hO hH⟩))))))
      · refine tx _ _ (br_f (by decide) ?_)
        have c0 := hC1 N (by omega)
        have c1 := hC N
        have eN : tr_f C (nI N).toNatClampNeg = nI (C N) := by rw [nI_clamp (by omega), tr_ap]
        refine nm_r (nI_pred N) ⟨vp_in_nI (by omega) (by decide), nm_r eN ?_⟩
        by_cases c5 : C N < 5
        · have cx : nI (C N) < (5 : Int32) := nI_lt (b := 5) c5 (by decide)
          have cy : ¬ tr_f C (nI N).toNatClampNeg = (5 : Int32) := by rw [eN, tr_eq5 (by omega)]; omega
          refine br_t cx (tz_cx (by omega) c0 c5 ha ht hS hM ?_ ?_ ?_)
          · intro q
            exact br_f z (sy _ _ (br_f (by decide) (ty _ _ (br_f (by decide) (nm_r (nI_pred N) ⟨vp_in_nI (by omega) (by decide), br_f cy (tz_cy (by omega) c0 c5 ha ht hS hM (fun _ => ⟨rfl, tz_in ok hB hR hO hH⟩) (fun w => absurd q (fun ⟨p, hp, e⟩ => w p hp e)) (fun w => absurd q (fun ⟨p, hp, e⟩ => w p hp e)))⟩)))))
          · intro q m
            exact br_f z (sy _ _ (br_f (by decide) (ty _ _ (br_f (by decide) (nm_r (nI_pred N) ⟨vp_in_nI (by omega) (by decide), br_f cy (tz_cy (by omega) c0 c5 ha ht hS hM (fun ⟨p, hp, e⟩ => absurd e (q p hp)) (fun _ _ => ⟨rfl, tz_in (tz_ok_call ok c5 ha ht m) hB hR hO hH⟩) (fun _ m' => absurd m m'))⟩)))))
          · intro q m
            exact br_f z (sy _ _ (br_f (by decide) (ty _ _ (br_f (by decide) (nm_r (nI_pred N) ⟨vp_in_nI (by omega) (by decide), br_f cy (tz_cy (by omega) c0 c5 ha ht hS hM (fun ⟨p, hp, e⟩ => absurd e (q p hp)) (fun _ m' => absurd m' m) (fun _ _ => ⟨rfl, tz_in ok hB hR hO hH⟩))⟩)))))
        · have cx : ¬ nI (C N) < (5 : Int32) := nI_nlt (b := 5) (by omega) (by omega)
          have cy : tr_f C (nI N).toNatClampNeg = (5 : Int32) := by rw [eN, tr_eq5 (by omega)]; omega
          exact br_f cx (br_f z (sy _ _ (br_f (by decide) (ty _ _ (br_f (by decide) (nm_r (nI_pred N) ⟨vp_in_nI (by omega) (by decide), br_t cy ⟨rfl, tz_in ok hB hR hO hH⟩⟩))))))
theorem tz_ok_walk {T a b w : Nat} {C S M W : Nat → Nat} (ok : tp_ok T C S M W) (hw : w ≤ 99) : tp_ok T C S M (tr_u (tr_u W (8 * a + b) w) (8 * b + a) w) := ⟨ok.1, ok.2.1, ok.2.2.1, ok.2.2.2.1, tr_ub (tr_ub ok.2.2.2.2.1 hw) hw, ok.2.2.2.2.2⟩
theorem i_vc_walk {k : Nat} {u : SX} {v : SY} (I : i_Rel k u v) (hk : k + 5 ≤ 2560) (v1 : Int32) (v2 : Int32) (v3 : Int32) : wpX_walk (fun r u' => wpY_walk (fun r' v' => r' = r ∧ i_Rel (k + 5) u' v') v v1 v2 v3) u v1 v2 v3 := by
  refine tz_el (P := fun u v => wpX_walk (fun r u' => wpY_walk (fun r' v' => r' = r ∧ i_Rel (k + 5) u' v') v v1 v2 v3) u v1 v2 v3) I ?_
  intro T C S M W fb fr B R O H ok hB hR hO hH
  unfold wpX_walk wpY_walk
  rcases tz_st v1 with ⟨sx, sy⟩ | ⟨a, ha, rfl, sx, sy⟩
  · exact sx _ _ (br_t rfl (sy _ _ (br_t rfl ⟨rfl, tz_in ok hB hR hO hH⟩)))
  · refine sx _ _ (br_f (by decide) ?_)
    rcases tz_st v2 with ⟨tx, ty⟩ | ⟨b, hb, rfl, tx, ty⟩
    · exact tx _ _ (br_t rfl (sy _ _ (br_f (by decide) (ty _ _ (br_t rfl ⟨rfl, tz_in ok hB hR hO hH⟩)))))
    · refine tx _ _ (br_f (by decide) ?_)
      by_cases e : nI a = nI b
      · exact br_t e (sy _ _ (br_f (by decide) (ty _ _ (br_f (by decide) (br_t e ⟨rfl, tz_in ok hB hR hO hH⟩)))))
      · refine br_f e ?_
        rcases tz_ix v3 100 (by decide) with z | ⟨z, y, y'⟩ | ⟨w, hw, rfl⟩
        · exact br_t z (sy _ _ (br_f (by decide) (ty _ _ (br_f (by decide) (br_f e (br_t z ⟨rfl, tz_in ok hB hR hO hH⟩))))))
        · have q : ¬ v3 ≤ (99 : Int32) := by
            rw [Int32.not_le]
            exact Int32.lt_of_lt_of_le (nI_lt (a := 99) (b := 100) (by decide) (by decide)) y
          exact br_f z (br_f q (sy _ _ (br_f (by decide) (ty _ _ (br_f (by decide) (br_f e (br_f z (br_f q ⟨rfl, tz_in ok hB hR hO hH⟩))))))))
        · have z : ¬ nI w < (0 : Int32) := nI_pos (by omega)
          have q : nI w ≤ (99 : Int32) := nI_le (b := 99) (by omega) (by decide)
          have i1 : (8 : Int32) * nI a + nI b = nI (8 * a + b) := by rw [tr_m8, nI_add]
          have i2 : (8 : Int32) * nI b + nI a = nI (8 * b + a) := by rw [tr_m8, nI_add]
          have j1 : nI a * (8 : Int32) + nI b = nI (8 * a + b) := by rw [tr_8m, nI_add]
          have j2 : nI b * (8 : Int32) + nI a = nI (8 * b + a) := by rw [tr_8m, nI_add]
          refine br_f z (br_t q ⟨pk_in (8 * a + b) 64 (by omega) i1, nm_r (tz_wr (8 * a + b) w i1 (tz_b (by omega)) (by omega)) ⟨pk_in (8 * b + a) 64 (by omega) i2, nm_r (tz_wr (8 * b + a) w i2 (tz_b (by omega)) (by omega)) ?_⟩⟩)
          refine sy _ _ (br_f (by decide) (ty _ _ (br_f (by decide) (br_f e (br_f z (br_t q ?_))))))
          exact ⟨pk_in (8 * a + b) 64 (by omega) j1, nm_r (tz_wr (8 * a + b) w j1 rfl (by omega)) ⟨pk_in (8 * b + a) 64 (by omega) j2, nm_r (tz_wr (8 * b + a) w j2 rfl (by omega)) ⟨rfl, tz_in (tz_ok_walk ok (by omega)) hB hR hO hH⟩⟩⟩
end
section
/-! cancel, delay -/
def tz_sh (f : Nat → Nat) (d lo hi : Nat) : Nat → Nat := fun j => if lo ≤ j ∧ j < hi then f (j + d) else f j
theorem tz_sh0 (f : Nat → Nat) (d lo : Nat) : f = tz_sh f d lo lo := by
  funext j
  unfold tz_sh
  rw [if_neg (by omega)]
theorem tz_shi {f : Nat → Nat} {d lo hi j : Nat} (h1 : lo ≤ j) (h2 : j < hi) : tz_sh f d lo hi j = f (j + d) := if_pos ⟨h1, h2⟩
theorem tz_sho {f : Nat → Nat} {d lo hi j : Nat} (h : j < lo ∨ hi ≤ j) : tz_sh f d lo hi j = f j := if_neg (by omega)
theorem tz_shb {f : Nat → Nat} {d lo hi b : Nat} (h : ∀ j, f j ≤ b) : ∀ j, tz_sh f d lo hi j ≤ b := by
  intro j
  unfold tz_sh
  split
  · exact h _
  · exact h _
theorem tz_shs {f : Nat → Nat} {d lo c : Nat} (h : lo ≤ c) (hd : 0 < d) : tr_u (tz_sh f d lo c) c (tz_sh f d lo c (c + d)) = tz_sh f d lo (c + 1) := by
  funext j
  by_cases e : j = c
  · subst e
    rw [tr_us, tz_sho (by omega), tz_shi h (by omega)]
  · rw [tr_un e]
    by_cases g : lo ≤ j ∧ j < c
    · rw [tz_shi g.1 g.2, tz_shi g.1 (by omega)]
    · rw [tz_sho (by omega), tz_sho (by omega)]
def tz_dl (f : Nat → Nat) (d lo hi : Nat) : Nat → Nat := fun j => if lo ≤ j ∧ j < hi then f j + d else f j
theorem tz_dl0 (f : Nat → Nat) (d lo : Nat) : f = tz_dl f d lo lo := by
  funext j
  unfold tz_dl
  rw [if_neg (by omega)]
theorem tz_dli {f : Nat → Nat} {d lo hi j : Nat} (h1 : lo ≤ j) (h2 : j < hi) : tz_dl f d lo hi j = f j + d := if_pos ⟨h1, h2⟩
theorem tz_dlo {f : Nat → Nat} {d lo hi j : Nat} (h : j < lo ∨ hi ≤ j) : tz_dl f d lo hi j = f j := if_neg (by omega)
theorem tz_dls {f : Nat → Nat} {d lo c : Nat} (h : lo ≤ c) : tr_u (tz_dl f d lo c) c (tz_dl f d lo c c + d) = tz_dl f d lo (c + 1) := by
  funext j
  by_cases e : j = c
  · subst e
    rw [tr_us, tz_dlo (by omega), tz_dli h (by omega)]
  · rw [tr_un e]
    by_cases g : lo ≤ j ∧ j < c
    · rw [tz_dli g.1 g.2, tz_dli g.1 (by omega)]
    · rw [tz_dlo (by omega), tz_dlo (by omega)]
section
variable {C S M W : Nat → Nat} {fT fb fr : Int32} {B R O H : Nat → Nat}
theorem tz_ok_cancel {N i : Nat} (ok : tp_ok (N + 1) C S M W) (hi : i ≤ N) : tp_ok N (tz_sh C 1 i N) (tz_sh S 5 (5 * i) (5 * N)) (tz_sh M 5 (5 * i) (5 * N)) W := by
  obtain ⟨hT, hC, hS, hM, hW, hC1, hso⟩ := ok
  refine ⟨by omega, tz_shb hC, tz_shb hS, tz_shb hM, hW, fun q hq => ?_, fun q hq k hk => ?_⟩
  · by_cases e : i ≤ q
    · rw [tz_shi e hq]; exact hC1 (q + 1) (by omega)
    · rw [tz_sho (by omega)]; exact hC1 q (by omega)
  · by_cases e : i ≤ q
    · rw [tz_shi e hq] at hk
      have c1 := hC (q + 1)
      rw [tz_shi (by omega) (by omega), tz_shi (by omega) (by omega)]
      have g := hso (q + 1) (by omega) k hk
      rw [show 5 * q + k + 5 = 5 * (q + 1) + k from by omega, show 5 * q + (k + 1) + 5 = 5 * (q + 1) + (k + 1) from by omega]
      exact g
    · rw [tz_sho (by omega)] at hk
      have c1 := hC q
      rw [tz_sho (by omega), tz_sho (by omega)]
      exact hso q (by omega) k hk
theorem tz_x74 {post : Int32 → SX → Prop} {N i : Nat} (hN : N ≤ 9) (hi : i ≤ N) (hC : ∀ j, C j ≤ 5) (K : post (nI N) (nI N, fb, fr, tr_f (tz_sh C 1 i N), tr_f S, tr_f M, tr_f W, tr_f B, tr_f R)) : ∃ n, wX_cancel_74 post (nI N) fb fr n (nI i) (tr_f C) (tr_f S) (tr_f M) (tr_f W) (tr_f B) (tr_f R) := by
  refine ⟨N - i + 1, loop_i (σ := Nat → Nat) (fun n k D => wX_cancel_74 post (nI N) fb fr n (nI k) (tr_f D) (tr_f S) (tr_f M) (tr_f W) (tr_f B) (tr_f R)) (fun k D => D = tz_sh C 1 i k ∧ i ≤ k) N ?_ ?_ _ i C hi (by omega) ⟨tz_sh0 C 1 i, Nat.le_refl i⟩⟩
  · rintro n D ⟨h, _⟩
    subst h
    exact br_t (nI_le (Nat.le_refl N) (by omega)) K
  · rintro n k D hk ⟨h, hik⟩ K'
    subst h
    have b1 := tz_shb (d := 1) (lo := i) (hi := k) hC (k + 1)
    refine br_f (nI_ge hk (by omega)) ?_
    simp (disch := omega) only [forall_eq, tr_m8, tr_m5, tr_8m, tr_5m, tr_p8, tr_p5, nI_add, nI_1, tr_ap, nI_clamp, tr_upd, vp_in_nI, nI_leI, nI_ltI, nI_eq, tr_8le, tr_88le, tr_Nle, tr_ltN, tr_eqN, tr_eq0, tr_eq5, tr_eq10, tr_le0, tr_lt0, tr_10lt, tr_lt10, tr_le10, tr_lt5, tr_le99, tr_le999, tr_999lt, tr_s1, tr_s8, Nat.add_sub_cancel, true_and, not_false_eq_true, forall_const, false_implies, implies_true, and_true, tr_vb]
    exact K' _ ⟨tz_shs hik (by omega), by omega⟩
theorem tz_x28 {post : Int32 → SX → Prop} {N i : Nat} (hN : N ≤ 9) (hi : i ≤ N) (hC : ∀ j, C j ≤ 5) (hS : ∀ j, S j ≤ 7) (hM : ∀ j, M j ≤ 999) (K : post (nI N) (nI N, fb, fr, tr_f (tz_sh C 1 i N), tr_f (tz_sh S 5 (5 * i) (5 * N)), tr_f (tz_sh M 5 (5 * i) (5 * N)), tr_f W, tr_f B, tr_f R)) : ∃ n, wX_cancel_28 post (nI i) (nI N) fb fr n (nI (5 * i)) (tr_f C) (tr_f S) (tr_f M) (tr_f W) (tr_f B) (tr_f R) := by
  refine ⟨5 * N - 5 * i + 1, loop_i (σ := (Nat → Nat) × (Nat → Nat)) (fun n c q => wX_cancel_28 post (nI i) (nI N) fb fr n (nI c) (tr_f C) (tr_f q.1) (tr_f q.2) (tr_f W) (tr_f B) (tr_f R)) (fun c q => q = (tz_sh S 5 (5 * i) c, tz_sh M 5 (5 * i) c) ∧ 5 * i ≤ c) (5 * N) ?_ ?_ _ (5 * i) (S, M) (by omega) (by omega) ⟨?_, Nat.le_refl _⟩⟩
  · rintro n q ⟨h, _⟩
    subst h
    exact br_t (by rw [tr_m5]; exact nI_le (Nat.le_refl _) (by omega)) (tz_x74 hN hi hC K)
  · rintro n c q hc ⟨h, hic⟩ K'
    subst h
    have b1 := tz_shb (d := 5) (lo := 5 * i) (hi := c) hS (c + 5)
    have b2 := tz_shb (d := 5) (lo := 5 * i) (hi := c) hM (c + 5)
    refine br_f (by rw [tr_m5]; exact nI_ge hc (by omega)) ?_
    simp (disch := omega) only [forall_eq, tr_m8, tr_m5, tr_8m, tr_5m, tr_p8, tr_p5, nI_add, nI_1, tr_ap, nI_clamp, tr_upd, vp_in_nI, nI_leI, nI_ltI, nI_eq, tr_8le, tr_88le, tr_Nle, tr_ltN, tr_eqN, tr_eq0, tr_eq5, tr_eq10, tr_le0, tr_lt0, tr_10lt, tr_lt10, tr_le10, tr_lt5, tr_le99, tr_le999, tr_999lt, tr_s1, tr_s8, Nat.add_sub_cancel, true_and, not_false_eq_true, forall_const, false_implies, implies_true, and_true, tr_vb, tr_vs]
    exact K' (tr_u (tz_sh S 5 (5 * i) c) c (tz_sh S 5 (5 * i) c (c + 5)), tr_u (tz_sh M 5 (5 * i) c) c (tz_sh M 5 (5 * i) c (c + 5))) ⟨by rw [tz_shs hic (by omega), tz_shs hic (by omega)], by omega⟩
  · rw [← tz_sh0, ← tz_sh0]
theorem tz_y58 {post : Int32 → SY → Prop} {N i : Nat} (hN : N ≤ 9) (hi : i ≤ N) (K : post (nI N) (nI N, tr_f C, tr_f (tz_sh S 5 (5 * i) (5 * N)), tr_f (tz_sh M 5 (5 * i) (5 * N)), tr_f W, tr_f O, tr_f H)) : ∃ n, wY_cancel_58 post (nI N) n (nI (5 * i)) (tr_f C) (tr_f S) (tr_f M) (tr_f W) (tr_f O) (tr_f H) := by
  refine ⟨5 * N - 5 * i + 1, loop_i (σ := (Nat → Nat) × (Nat → Nat)) (fun n c q => wY_cancel_58 post (nI N) n (nI c) (tr_f C) (tr_f q.1) (tr_f q.2) (tr_f W) (tr_f O) (tr_f H)) (fun c q => q = (tz_sh S 5 (5 * i) c, tz_sh M 5 (5 * i) c) ∧ 5 * i ≤ c) (5 * N) ?_ ?_ _ (5 * i) (S, M) (by omega) (by omega) ⟨?_, Nat.le_refl _⟩⟩
  · rintro n q ⟨h, _⟩
    subst h
    exact br_t (by rw [tr_5m]; exact nI_le (Nat.le_refl _) (by omega)) K
  · rintro n c q hc ⟨h, hic⟩ K'
    subst h
    refine br_f (by rw [tr_5m]; exact nI_ge hc (by omega)) ?_
    simp (disch := omega) only [forall_eq, tr_m8, tr_m5, tr_8m, tr_5m, tr_p8, tr_p5, nI_add, nI_1, tr_ap, nI_clamp, tr_upd, vp_in_nI, nI_leI, nI_ltI, nI_eq, tr_8le, tr_88le, tr_Nle, tr_ltN, tr_eqN, tr_eq0, tr_eq5, tr_eq10, tr_le0, tr_lt0, tr_10lt, tr_lt10, tr_le10, tr_lt5, tr_le99, tr_le999, tr_999lt, tr_s1, tr_s8, Nat.add_sub_cancel, true_and, not_false_eq_true, forall_const, false_implies, implies_true, and_true]
    exact K' (tr_u (tz_sh S 5 (5 * i) c) c (tz_sh S 5 (5 * i) c (c + 5)), tr_u (tz_sh M 5 (5 * i) c) c (tz_sh M 5 (5 * i) c (c + 5))) ⟨by rw [tz_shs hic (by omega), tz_shs hic (by omega)], by omega⟩
  · rw [← tz_sh0, ← tz_sh0]
theorem tz_y26 {post : Int32 → SY → Prop} {N i : Nat} (hN : N ≤ 9) (hi : i ≤ N) (K : post (nI N) (nI N, tr_f (tz_sh C 1 i N), tr_f (tz_sh S 5 (5 * i) (5 * N)), tr_f (tz_sh M 5 (5 * i) (5 * N)), tr_f W, tr_f O, tr_f H)) : ∃ n, wY_cancel_26 post (nI i) (nI N) n (nI i) (tr_f C) (tr_f S) (tr_f M) (tr_f W) (tr_f O) (tr_f H) := by
  refine ⟨N - i + 1, loop_i (σ := Nat → Nat) (fun n k D => wY_cancel_26 post (nI i) (nI N) n (nI k) (tr_f D) (tr_f S) (tr_f M) (tr_f W) (tr_f O) (tr_f H)) (fun k D => D = tz_sh C 1 i k ∧ i ≤ k) N ?_ ?_ _ i C hi (by omega) ⟨tz_sh0 C 1 i, Nat.le_refl i⟩⟩
  · rintro n D ⟨h, _⟩
    subst h
    exact br_t (nI_le (Nat.le_refl N) (by omega)) (nm_r (tr_5m i) (tz_y58 hN hi K))
  · rintro n k D hk ⟨h, hik⟩ K'
    subst h
    refine br_f (nI_ge hk (by omega)) ?_
    simp (disch := omega) only [forall_eq, tr_m8, tr_m5, tr_8m, tr_5m, tr_p8, tr_p5, nI_add, nI_1, tr_ap, nI_clamp, tr_upd, vp_in_nI, nI_leI, nI_ltI, nI_eq, tr_8le, tr_88le, tr_Nle, tr_ltN, tr_eqN, tr_eq0, tr_eq5, tr_eq10, tr_le0, tr_lt0, tr_10lt, tr_lt10, tr_le10, tr_lt5, tr_le99, tr_le999, tr_999lt, tr_s1, tr_s8, Nat.add_sub_cancel, true_and, not_false_eq_true, forall_const, false_implies, implies_true, and_true]
    exact K' _ ⟨tz_shs hik (by omega), by omega⟩
theorem tz_ok_delay {T i k d : Nat} (ok : tp_ok T C S M W) (hi : i < T) (hk : k < C i) (hd : M (5 * i + C i - 1) + d ≤ 999) : tp_ok T C S (tz_dl M d (5 * i + k) (5 * i + C i)) W := by
  obtain ⟨hT, hC, hS, hM, hW, hC1, hso⟩ := id ok
  refine ⟨hT, hC, hS, fun j => ?_, hW, hC1, fun q hq p hp => ?_⟩
  · by_cases g : 5 * i + k ≤ j ∧ j < 5 * i + C i
    · rw [tz_dli g.1 g.2]
      have e := tp_inc2 ok hi (p := j - 5 * i) (c := C i - 1) (by omega) (by omega)
      rw [show 5 * i + (j - 5 * i) = j from by omega, show 5 * i + (C i - 1) = 5 * i + C i - 1 from by omega] at e
      omega
    · rw [tz_dlo (by omega)]
      exact hM j
  · have e := hso q hq p hp
    have c1 := hC q
    by_cases g : 5 * i + k ≤ 5 * q + p ∧ 5 * q + p < 5 * i + C i
    · have c2 := hC i
      have eq : q = i := by omega
      subst eq
      rw [tz_dli g.1 g.2, tz_dli (by omega) (by omega)]
      omega
    · rw [tz_dlo (by omega)]
      by_cases g2 : 5 * i + k ≤ 5 * q + (p + 1) ∧ 5 * q + (p + 1) < 5 * i + C i
      · rw [tz_dli g2.1 g2.2]
        omega
      · rw [tz_dlo (by omega)]
        exact e
theorem tz_x72 {post : Int32 → SX → Prop} {i k d : Nat} (hi : i < 10) (hk : k < C i) (hd : d ≤ 99) (hC : ∀ j, C j ≤ 5) (hM : ∀ j, M j ≤ 999) (K : post 1 (fT, fb, fr, tr_f C, tr_f S, tr_f (tz_dl M d (5 * i + k) (5 * i + C i)), tr_f W, tr_f B, tr_f R)) : ∃ n, wX_delay_72 post (nI i) (nI d) fT fb fr n (nI (5 * i + k)) (tr_f C) (tr_f S) (tr_f M) (tr_f W) (tr_f B) (tr_f R) := by
  have c1 := hC i
  refine ⟨6, loop_i (σ := Nat → Nat) (fun n c D => wX_delay_72 post (nI i) (nI d) fT fb fr n (nI c) (tr_f C) (tr_f S) (tr_f D) (tr_f W) (tr_f B) (tr_f R)) (fun c D => D = tz_dl M d (5 * i + k) c ∧ 5 * i + k ≤ c) (5 * i + C i) ?_ ?_ _ (5 * i + k) M (by omega) (by omega) ⟨tz_dl0 M d _, Nat.le_refl _⟩⟩
  · rintro n D ⟨h, _⟩
    subst h
    rw [wX_delay_72]
    simp (disch := omega) only [forall_eq, tr_m8, tr_m5, tr_8m, tr_5m, tr_p8, tr_p5, nI_add, nI_1, tr_ap, nI_clamp, tr_upd, vp_in_nI, nI_leI, nI_ltI, nI_eq, tr_8le, tr_88le, tr_Nle, tr_ltN, tr_eqN, tr_eq0, tr_eq5, tr_eq10, tr_le0, tr_lt0, tr_10lt, tr_lt10, tr_le10, tr_lt5, tr_le99, tr_le999, tr_999lt, tr_s1, tr_s8, Nat.add_sub_cancel, true_and, not_false_eq_true, forall_const, false_implies, implies_true, and_true, Nat.le_refl, not_true_eq_false]
    exact K
  · rintro n c D hc ⟨h, hic⟩ K'
    subst h
    have b1 : tz_dl M d (5 * i + k) c c ≤ 999 := by rw [tz_dlo (by omega)]; exact hM c
    have z0 : ¬ 5 * i + C i ≤ c := by omega
    rw [wX_delay_72]
    simp (disch := omega) only [forall_eq, tr_m8, tr_m5, tr_8m, tr_5m, tr_p8, tr_p5, nI_add, nI_1, tr_ap, nI_clamp, tr_upd, vp_in_nI, nI_leI, nI_ltI, nI_eq, tr_8le, tr_88le, tr_Nle, tr_ltN, tr_eqN, tr_eq0, tr_eq5, tr_eq10, tr_le0, tr_lt0, tr_10lt, tr_lt10, tr_le10, tr_lt5, tr_le99, tr_le999, tr_999lt, tr_s1, tr_s8, Nat.add_sub_cancel, true_and, not_false_eq_true, forall_const, false_implies, implies_true, and_true, z0, tr_ns, tr_vs]
    exact K' _ ⟨tz_dls hic, by omega⟩
theorem tz_y82 {post : Int32 → SY → Prop} {i k d : Nat} (hi : i < 10) (hk : k < C i) (hd : d ≤ 99) (hC : ∀ j, C j ≤ 5) (K : post 1 (fT, tr_f C, tr_f S, tr_f (tz_dl M d (5 * i + k) (5 * i + C i)), tr_f W, tr_f O, tr_f H)) : ∃ n, wY_delay_82 post (nI i) (nI d) fT n (nI k) (tr_f C) (tr_f S) (tr_f M) (tr_f W) (tr_f O) (tr_f H) := by
  have c1 := hC i
  refine ⟨6, loop_i (σ := Nat → Nat) (fun n c D => wY_delay_82 post (nI i) (nI d) fT n (nI c) (tr_f C) (tr_f S) (tr_f D) (tr_f W) (tr_f O) (tr_f H)) (fun c D => D = tz_dl M d (5 * i + k) (5 * i + c) ∧ k ≤ c) (C i) ?_ ?_ _ k M (by omega) (by omega) ⟨tz_dl0 M d _, Nat.le_refl _⟩⟩
  · rintro n D ⟨h, _⟩
    subst h
    rw [wY_delay_82]
    simp (disch := omega) only [forall_eq, tr_m8, tr_m5, tr_8m, tr_5m, tr_p8, tr_p5, nI_add, nI_1, tr_ap, nI_clamp, tr_upd, vp_in_nI, nI_leI, nI_ltI, nI_eq, tr_8le, tr_88le, tr_Nle, tr_ltN, tr_eqN, tr_eq0, tr_eq5, tr_eq10, tr_le0, tr_lt0, tr_10lt, tr_lt10, tr_le10, tr_lt5, tr_le99, tr_le999, tr_999lt, tr_s1, tr_s8, Nat.add_sub_cancel, true_and, not_false_eq_true, forall_const, false_implies, implies_true, and_true, Nat.le_refl, not_true_eq_false]
    exact K
  · rintro n c D hc ⟨h, hic⟩ K'
    subst h
    have z0 : ¬ C i ≤ c := by omega
    rw [wY_delay_82]
    simp (disch := omega) only [forall_eq, tr_m8, tr_m5, tr_8m, tr_5m, tr_p8, tr_p5, nI_add, nI_1, tr_ap, nI_clamp, tr_upd, vp_in_nI, nI_leI, nI_ltI, nI_eq, tr_8le, tr_88le, tr_Nle, tr_ltN, tr_eqN, tr_eq0, tr_eq5, tr_eq10, tr_le0, tr_lt0, tr_10lt, tr_lt10, tr_le10, tr_lt5, tr_le99, tr_le999, tr_999lt, tr_s1, tr_s8, Nat.add_sub_cancel, true_and, not_false_eq_true, forall_const, false_implies, implies_true, and_true, z0]
    exact K' _ ⟨tz_dls (by omega), by omega⟩
theorem tz_y41 {post : Int32 → SY → Prop} {i k d : Nat} (hi : i < 10) (hk : k < C i) (hd : d ≤ 99) (hC : ∀ j, C j ≤ 5) (hM : ∀ j, M j ≤ 999) (K1 : (∀ c, k ≤ c → c < C i → M (5 * i + c) + d ≤ 999) → post 1 (fT, tr_f C, tr_f S, tr_f (tz_dl M d (5 * i + k) (5 * i + C i)), tr_f W, tr_f O, tr_f H)) (K0 : (∃ c, k ≤ c ∧ c < C i ∧ ¬ M (5 * i + c) + d ≤ 999) → post 0 (fT, tr_f C, tr_f S, tr_f M, tr_f W, tr_f O, tr_f H)) : ∃ n, wY_delay_41 post (nI i) (nI k) (nI d) fT (tr_f C) (tr_f S) (tr_f M) (tr_f W) (tr_f O) (tr_f H) n (nI k) := by
  have c1 := hC i
  refine ⟨6, loop_i (σ := Unit) (fun n c _ => wY_delay_41 post (nI i) (nI k) (nI d) fT (tr_f C) (tr_f S) (tr_f M) (tr_f W) (tr_f O) (tr_f H) n (nI c)) (fun c _ => k ≤ c ∧ ∀ p, k ≤ p → p < c → M (5 * i + p) + d ≤ 999) (C i) ?_ ?_ _ k () (by omega) (by omega) ⟨Nat.le_refl _, fun p h1 h2 => by omega⟩⟩
  · rintro n _ ⟨_, h⟩
    rw [wY_delay_41]
    simp (disch := omega) only [forall_eq, tr_m8, tr_m5, tr_8m, tr_5m, tr_p8, tr_p5, nI_add, nI_1, tr_ap, nI_clamp, tr_upd, vp_in_nI, nI_leI, nI_ltI, nI_eq, tr_8le, tr_88le, tr_Nle, tr_ltN, tr_eqN, tr_eq0, tr_eq5, tr_eq10, tr_le0, tr_lt0, tr_10lt, tr_lt10, tr_le10, tr_lt5, tr_le99, tr_le999, tr_999lt, tr_s1, tr_s8, Nat.add_sub_cancel, true_and, not_false_eq_true, forall_const, false_implies, implies_true, and_true, Nat.le_refl, not_true_eq_false]
    exact tz_y82 hi hk hd hC (K1 h)
  · rintro n c _ hc ⟨hkc, h⟩ K'
    have z0 : ¬ C i ≤ c := by omega
    have m1 := hM (5 * i + c)
    rw [wY_delay_41]
    simp (disch := omega) only [forall_eq, tr_m8, tr_m5, tr_8m, tr_5m, tr_p8, tr_p5, nI_add, nI_1, tr_ap, nI_clamp, tr_upd, vp_in_nI, nI_leI, nI_ltI, nI_eq, tr_8le, tr_88le, tr_Nle, tr_ltN, tr_eqN, tr_eq0, tr_eq5, tr_eq10, tr_le0, tr_lt0, tr_10lt, tr_lt10, tr_le10, tr_lt5, tr_le99, tr_le999, tr_999lt, tr_s1, tr_s8, Nat.add_sub_cancel, true_and, not_false_eq_true, forall_const, false_implies, implies_true, and_true, z0]
    refine ⟨fun z => K' () ⟨by omega, fun p h1 h2 => ?_⟩, fun z => K0 ⟨c, hkc, hc, z⟩⟩
    by_cases q : p = c
    · subst q; exact z
    · exact h p h1 (by omega)
end
theorem i_vc_cancel {k : Nat} {u : SX} {v : SY} (I : i_Rel k u v) (hk : k + 5 ≤ 2560) (v1 : Int32) : wpX_cancel (fun r u' => wpY_cancel (fun r' v' => r' = r ∧ i_Rel (k + 5) u' v') v v1) u v1 := by
  refine tz_el (P := fun u v => wpX_cancel (fun r u' => wpY_cancel (fun r' v' => r' = r ∧ i_Rel (k + 5) u' v') v v1) u v1) I ?_
  intro T C S M W fb fr B R O H ok hB hR hO hH
  obtain ⟨hT, hC, hS, hM, hW, hC1, hso⟩ := id ok
  rcases tz_ix v1 T (by omega) with z | ⟨z, _, y⟩ | ⟨i, hi, rfl⟩
  · exact br_t z (br_t z ⟨rfl, tz_in ok hB hR hO hH⟩)
  · exact br_f z (br_f y (br_f z (br_f y ⟨rfl, tz_in ok hB hR hO hH⟩)))
  · cases T with
    | zero => omega
    | succ N =>
      have z : ¬ nI i < (0 : Int32) := nI_pos (by omega)
      have y : nI i < nI (N + 1) := nI_lt hi (by omega)
      refine br_f z (br_t y (nm_r (nI_pred N) (nm_r (tr_m5 i) ?_)))
      refine tz_x28 (by omega) (by omega) hC hS hM ?_
      refine br_f z (br_t y (nm_r (nI_pred N) ?_))
      exact tz_y26 (by omega) (by omega) ⟨rfl, tz_in (tz_ok_cancel ok (by omega)) hB hR hO hH⟩
theorem i_vc_delay {k : Nat} {u : SX} {v : SY} (I : i_Rel k u v) (hk : k + 5 ≤ 2560) (v1 : Int32) (v2 : Int32) (v3 : Int32) : wpX_delay (fun r u' => wpY_delay (fun r' v' => r' = r ∧ i_Rel (k + 5) u' v') v v1 v2 v3) u v1 v2 v3 := by
  refine tz_el (P := fun u v => wpX_delay (fun r u' => wpY_delay (fun r' v' => r' = r ∧ i_Rel (k + 5) u' v') v v1 v2 v3) u v1 v2 v3) I ?_
  intro T C S M W fb fr B R O H ok hB hR hO hH
  obtain ⟨hT, hC, hS, hM, hW, hC1, hso⟩ := id ok
  have ret : ∀ r : Int32, r = r ∧ i_Rel (k + 5) (nI T, fb, fr, tr_f C, tr_f S, tr_f M, tr_f W, tr_f B, tr_f R) (nI T, tr_f C, tr_f S, tr_f M, tr_f W, tr_f O, tr_f H) := fun r => ⟨rfl, tz_in ok hB hR hO hH⟩
  rcases tz_ix v1 T (by omega) with z | ⟨z, y, _⟩ | ⟨i, hi, rfl⟩
  · exact br_t z (br_t z (ret 0))
  · exact br_f z (br_t y (br_f z (br_t y (ret 0))))
  · have c1 := hC i
    have c0 := hC1 i hi
    have z : ¬ nI i < (0 : Int32) := nI_pos (by omega)
    have y : ¬ nI T ≤ nI i := nI_ge hi (by omega)
    have vi : vp_in (nI i) 10 := vp_in_nI (by omega) (by decide)
    have eC : tr_f C (nI i).toNatClampNeg = nI (C i) := by rw [nI_clamp (by omega), tr_ap]
    refine br_f z (br_f y ?_)
    rcases tz_ix v2 (C i) (by omega) with z2 | ⟨z2, y2, _⟩ | ⟨p, hp, rfl⟩
    · exact br_t z2 (br_f z (br_f y (br_t z2 (ret 0))))
    · rw [← eC] at y2
      exact br_f z2 ⟨vi, br_t y2 (br_f z (br_f y (br_f z2 ⟨vi, br_t y2 (ret 0)⟩)))⟩
    · have z2 : ¬ nI p < (0 : Int32) := nI_pos (by omega)
      have y2 : ¬ tr_f C (nI i).toNatClampNeg ≤ nI p := by rw [eC]; exact nI_ge hp (by omega)
      refine br_f z2 ⟨vi, br_f y2 ?_⟩
      rcases tz_ix v3 100 (by decide) with z3 | ⟨z3, y3, _⟩ | ⟨d, hd, rfl⟩
      · exact br_t z3 (br_f z (br_f y (br_f z2 ⟨vi, br_f y2 (br_t z3 (ret 0))⟩)))
      · have q : ¬ v3 ≤ (99 : Int32) := by
          rw [Int32.not_le]
          exact Int32.lt_of_lt_of_le (nI_lt (a := 99) (b := 100) (by decide) (by decide)) y3
        exact br_f z3 (br_f q (br_f z (br_f y (br_f z2 ⟨vi, br_f y2 (br_f z3 (br_f q (ret 0)))⟩))))
      · have z3 : ¬ nI d < (0 : Int32) := nI_pos (by omega)
        have q : nI d ≤ (99 : Int32) := nI_le (b := 99) (by omega) (by decide)
        have m1 := hM (5 * i + C i - 1)
        have e1 : (5 : Int32) * nI i + tr_f C (nI i).toNatClampNeg - 1 = nI (5 * i + C i - 1) := by rw [eC, tr_m5, nI_add, tr_s1 (by omega)]
        have e2 : tr_f M ((5 : Int32) * nI i + tr_f C (nI i).toNatClampNeg - 1).toNatClampNeg + nI d = nI (M (5 * i + C i - 1) + d) := by rw [e1, nI_clamp (by omega), tr_ap, nI_add]
        have e3 : (5 : Int32) * nI i + nI p = nI (5 * i + p) := by rw [tr_m5, nI_add]
        refine br_f z3 (br_t q ⟨vi, pk_in (5 * i + C i - 1) 50 (by omega) e1, ?_⟩)
        by_cases w : M (5 * i + C i - 1) + d ≤ 999
        · have wx : tr_f M ((5 : Int32) * nI i + tr_f C (nI i).toNatClampNeg - 1).toNatClampNeg + nI d ≤ (999 : Int32) := by rw [e2]; exact nI_le (b := 999) w (by decide)
          refine br_t wx (nm_r e3 (tz_x72 (by omega) hp (by omega) hC hM ?_))
          refine br_f z (br_f y (br_f z2 ⟨vi, br_f y2 (br_f z3 (br_t q (tz_y41 (by omega) hp (by omega) hC hM ?_ ?_)))⟩))
          · intro _
            exact ⟨rfl, tz_in (tz_ok_delay ok hi hp w) hB hR hO hH⟩
          · rintro ⟨c, g1, g2, g3⟩
            have e := tp_inc2 ok hi (p := c) (c := C i - 1) (by omega) (by omega)
            rw [show 5 * i + (C i - 1) = 5 * i + C i - 1 from by omega] at e
            omega
        · have wx : ¬ tr_f M ((5 : Int32) * nI i + tr_f C (nI i).toNatClampNeg - 1).toNatClampNeg + nI d ≤ (999 : Int32) := by rw [e2, tr_le999 (by omega)]; exact w
          refine br_f wx ?_
          refine br_f z (br_f y (br_f z2 ⟨vi, br_f y2 (br_f z3 (br_t q (tz_y41 (by omega) hp (by omega) hC hM ?_ ?_)))⟩))
          · intro g
            have e := g (C i - 1) (by omega) (by omega)
            rw [show 5 * i + (C i - 1) = 5 * i + C i - 1 from by omega] at e
            exact absurd e w
          · intro _
            exact ret 0
end
section
/-! arrival, fewest, choices, within: the loops -/
section
variable {T : Nat} {C S M W : Nat → Nat} {fT fb fr : Int32} {a t : Nat} {B R O H : Nat → Nat}
theorem tz_val {rides r b : Nat} (F : tx_SF T C S M W a t rides r B) (hb : b < 8) : ∀ x, (B (8 * r + b) ≤ x ↔ 100000 ≤ x ∨ tp_at T C S M W a t (rides + 1) b x) := by
  intro x
  rw [F.2.2.1 r (Nat.le_refl r) b hb x]
  have h := F.1
  constructor
  · rintro (z | z)
    · exact Or.inl z
    · exact Or.inr (tp_at_m (by omega) z)
  · rintro (z | z)
    · exact Or.inl z
    · exact Or.inr (F.2.2.2 _ _ _ (Nat.le_refl _) z)
theorem tz_fx {post : Int32 → SX → Prop} {r b : Nat} (hr : r ≤ 10) (hb : b < 8) (hB : ∀ j, B j ≤ 100000) (K1 : ∀ q, q ≤ r → B (8 * q + b) < 100000 → (∀ p, p < q → ¬ B (8 * p + b) < 100000) → post (nI q) (fT, fb, nI r, tr_f C, tr_f S, tr_f M, tr_f W, tr_f B, tr_f R)) (K0 : (∀ p, p ≤ r → ¬ B (8 * p + b) < 100000) → post (-3) (fT, fb, nI r, tr_f C, tr_f S, tr_f M, tr_f W, tr_f B, tr_f R)) : ∃ n, wX_fewest_37 post (nI b) fT fb (nI r) (tr_f C) (tr_f S) (tr_f M) (tr_f W) (tr_f B) (tr_f R) n 0 := by
  refine loop_0 (σ := Unit) (fun n k _ => wX_fewest_37 post (nI b) fT fb (nI r) (tr_f C) (tr_f S) (tr_f M) (tr_f W) (tr_f B) (tr_f R) n (nI k)) (fun k _ => ∀ p, p < k → ¬ B (8 * p + b) < 100000) (r + 1) () (fun p hp => absurd hp (Nat.not_lt_zero p)) ?_ ?_
  · intro n _ h
    exact br_t (nI_lt (by omega) (by omega)) (K0 (fun p hp => h p (by omega)))
  · intro n k _ hk h K'
    have b1 := hB (8 * k + b)
    refine br_f (nI_nlt (by omega) (by omega)) ?_
    simp (disch := omega) only [forall_eq, tr_m8, tr_m5, tr_8m, tr_5m, tr_p8, tr_p5, nI_add, nI_1, tr_ap, nI_clamp, tr_upd, vp_in_nI, nI_leI, nI_ltI, nI_eq, tr_8le, tr_88le, tr_Nle, tr_ltN, tr_eqN, tr_eq0, tr_eq5, tr_eq10, tr_le0, tr_lt0, tr_10lt, tr_lt10, tr_le10, tr_lt5, tr_le99, tr_le999, tr_999lt, tr_s1, tr_s8, Nat.add_sub_cancel, true_and, not_false_eq_true, forall_const, false_implies, implies_true, and_true]
    refine ⟨fun z => K' () ?_, fun z => K1 k (by omega) (by omega) h⟩
    intro p hp
    by_cases q : p = k
    · subst q; omega
    · exact h p (by omega)
theorem tz_fy {post : Int32 → SY → Prop} {b : Nat} (hb : b < 8) (hH : ∀ j, H j ≤ 100000) (K1 : ∀ q, q ≤ 10 → H (8 * q + b) < 100000 → (∀ p, p < q → ¬ H (8 * p + b) < 100000) → post (nI q) (fT, tr_f C, tr_f S, tr_f M, tr_f W, tr_f O, tr_f H)) (K0 : (∀ p, p ≤ 10 → ¬ H (8 * p + b) < 100000) → post (-3) (fT, tr_f C, tr_f S, tr_f M, tr_f W, tr_f O, tr_f H)) : ∃ n, wY_fewest_35 post (nI b) fT (tr_f C) (tr_f S) (tr_f M) (tr_f W) (tr_f O) (tr_f H) n 0 := by
  refine loop_0 (σ := Unit) (fun n k _ => wY_fewest_35 post (nI b) fT (tr_f C) (tr_f S) (tr_f M) (tr_f W) (tr_f O) (tr_f H) n (nI k)) (fun k _ => ∀ p, p < k → ¬ H (8 * p + b) < 100000) 11 () (fun p hp => absurd hp (Nat.not_lt_zero p)) ?_ ?_
  · intro n _ h
    exact br_t (nI_lt (a := 10) (b := 11) (by omega) (by omega)) (K0 (fun p hp => h p (by omega)))
  · intro n k _ hk h K'
    have b1 := hH (8 * k + b)
    refine br_f (nI_nlt (a := 10) (by omega) (by omega)) ?_
    simp (disch := omega) only [forall_eq, tr_m8, tr_m5, tr_8m, tr_5m, tr_p8, tr_p5, nI_add, nI_1, tr_ap, nI_clamp, tr_upd, vp_in_nI, nI_leI, nI_ltI, nI_eq, tr_8le, tr_88le, tr_Nle, tr_ltN, tr_eqN, tr_eq0, tr_eq5, tr_eq10, tr_le0, tr_lt0, tr_10lt, tr_lt10, tr_le10, tr_lt5, tr_le99, tr_le999, tr_999lt, tr_s1, tr_s8, Nat.add_sub_cancel, true_and, not_false_eq_true, forall_const, false_implies, implies_true, and_true]
    refine ⟨fun z => K' () ?_, fun z => K1 k (by omega) (by omega) h⟩
    intro p hp
    by_cases q : p = k
    · subst q; omega
    · exact h p (by omega)
/-- the first row below 100000 is one and the same -/
theorem tz_few {r b : Nat} (F : tx_SF T C S M W a t 10 r B) (G : ty_YF T C S M W a t H) (hb : b < 8) : (∀ q, q ≤ r → B (8 * q + b) < 100000 → ∃ k, k ≤ q ∧ H (8 * k + b) < 100000) ∧ (∀ q, q ≤ 10 → H (8 * q + b) < 100000 → ∃ k, k ≤ q ∧ k ≤ r ∧ B (8 * k + b) < 100000) := by
  have hr := F.1
  constructor
  · intro q hq z
    rcases (F.2.2.1 q hq b hb _).mp (Nat.le_refl _) with y | ⟨k, hk, y⟩
    · omega
    · have e := (G.2 k (by omega) b hb _).mpr (Or.inr y)
      exact ⟨k, by omega, by omega⟩
  · intro q hq z
    rcases (G.2 q hq b hb _).mp (Nat.le_refl _) with y | y
    · omega
    · by_cases h : q ≤ r
      · have e := (F.2.2.1 q h b hb _).mpr (Or.inr ⟨q, by omega, y⟩)
        exact ⟨q, by omega, h, by omega⟩
      · have e := (F.2.2.1 r (Nat.le_refl r) b hb _).mpr (Or.inr (F.2.2.2 (q + 1) b _ (by omega) ⟨q, by omega, y⟩))
        exact ⟨r, by omega, by omega, by omega⟩
def tz_bf (B : Nat → Nat) (b : Nat) : Nat → Nat
  | 0 => 100000
  | r + 1 => B (8 * r + b)
theorem tz_bfb {b : Nat} (hB : ∀ j, B j ≤ 100000) : ∀ r, tz_bf B b r ≤ 100000 := by
  intro r
  cases r with
  | zero => exact Nat.le_refl _
  | succ r => exact hB _
theorem tz_chx {post : Int32 → SX → Prop} {r b : Nat} (hr : r ≤ 10) (hb : b < 8) (hB : ∀ j, B j ≤ 100000) (K : post (nI (tr_cn (fun q => decide (B (8 * q + b) < tz_bf B b q)) (r + 1))) (fT, fb, nI r, tr_f C, tr_f S, tr_f M, tr_f W, tr_f B, tr_f R)) : ∃ n, wX_choices_44 post (nI b) fT fb (nI r) (tr_f C) (tr_f S) (tr_f M) (tr_f W) (tr_f B) (tr_f R) n 0 100000 0 := by
  refine loop_0 (σ := Nat × Nat) (fun n k q => wX_choices_44 post (nI b) fT fb (nI r) (tr_f C) (tr_f S) (tr_f M) (tr_f W) (tr_f B) (tr_f R) n (nI q.1) (nI q.2) (nI k)) (fun k q => q = (tr_cn (fun q => decide (B (8 * q + b) < tz_bf B b q)) k, tz_bf B b k)) (r + 1) (0, 100000) rfl ?_ ?_
  · intro n q h
    subst h
    exact br_t (nI_lt (by omega) (by omega)) K
  · intro n k q hk h K'
    subst h
    have b1 := hB (8 * k + b)
    have b2 := tz_bfb (b := b) hB k
    refine br_f (nI_nlt (by omega) (by omega)) ?_
    simp (disch := omega) only [forall_eq, tr_m8, tr_m5, tr_8m, tr_5m, tr_p8, tr_p5, nI_add, nI_1, tr_ap, nI_clamp, tr_upd, vp_in_nI, nI_leI, nI_ltI, nI_eq, tr_8le, tr_88le, tr_Nle, tr_ltN, tr_eqN, tr_eq0, tr_eq5, tr_eq10, tr_le0, tr_lt0, tr_10lt, tr_lt10, tr_le10, tr_lt5, tr_le99, tr_le999, tr_999lt, tr_s1, tr_s8, Nat.add_sub_cancel, true_and, not_false_eq_true, forall_const, false_implies, implies_true, and_true]
    refine ⟨fun z => K' (tr_cn (fun q => decide (B (8 * q + b) < tz_bf B b q)) k, B (8 * k + b)) ?_, fun z => K' (tr_cn (fun q => decide (B (8 * q + b) < tz_bf B b q)) k + 1, B (8 * k + b)) ?_⟩
    · rw [tr_cns, if_neg (by simp; omega)]
      rfl
    · rw [tr_cns, if_pos (by simp; omega)]
      rfl
theorem tz_chy {post : Int32 → SY → Prop} {b : Nat} (p : Nat → Bool) (hp : ∀ q, p q = decide (H (8 * q + b) < ty_mn H b q)) (hb : b < 8) (hH : ∀ j, H j ≤ 100000) (K : post (nI (tr_cn p 11)) (fT, tr_f C, tr_f S, tr_f M, tr_f W, tr_f O, tr_f H)) (c : Nat) (hc : c = tr_cn p 1) : ∃ n, wY_choices_53 post (nI b) fT (tr_f C) (tr_f S) (tr_f M) (tr_f W) (tr_f O) (tr_f H) n (nI c) 1 := by
  refine ⟨11, loop_i (σ := Nat) (fun n k c => wY_choices_53 post (nI b) fT (tr_f C) (tr_f S) (tr_f M) (tr_f W) (tr_f O) (tr_f H) n (nI c) (nI k)) (fun k c => 1 ≤ k ∧ c = tr_cn p k) 11 ?_ ?_ _ 1 c (by omega) (by omega) ⟨Nat.le_refl 1, hc⟩⟩
  · rintro n c ⟨_, h⟩
    rw [← h] at K
    exact br_t (nI_lt (a := 10) (b := 11) (by omega) (by omega)) K
  · rintro n k c hk ⟨h1, h⟩ K'
    have b1 := hH (8 * k + b)
    have b2 := ty_mnb H b k
    have e1 : nI k * (8 : Int32) + nI b = nI (8 * k + b) := by rw [tr_8m, nI_add]
    refine br_f (nI_nlt (a := 10) (by omega) (by omega)) ⟨pk_in (8 * k + b) 88 (by omega) e1, ?_⟩
    rw [e1, tr_s1 h1, nI_clamp (show 8 * k + b < 2 ^ 31 by omega), tr_ap]
    refine ty_best hb (by omega) hH ?_
    rw [show k - 1 + 1 = k from by omega]
    refine br_c (fun z => nm_r (nI_1 k) (K' c ⟨by omega, ?_⟩)) (fun z => nm_r (nI_1 c) (nm_r (nI_1 k) (K' (c + 1) ⟨by omega, ?_⟩)))
    · rw [nI_leI (by omega) (by omega)] at z
      rw [tr_cns, hp, if_neg (by simp; omega)]
      exact h
    · rw [nI_leI (by omega) (by omega)] at z
      rw [tr_cns, hp, if_pos (by simp; omega), h]
theorem tz_cho {r b : Nat} (F : tx_SF T C S M W a t 10 r B) (G : ty_YF T C S M W a t H) (hb : b < 8) : tr_cn (fun q => decide (H (8 * q + b) < ty_mn H b q)) 11 = tr_cn (fun q => decide (B (8 * q + b) < tz_bf B b q)) (r + 1) := by
  have hr := F.1
  have e1 : tr_cn (fun q => decide (H (8 * q + b) < ty_mn H b q)) (r + 1 + (10 - r)) = tr_cn (fun q => decide (H (8 * q + b) < ty_mn H b q)) (r + 1) := by
    apply tr_cnf
    intro j h1 h2
    apply decide_eq_false
    intro z
    have m1 := ty_mnb H b j
    rcases (G.2 j (by omega) b hb _).mp (Nat.le_refl _) with y | y
    · omega
    · have g := F.2.2.2 (j + 1) b _ (by omega) ⟨j, by omega, y⟩
      have g2 := (ty_mn_at G hb j (by omega) _).mpr (Or.inr (tp_at_m h1 g))
      omega
  rw [show r + 1 + (10 - r) = 11 from by omega] at e1
  rw [e1]
  apply tr_cne
  intro j hj
  have em : tz_bf B b j = ty_mn H b j := by
    cases j with
    | zero => rfl
    | succ j => exact tp_eq (F.2.2.1 j (by omega) b hb) (ty_mn_at G hb (j + 1) (by omega))
  have e2 : ∀ x, (B (8 * j + b) ≤ x ↔ ty_mn H b j ≤ x ∨ H (8 * j + b) ≤ x) := by
    intro x
    rw [F.2.2.1 j (by omega) b hb x, ty_mn_at G hb j (by omega) x, G.2 j (by omega) b hb x, tp_at_s]
    constructor
    · rintro (z | (z | z))
      · exact Or.inl (Or.inl z)
      · exact Or.inl (Or.inr z)
      · exact Or.inr (Or.inr z)
    · rintro ((z | z) | (z | z))
      · exact Or.inl z
      · exact Or.inr (Or.inl z)
      · exact Or.inl z
      · exact Or.inr (Or.inr z)
  rw [em]
  have x1 := e2 (B (8 * j + b))
  have x2 := e2 (H (8 * j + b))
  have x3 : (H (8 * j + b) < ty_mn H b j) ↔ (B (8 * j + b) < ty_mn H b j) := by omega
  simp only [x3]
theorem tz_wx {post : Int32 → SX → Prop} {r y : Nat} (hr : r ≤ 10) (hy : y ≤ 999) (hB : ∀ j, B j ≤ 100000) (K : post (tr_mk (fun s => decide (B (8 * r + s) ≤ y)) 8) (fT, fb, nI r, tr_f C, tr_f S, tr_f M, tr_f W, tr_f B, tr_f R)) : ∃ n, wX_within_40 post (nI y) fT fb (nI r) (tr_f C) (tr_f S) (tr_f M) (tr_f W) (tr_f B) (tr_f R) n 0 0 := by
  refine loop_0 (σ := Int32) (fun n k m => wX_within_40 post (nI y) fT fb (nI r) (tr_f C) (tr_f S) (tr_f M) (tr_f W) (tr_f B) (tr_f R) n m (nI k)) (fun k m => m = tr_mk (fun s => decide (B (8 * r + s) ≤ y)) k) 8 0 rfl ?_ ?_
  · intro n m h
    subst h
    exact br_t (nI_le (a := 8) (b := 8) (Nat.le_refl 8) (by decide)) K
  · intro n i m hi h K'
    have b1 := hB (8 * r + i)
    refine br_f (nI_ge (a := i) (b := 8) hi (by decide)) ?_
    simp (disch := omega) only [forall_eq, tr_m8, tr_m5, tr_8m, tr_5m, tr_p8, tr_p5, nI_add, nI_1, tr_ap, nI_clamp, tr_upd, vp_in_nI, nI_leI, nI_ltI, nI_eq, tr_8le, tr_88le, tr_Nle, tr_ltN, tr_eqN, tr_eq0, tr_eq5, tr_eq10, tr_le0, tr_lt0, tr_10lt, tr_lt10, tr_le10, tr_lt5, tr_le99, tr_le999, tr_999lt, tr_s1, tr_s8, Nat.add_sub_cancel, true_and, not_false_eq_true, forall_const, false_implies, implies_true, and_true]
    refine ⟨fun z => K' _ ?_, fun z => K' _ ?_⟩
    · rw [tr_mks, if_neg (by simp; omega)]
      exact h
    · rw [tr_mks, if_pos (by simp; omega), h]
theorem tz_wy {post : Int32 → SY → Prop} {y : Nat} (p : Nat → Bool) (hp : ∀ s, p s = decide (ty_mn H s 11 ≤ y)) (hy : y ≤ 999) (hH : ∀ j, H j ≤ 100000) (K : post (tr_mk p 8) (fT, tr_f C, tr_f S, tr_f M, tr_f W, tr_f O, tr_f H)) : ∃ n, wY_within_38 post (nI y) fT (tr_f C) (tr_f S) (tr_f M) (tr_f W) (tr_f O) (tr_f H) n 0 0 := by
  refine loop_0 (σ := Int32) (fun n k m => wY_within_38 post (nI y) fT (tr_f C) (tr_f S) (tr_f M) (tr_f W) (tr_f O) (tr_f H) n m (nI k)) (fun k m => m = tr_mk p k) 8 0 rfl ?_ ?_
  · intro n m h
    rw [← h] at K
    exact br_t (nI_le (a := 8) (b := 8) (Nat.le_refl 8) (by decide)) K
  · intro n i m hi h K'
    have b1 := ty_mnb H i 11
    refine br_f (nI_ge (a := i) (b := 8) hi (by decide)) ?_
    refine ty_best (r := 10) hi (by omega) hH ?_
    rw [show (10 : Nat) + 1 = 11 from rfl]
    refine br_c (fun z => nm_r (nI_1 i) (K' m ?_)) (fun z => nm_e (nm_r (nI_1 i) (K' _ ?_)))
    · rw [nI_ltI (by omega) (by omega)] at z
      rw [tr_mks, hp, if_neg (by simp; omega)]
      exact h
    · rw [nI_ltI (by omega) (by omega)] at z
      rw [tr_mks, hp, if_pos (by simp; omega), h]
end
end
section
/-! leave: the loops -/
section
variable {T : Nat} {C S M W : Nat → Nat} {a : Nat}
def tz_lv (l : Nat) : Int32 := if l = 0 then -3 else nI (l - 1)
theorem tz_lx (ok : tp_ok T C S M W) {post : Int32 → SX → Prop} {b y : Nat} (ha : a < 8) (hb : b < 8) (hy : y ≤ 999) (K : ∀ l fb fr B R, l ≤ 1000 → (∀ j, B j ≤ 100000) → (∀ j, R j ≤ 100000) → (l = 0 ∨ tp_at T C S M W a (l - 1) 11 b y) → (l = 1000 ∨ ¬ tp_at T C S M W a l 11 b y) → post (tz_lv l) (nI T, fb, fr, tr_f C, tr_f S, tr_f M, tr_f W, tr_f B, tr_f R)) : ∀ d l h fb fr B R, l ≤ h → h ≤ 1000 → h - l ≤ d → (∀ j, B j ≤ 100000) → (∀ j, R j ≤ 100000) → (l = 0 ∨ tp_at T C S M W a (l - 1) 11 b y) → (h = 1000 ∨ ¬ tp_at T C S M W a h 11 b y) → wX_leave_34 post (nI a) (nI b) (nI y) (d + 1) (nI l - 1) (nI h) (nI T) fb fr (tr_f C) (tr_f S) (tr_f M) (tr_f W) (tr_f B) (tr_f R) := by
  have done : ∀ d l fb fr B R, l ≤ 1000 → (∀ j, B j ≤ 100000) → (∀ j, R j ≤ 100000) → (l = 0 ∨ tp_at T C S M W a (l - 1) 11 b y) → (l = 1000 ∨ ¬ tp_at T C S M W a l 11 b y) → wX_leave_34 post (nI a) (nI b) (nI y) (d + 1) (nI l - 1) (nI l) (nI T) fb fr (tr_f C) (tr_f S) (tr_f M) (tr_f W) (tr_f B) (tr_f R) := by
    intro d l fb fr B R hl hB hR h1 h2
    have e : nI l - (nI l - 1) = (1 : Int32) := by grind
    have k := K l fb fr B R hl hB hR h1 h2
    refine br_t (by rw [e]; decide) ?_
    unfold tz_lv at k
    by_cases z : l = 0
    · rw [if_pos z] at k
      subst z
      exact br_f (by decide) k
    · rw [if_neg z] at k
      rw [tr_s1 (by omega)]
      exact br_t (nI_pos' (by omega)) k
  intro d
  induction d with
  | zero =>
    intro l h fb fr B R h1 h2 h3 hB hR h4 h5
    have e : h = l := by omega
    subst e
    exact done 0 h fb fr B R h2 hB hR h4 h5
  | succ d ih =>
    intro l h fb fr B R h1 h2 h3 hB hR h4 h5
    by_cases z : h = l
    · subst z
      exact done (d + 1) h fb fr B R h2 hB hR h4 h5
    · have e1 : nI h - (nI l - 1) = nI (h + 1 - l) := by
        rw [show nI h - (nI l - 1) = nI h + 1 - nI l from by grind, nI_1, pk_sub (by omega)]
      have e2 : (nI l - 1 + nI h) / (2 : Int32) = nI ((l + h - 1) / 2) := by
        rw [show nI l - 1 + nI h = nI l + nI h - 1 from by grind, nI_add, tr_s1 (by omega)]
        exact pk_div (d := 2) (by omega) (by decide) (by decide)
      refine br_f (by rw [e1]; exact nI_ge (b := h + 1 - l) (a := 1) (by omega) (by omega)) ⟨by decide, nm_r e2 ?_⟩
      have m1 : l ≤ (l + h - 1) / 2 := by omega
      have m2 : (l + h - 1) / 2 < h := by omega
      have m3 : h - (l + h - 1) / 2 ≤ d + 1 := by omega
      generalize (l + h - 1) / 2 = m at *
      refine tx_search (rides := 10) ok ha (by omega) (by omega) hB hR ?_
      intro fb' r B' R' hR' F
      have b1 := F.2.1 (8 * r + b)
      have r1 := F.1
      have e3 : (8 : Int32) * nI r + nI b = nI (8 * r + b) := by rw [tr_m8, nI_add]
      refine ⟨pk_in (8 * r + b) 88 (by omega) e3, ?_⟩
      rw [e3, nI_clamp (show 8 * r + b < 2 ^ 31 by omega), tr_ap]
      have v := tz_val F hb y
      refine br_c (fun w => ?_) (fun w => ?_)
      · rw [nI_ltI (by omega) (by omega)] at w
        exact ih l m fb' _ B' R' m1 (by omega) (by omega) F.2.1 hR' h4 (Or.inr (fun g => by have := v.mpr (Or.inr g); omega))
      · rw [nI_ltI (by omega) (by omega)] at w
        rw [← nI_pred m]
        refine ih (m + 1) h fb' _ B' R' (by omega) h2 (by omega) F.2.1 hR' (Or.inr ?_) h5
        rcases v.mp (by omega) with g | g
        · omega
        · exact g
theorem tz_ly (ok : tp_ok T C S M W) {post : Int32 → SY → Prop} {b y : Nat} (ha : a < 8) (hb : b < 8) (hy : y ≤ 999) (K : ∀ l O H, l ≤ y + 1 → (∀ j, O j ≤ 100000) → (∀ j, H j ≤ 100000) → (l = 0 ∨ tp_at T C S M W a (l - 1) 11 b y) → (∀ t, l ≤ t → t ≤ y → ¬ tp_at T C S M W a t 11 b y) → post (tz_lv l) (nI T, tr_f C, tr_f S, tr_f M, tr_f W, tr_f O, tr_f H)) : ∀ l O H, l ≤ y + 1 → (∀ j, O j ≤ 100000) → (∀ j, H j ≤ 100000) → (∀ t, l ≤ t → t ≤ y → ¬ tp_at T C S M W a t 11 b y) → wY_leave_29 post (nI a) (nI b) (nI y) (l + 1) (nI l - 1) (nI T) (tr_f C) (tr_f S) (tr_f M) (tr_f W) (tr_f O) (tr_f H) := by
  intro l
  induction l with
  | zero =>
    intro O H hl hO hH h
    exact br_t (by decide) (K 0 O H hl hO hH (Or.inl rfl) h)
  | succ l ih =>
    intro O H hl hO hH h
    rw [nI_pred l]
    refine br_f (nI_pos (by omega)) ?_
    refine ty_search ok ha (by omega) hO hH ?_
    intro O' H' hO' G
    refine ty_best (r := 10) hb (by omega) G.1 ?_
    rw [show (10 : Nat) + 1 = 11 from rfl]
    have b1 := ty_mnb H' b 11
    have v := ty_mn_at G hb 11 (by omega) y
    refine br_c (fun w => ?_) (fun w => ?_)
    · rw [nI_ltI (by omega) (by omega)] at w
      refine nm_r (e' := nI l - 1) (by grind) ?_
      refine ih O' H' (by omega) hO' G.1 (fun t h1 h2 => ?_)
      by_cases q : t = l
      · subst q
        intro g
        have := v.mpr (Or.inr g)
        omega
      · exact h t (by omega) h2
    · rw [nI_ltI (by omega) (by omega)] at w
      refine K (l + 1) O' H' hl hO' G.1 (Or.inr ?_) h
      rcases v.mp (by omega) with g | g
      · omega
      · exact g
theorem tz_ly0 (ok : tp_ok T C S M W) {post : Int32 → SY → Prop} {b y : Nat} {O H : Nat → Nat} (ha : a < 8) (hb : b < 8) (hy : y ≤ 999) (hO : ∀ j, O j ≤ 100000) (hH : ∀ j, H j ≤ 100000) (K : ∀ l O H, l ≤ y + 1 → (∀ j, O j ≤ 100000) → (∀ j, H j ≤ 100000) → (l = 0 ∨ tp_at T C S M W a (l - 1) 11 b y) → (∀ t, l ≤ t → t ≤ y → ¬ tp_at T C S M W a t 11 b y) → post (tz_lv l) (nI T, tr_f C, tr_f S, tr_f M, tr_f W, tr_f O, tr_f H)) : wY_leave_29 post (nI a) (nI b) (nI y) (y + 1 + 1) (nI y) (nI T) (tr_f C) (tr_f S) (tr_f M) (tr_f W) (tr_f O) (tr_f H) := by
  have e := tz_ly ok ha hb hy K (y + 1) O H (Nat.le_refl _) hO hH (fun t h1 h2 => by omega)
  rw [nI_pred y] at e
  exact e
end
end
section
/-! arrival, fewest, choices, leave, within -/
theorem i_vc_arrival {k : Nat} {u : SX} {v : SY} (I : i_Rel k u v) (hk : k + 5 ≤ 2560) (v1 : Int32) (v2 : Int32) (v3 : Int32) (v4 : Int32) : wpX_arrival (fun r u' => wpY_arrival (fun r' v' => r' = r ∧ i_Rel (k + 5) u' v') v v1 v2 v3 v4) u v1 v2 v3 v4 := by
  refine tz_el (P := fun u v => wpX_arrival (fun r u' => wpY_arrival (fun r' v' => r' = r ∧ i_Rel (k + 5) u' v') v v1 v2 v3 v4) u v1 v2 v3 v4) I ?_
  intro T C S M W fb fr B R O H ok hB hR hO hH
  have ret : ∀ r : Int32, r = r ∧ i_Rel (k + 5) (nI T, fb, fr, tr_f C, tr_f S, tr_f M, tr_f W, tr_f B, tr_f R) (nI T, tr_f C, tr_f S, tr_f M, tr_f W, tr_f O, tr_f H) := fun r => ⟨rfl, tz_in ok hB hR hO hH⟩
  unfold wpX_arrival wpY_arrival
  rcases tz_st v1 with ⟨sx, sy⟩ | ⟨a, ha, rfl, sx, sy⟩
  · exact sx _ _ (br_t rfl (sy _ _ (br_t rfl (ret _))))
  · refine sx _ _ (br_f (by decide) ?_)
    rcases tz_st v2 with ⟨tx, ty⟩ | ⟨b, hb, rfl, tx, ty⟩
    · exact tx _ _ (br_t rfl (sy _ _ (br_f (by decide) (ty _ _ (br_t rfl (ret _))))))
    · refine tx _ _ (br_f (by decide) ?_)
      rcases tz_ti v3 with ⟨wx, wy⟩ | ⟨t, ht, rfl, wx, wy⟩
      · exact wx _ _ (br_t rfl (sy _ _ (br_f (by decide) (ty _ _ (br_f (by decide) (wy _ _ (br_t rfl (ret _))))))))
      · refine wx _ _ (br_f (by decide) ?_)
        rcases tz_ix v4 11 (by decide) with z | ⟨z, y, _⟩ | ⟨rides, hr, rfl⟩
        · exact br_t z (sy _ _ (br_f (by decide) (ty _ _ (br_f (by decide) (wy _ _ (br_f (by decide) (br_t z (ret _))))))))
        · have q : ¬ v4 ≤ (10 : Int32) := by
            rw [Int32.not_le]
            exact Int32.lt_of_lt_of_le (nI_lt (a := 10) (b := 11) (by decide) (by decide)) y
          exact br_f z (br_f q (sy _ _ (br_f (by decide) (ty _ _ (br_f (by decide) (wy _ _ (br_f (by decide) (br_f z (br_f q (ret _))))))))))
        · have z : ¬ nI rides < (0 : Int32) := nI_pos (by omega)
          have q : nI rides ≤ (10 : Int32) := nI_le (b := 10) (by omega) (by decide)
          refine br_f z (br_t q (tx_search ok ha ht (by omega) hB hR ?_))
          intro fb' r B' R' hR' F
          have b1 := F.2.1 (8 * r + b)
          have r1 := F.1
          have e3 : (8 : Int32) * nI r + nI b = nI (8 * r + b) := by rw [tr_m8, nI_add]
          have e4 : tr_f B' ((8 : Int32) * nI r + nI b).toNatClampNeg = nI (B' (8 * r + b)) := by rw [e3, nI_clamp (by omega), tr_ap]
          refine ⟨pk_in (8 * r + b) 88 (by omega) e3, nm_r e4 ?_⟩
          by_cases w : B' (8 * r + b) < 100000
          · refine br_t (nI_lt (b := 100000) w (by decide)) ?_
            refine sy _ _ (br_f (by decide) (ty _ _ (br_f (by decide) (wy _ _ (br_f (by decide) (br_f z (br_t q (ty_search ok ha ht hO hH ?_))))))))
            intro O' H' hO' G
            refine ty_best hb (by omega) G.1 ?_
            rw [← tp_eq (tz_val F hb) (ty_mn_at G hb (rides + 1) (by omega))]
            exact br_f (by rw [tr_eqN (by omega)]; omega) ⟨rfl, tz_in ok F.2.1 hR' hO' G.1⟩
          · refine br_f (nI_nlt (b := 100000) (by omega) (by omega)) ?_
            refine sy _ _ (br_f (by decide) (ty _ _ (br_f (by decide) (wy _ _ (br_f (by decide) (br_f z (br_t q (ty_search ok ha ht hO hH ?_))))))))
            intro O' H' hO' G
            refine ty_best hb (by omega) G.1 ?_
            rw [← tp_eq (tz_val F hb) (ty_mn_at G hb (rides + 1) (by omega))]
            exact br_t (by rw [tr_eqN (by omega)]; omega) ⟨rfl, tz_in ok F.2.1 hR' hO' G.1⟩
theorem i_vc_fewest {k : Nat} {u : SX} {v : SY} (I : i_Rel k u v) (hk : k + 5 ≤ 2560) (v1 : Int32) (v2 : Int32) (v3 : Int32) : wpX_fewest (fun r u' => wpY_fewest (fun r' v' => r' = r ∧ i_Rel (k + 5) u' v') v v1 v2 v3) u v1 v2 v3 := by
  refine tz_el (P := fun u v => wpX_fewest (fun r u' => wpY_fewest (fun r' v' => r' = r ∧ i_Rel (k + 5) u' v') v v1 v2 v3) u v1 v2 v3) I ?_
  intro T C S M W fb fr B R O H ok hB hR hO hH
  have ret : ∀ r : Int32, r = r ∧ i_Rel (k + 5) (nI T, fb, fr, tr_f C, tr_f S, tr_f M, tr_f W, tr_f B, tr_f R) (nI T, tr_f C, tr_f S, tr_f M, tr_f W, tr_f O, tr_f H) := fun r => ⟨rfl, tz_in ok hB hR hO hH⟩
  unfold wpX_fewest wpY_fewest
  rcases tz_st v1 with ⟨sx, sy⟩ | ⟨a, ha, rfl, sx, sy⟩
  · exact sx _ _ (br_t rfl (sy _ _ (br_t rfl (ret _))))
  · refine sx _ _ (br_f (by decide) ?_)
    rcases tz_st v2 with ⟨tx, ty⟩ | ⟨b, hb, rfl, tx, ty⟩
    · exact tx _ _ (br_t rfl (sy _ _ (br_f (by decide) (ty _ _ (br_t rfl (ret _))))))
    · refine tx _ _ (br_f (by decide) ?_)
      rcases tz_ti v3 with ⟨wx, wy⟩ | ⟨t, ht, rfl, wx, wy⟩
      · exact wx _ _ (br_t rfl (sy _ _ (br_f (by decide) (ty _ _ (br_f (by decide) (wy _ _ (br_t rfl (ret _))))))))
      · refine wx _ _ (br_f (by decide) (tx_search (rides := 10) ok ha ht (by omega) hB hR ?_))
        intro fb' r B' R' hR' F
        have r1 := F.1
        refine tz_fx r1 hb F.2.1 ?_ ?_
        · intro q hq w1 w2
          refine sy _ _ (br_f (by decide) (ty _ _ (br_f (by decide) (wy _ _ (br_f (by decide) (ty_search ok ha ht hO hH ?_))))))
          intro O' H' hO' G
          obtain ⟨f1, f2⟩ := tz_few F G hb
          obtain ⟨c, hc, hc2⟩ := f1 q hq w1
          refine tz_fy hb G.1 ?_ ?_
          · intro p hp y1 y2
            obtain ⟨d, hd, _, hd2⟩ := f2 p hp y1
            have g1 : ¬ c < p := fun z => y2 c z hc2
            have g2 : ¬ d < q := fun z => w2 d z hd2
            have e : p = q := by omega
            subst e
            exact ⟨rfl, tz_in ok F.2.1 hR' hO' G.1⟩
          · intro y
            exact absurd hc2 (y c (by omega))
        · intro w
          refine sy _ _ (br_f (by decide) (ty _ _ (br_f (by decide) (wy _ _ (br_f (by decide) (ty_search ok ha ht hO hH ?_))))))
          intro O' H' hO' G
          obtain ⟨f1, f2⟩ := tz_few F G hb
          refine tz_fy hb G.1 ?_ ?_
          · intro p hp y1 y2
            obtain ⟨d, hd, hdr, hd2⟩ := f2 p hp y1
            exact absurd hd2 (w d hdr)
          · intro y
            exact ⟨rfl, tz_in ok F.2.1 hR' hO' G.1⟩
theorem i_vc_choices {k : Nat} {u : SX} {v : SY} (I : i_Rel k u v) (hk : k + 5 ≤ 2560) (v1 : Int32) (v2 : Int32) (v3 : Int32) : wpX_choices (fun r u' => wpY_choices (fun r' v' => r' = r ∧ i_Rel (k + 5) u' v') v v1 v2 v3) u v1 v2 v3 := by
  refine tz_el (P := fun u v => wpX_choices (fun r u' => wpY_choices (fun r' v' => r' = r ∧ i_Rel (k + 5) u' v') v v1 v2 v3) u v1 v2 v3) I ?_
  intro T C S M W fb fr B R O H ok hB hR hO hH
  have ret : ∀ r : Int32, r = r ∧ i_Rel (k + 5) (nI T, fb, fr, tr_f C, tr_f S, tr_f M, tr_f W, tr_f B, tr_f R) (nI T, tr_f C, tr_f S, tr_f M, tr_f W, tr_f O, tr_f H) := fun r => ⟨rfl, tz_in ok hB hR hO hH⟩
  unfold wpX_choices wpY_choices
  rcases tz_st v1 with ⟨sx, sy⟩ | ⟨a, ha, rfl, sx, sy⟩
  · exact sx _ _ (br_t rfl (sy _ _ (br_t rfl (ret _))))
  · refine sx _ _ (br_f (by decide) ?_)
    rcases tz_st v2 with ⟨tx, ty⟩ | ⟨b, hb, rfl, tx, ty⟩
    · exact tx _ _ (br_t rfl (sy _ _ (br_f (by decide) (ty _ _ (br_t rfl (ret _))))))
    · refine tx _ _ (br_f (by decide) ?_)
      rcases tz_ti v3 with ⟨wx, wy⟩ | ⟨t, ht, rfl, wx, wy⟩
      · exact wx _ _ (br_t rfl (sy _ _ (br_f (by decide) (ty _ _ (br_f (by decide) (wy _ _ (br_t rfl (ret _))))))))
      · refine wx _ _ (br_f (by decide) (tx_search (rides := 10) ok ha ht (by omega) hB hR ?_))
        intro fb' r B' R' hR' F
        refine tz_chx F.1 hb F.2.1 ?_
        refine sy _ _ (br_f (by decide) (ty _ _ (br_f (by decide) (wy _ _ (br_f (by decide) (ty_search ok ha ht hO hH ?_))))))
        intro O' H' hO' G
        have h0 := G.1 b
        have e0 : tr_cn (fun q => decide (H' (8 * q + b) < ty_mn H' b q)) 1 = if H' b < 100000 then 1 else 0 := by
          rw [tr_cns]
          show (if decide (H' (8 * 0 + b) < 100000) = true then 0 + 1 else 0) = _
          rw [show 8 * 0 + b = b from by omega]
          simp only [decide_eq_true_eq]
        have fin : i_Rel (k + 5) (nI T, fb', nI r, tr_f C, tr_f S, tr_f M, tr_f W, tr_f B', tr_f R') (nI T, tr_f C, tr_f S, tr_f M, tr_f W, tr_f O', tr_f H') := tz_in ok F.2.1 hR' hO' G.1
        refine ⟨vp_in_nI (by omega) (by decide), ?_⟩
        rw [nI_clamp (show b < 2 ^ 31 by omega), tr_ap]
        refine br_c (fun w => ?_) (fun w => ?_)
        · rw [tr_Nle (by omega)] at w
          rw [if_neg (by omega)] at e0
          exact tz_chy _ (fun _ => rfl) hb G.1 ⟨by rw [tz_cho F G hb], fin⟩ 0 e0.symm
        · rw [tr_Nle (by omega)] at w
          rw [if_pos (by omega)] at e0
          exact tz_chy _ (fun _ => rfl) hb G.1 ⟨by rw [tz_cho F G hb], fin⟩ 1 e0.symm
theorem i_vc_leave {k : Nat} {u : SX} {v : SY} (I : i_Rel k u v) (hk : k + 5 ≤ 2560) (v1 : Int32) (v2 : Int32) (v3 : Int32) : wpX_leave (fun r u' => wpY_leave (fun r' v' => r' = r ∧ i_Rel (k + 5) u' v') v v1 v2 v3) u v1 v2 v3 := by
  refine tz_el (P := fun u v => wpX_leave (fun r u' => wpY_leave (fun r' v' => r' = r ∧ i_Rel (k + 5) u' v') v v1 v2 v3) u v1 v2 v3) I ?_
  intro T C S M W fb fr B R O H ok hB hR hO hH
  have ret : ∀ r : Int32, r = r ∧ i_Rel (k + 5) (nI T, fb, fr, tr_f C, tr_f S, tr_f M, tr_f W, tr_f B, tr_f R) (nI T, tr_f C, tr_f S, tr_f M, tr_f W, tr_f O, tr_f H) := fun r => ⟨rfl, tz_in ok hB hR hO hH⟩
  unfold wpX_leave wpY_leave
  rcases tz_st v1 with ⟨sx, sy⟩ | ⟨a, ha, rfl, sx, sy⟩
  · exact sx _ _ (br_t rfl (sy _ _ (br_t rfl (ret _))))
  · refine sx _ _ (br_f (by decide) ?_)
    rcases tz_st v2 with ⟨tx, ty⟩ | ⟨b, hb, rfl, tx, ty⟩
    · exact tx _ _ (br_t rfl (sy _ _ (br_f (by decide) (ty _ _ (br_t rfl (ret _))))))
    · refine tx _ _ (br_f (by decide) ?_)
      rcases tz_ti v3 with ⟨wx, wy⟩ | ⟨y, hy, rfl, wx, wy⟩
      · exact wx _ _ (br_t rfl (sy _ _ (br_f (by decide) (ty _ _ (br_f (by decide) (wy _ _ (br_t rfl (ret _))))))))
      · refine wx _ _ (br_f (by decide) ⟨1001, ?_⟩)
        refine tz_lx ok ha hb hy ?_ 1000 0 1000 fb fr B R (by omega) (by omega) (by omega) hB hR (Or.inl rfl) (Or.inl rfl)
        intro l fb' fr' B' R' hl hB' hR' x1 x2
        refine sy _ _ (br_f (by decide) (ty _ _ (br_f (by decide) (wy _ _ (br_f (by decide) ⟨y + 1 + 1, tz_ly0 ok ha hb hy hO hH ?_⟩)))))
        intro m O' H' hm hO' hH' y1 y2
        have e : m = l := by
          rcases Nat.lt_trichotomy m l with g | g | g
          · rcases x1 with x1 | x1
            · omega
            · have t1 := tp_at_ge ok x1
              exact absurd x1 (y2 (l - 1) (by omega) t1)
          · exact g
          · rcases y1 with y1 | y1
            · omega
            · rcases x2 with x2 | x2
              · omega
              · exact absurd (tp_at_t (by omega) y1) x2
        subst e
        exact ⟨rfl, tz_in ok hB' hR' hO' hH'⟩
theorem i_vc_within {k : Nat} {u : SX} {v : SY} (I : i_Rel k u v) (hk : k + 5 ≤ 2560) (v1 : Int32) (v2 : Int32) (v3 : Int32) : wpX_within (fun r u' => wpY_within (fun r' v' => r' = r ∧ i_Rel (k + 5) u' v') v v1 v2 v3) u v1 v2 v3 := by
  refine tz_el (P := fun u v => wpX_within (fun r u' => wpY_within (fun r' v' => r' = r ∧ i_Rel (k + 5) u' v') v v1 v2 v3) u v1 v2 v3) I ?_
  intro T C S M W fb fr B R O H ok hB hR hO hH
  have ret : ∀ r : Int32, r = r ∧ i_Rel (k + 5) (nI T, fb, fr, tr_f C, tr_f S, tr_f M, tr_f W, tr_f B, tr_f R) (nI T, tr_f C, tr_f S, tr_f M, tr_f W, tr_f O, tr_f H) := fun r => ⟨rfl, tz_in ok hB hR hO hH⟩
  unfold wpX_within wpY_within
  rcases tz_st v1 with ⟨sx, sy⟩ | ⟨a, ha, rfl, sx, sy⟩
  · exact sx _ _ (br_t rfl (sy _ _ (br_t rfl (ret _))))
  · refine sx _ _ (br_f (by decide) ?_)
    rcases tz_ti v2 with ⟨tx, ty⟩ | ⟨t, ht, rfl, tx, ty⟩
    · exact tx _ _ (br_t rfl (sy _ _ (br_f (by decide) (ty _ _ (br_t rfl (ret _))))))
    · refine tx _ _ (br_f (by decide) ?_)
      rcases tz_ti v3 with ⟨wx, wy⟩ | ⟨y, hy, rfl, wx, wy⟩
      · exact wx _ _ (br_t rfl (sy _ _ (br_f (by decide) (ty _ _ (br_f (by decide) (wy _ _ (br_t rfl (ret _))))))))
      · refine wx _ _ (br_f (by decide) (tx_search (rides := 10) ok ha ht (by omega) hB hR ?_))
        intro fb' r B' R' hR' F
        refine tz_wx F.1 hy F.2.1 ?_
        refine sy _ _ (br_f (by decide) (ty _ _ (br_f (by decide) (wy _ _ (br_f (by decide) (ty_search ok ha ht hO hH ?_))))))
        intro O' H' hO' G
        refine tz_wy _ (fun _ => rfl) hy G.1 ⟨tr_mke 8 (fun j hj => ?_), tz_in ok F.2.1 hR' hO' G.1⟩
        rw [tp_eq (tz_val F hj) (ty_mn_at G hj 11 (by omega))]
end
