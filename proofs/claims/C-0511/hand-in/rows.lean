section
theorem pk_us {f : Nat → Int32} {k : Nat} {x : Int32} : upd f k x k = x := if_pos rfl
theorem pk_un {f : Nat → Int32} {k j : Nat} {x : Int32} (h : j ≠ k) : upd f k x j = f j := if_neg h
theorem pk_sub {a b : Nat} (h : b ≤ a) : nI a - nI b = nI (a - b) := by
  obtain ⟨c, rfl⟩ : ∃ c, a = c + b := ⟨a - b, by omega⟩
  rw [← nI_add, Int32.add_sub_cancel, Nat.add_sub_cancel]
theorem pk_m1 (n : Nat) : nI (n + 1) + (-1) = nI n := by
  rw [← nI_1, Int32.add_assoc, show (1 : Int32) + (-1) = 0 from rfl, Int32.add_zero]
theorem pk_mul (a b : Nat) : nI a * nI b = nI (a * b) := (Int32.ofNat_mul a b).symm
theorem pk_sub_toInt {a b : Nat} (ha : a < 2 ^ 30) (hb : b < 2 ^ 30) : (nI a - nI b).toInt = (a : Int) - b := by
  rw [Int32.toInt_sub, nI_toInt (by omega), nI_toInt (by omega)]
  exact Int.bmod_eq_of_le (by omega) (by omega)
theorem pk_sneg {a b : Nat} (hb : b < 2 ^ 30) (h : a < b) : nI a - nI b < 0 := by
  rw [Int32.lt_iff_toInt_lt, pk_sub_toInt (by omega) hb, show (0 : Int32).toInt = 0 from by decide]
  omega
theorem pk_ix (x : Int32) {n : Nat} (hn : n < 2 ^ 31) : x < 0 ∨ nI n ≤ x ∨ ∃ j : Nat, j < n ∧ x = nI j := by
  by_cases h : x < 0
  · exact Or.inl h
  · obtain ⟨j, hj, rfl⟩ := nI_of h
    by_cases h2 : j < n
    · exact Or.inr (Or.inr ⟨j, h2, rfl⟩)
    · exact Or.inr (Or.inl (nI_le (by omega) hj))
theorem pk_le {x y : Int32} {A B : Prop} (a b : Nat) (f : a ≤ b → A) (g : b < a → B) (hx : x = nI a := by rfl) (hy : y = nI b := by rfl) (ha : a < 2 ^ 31 := by omega) (hb : b < 2 ^ 31 := by omega) : (x ≤ y → A) ∧ (¬ x ≤ y → B) := by
  subst hx hy
  rw [nI_leI ha hb]
  exact ⟨f, fun z => g (by omega)⟩
theorem pk_lt {x y : Int32} {A B : Prop} (a b : Nat) (f : a < b → A) (g : b ≤ a → B) (hx : x = nI a := by rfl) (hy : y = nI b := by rfl) (ha : a < 2 ^ 31 := by omega) (hb : b < 2 ^ 31 := by omega) : (x < y → A) ∧ (¬ x < y → B) := by
  subst hx hy
  rw [nI_ltI ha hb]
  exact ⟨f, fun z => g (by omega)⟩
theorem pk_eq {x y : Int32} {A B : Prop} (a b : Nat) (f : a = b → A) (g : a ≠ b → B) (hx : x = nI a := by rfl) (hy : y = nI b := by rfl) (ha : a < 2 ^ 31 := by omega) (hb : b < 2 ^ 31 := by omega) : (x = y → A) ∧ (¬ x = y → B) := by
  subst hx hy
  rw [nI_eq ha hb]
  exact ⟨f, g⟩
theorem pk_in {x : Int32} (n N : Nat) (h : n < N) (hx : x = nI n := by rfl) (hN : N < 2 ^ 31 := by omega) : vp_in x N := by
  subst hx
  exact vp_in_nI h hN
theorem pk_cl {x : Int32} (n : Nat) (hx : x = nI n := by rfl) (h : n < 2 ^ 31 := by omega) : x.toNatClampNeg = n := by
  subst hx
  exact nI_clamp h
theorem pk_tn {n : Nat} (h : n < 2 ^ 32) : (nI n).toBitVec.toNat = n := Nat.mod_eq_of_lt h
theorem pk_and (x : Int32) {m : Int32} (k : Nat) (hm : m.toBitVec.toNat = 2 ^ k - 1) : x &&& m = nI (x.toBitVec.toNat % 2 ^ k) := by
  apply Int32.toBitVec_inj.mp
  apply BitVec.eq_of_toNat_eq
  rw [Int32.toBitVec_and, BitVec.toNat_and, hm, Nat.and_two_pow_sub_one_eq_mod]
  show _ = (BitVec.ofNat 32 _).toNat
  rw [BitVec.toNat_ofNat]
  exact (Nat.mod_eq_of_lt (Nat.lt_of_le_of_lt (Nat.mod_le _ _) x.toBitVec.isLt)).symm
theorem pk_andN {n : Nat} (h : n < 2 ^ 32) {m : Int32} (k : Nat) (hm : m.toBitVec.toNat = 2 ^ k - 1) : nI n &&& m = nI (n % 2 ^ k) := by
  rw [pk_and _ k hm, pk_tn h]
theorem pk_shl (a s : Int32) (k : Nat) (hs : (s.toBitVec.smod 32).toNat = k) : (a <<< s).toBitVec.toNat = a.toBitVec.toNat * 2 ^ k % 2 ^ 32 := by
  show (a.toBitVec <<< (s.toBitVec.smod 32).toNat).toNat = _
  rw [hs, BitVec.toNat_shiftLeft, Nat.shiftLeft_eq]
theorem pk_shlN {n : Nat} (s : Int32) (k : Nat) (hs : (s.toBitVec.smod 32).toNat = k) (h : n * 2 ^ k < 2 ^ 32) : nI n <<< s = nI (n * 2 ^ k) := by
  apply Int32.toBitVec_inj.mp
  apply BitVec.eq_of_toNat_eq
  have hn : n < 2 ^ 32 := Nat.lt_of_le_of_lt (Nat.le_mul_of_pos_right n (Nat.two_pow_pos k)) h
  rw [pk_shl _ _ k hs, pk_tn hn, pk_tn h, Nat.mod_eq_of_lt h]
theorem pk_shr (a s : Int32) (k : Nat) (hs : (s.toBitVec.smod 32).toNat = k) : (a >>> s).toInt = a.toInt >>> k := by
  show (a.toBitVec.sshiftRight (s.toBitVec.smod 32).toNat).toInt = _
  rw [hs, BitVec.toInt_sshiftRight]
  rfl
theorem pk_shrN {n : Nat} (h : n < 2 ^ 31) (s : Int32) (k : Nat) (hs : (s.toBitVec.smod 32).toNat = k) : nI n >>> s = nI (n / 2 ^ k) := by
  apply Int32.toInt_inj.mp
  have h2 : n / 2 ^ k ≤ n := Nat.div_le_self _ _
  rw [pk_shr _ _ k hs, nI_toInt h, nI_toInt (by omega), Int.shiftRight_eq_div_pow]
  rfl
theorem pk_vb (z : Int32) : vp_nar .byte z.toInt8.toInt32 = z.toInt8.toInt32 := by rw [vp_nar_byte]; simp
theorem pk_loop {σ : Type} (W : Nat → Nat → σ → Prop) (I : Nat → σ → Prop) (e i0 : Nat) (s : σ) (hi : i0 ≤ e) (h0 : I i0 s) (hx : ∀ n s, I e s → W (n + 1) e s)
    (hs : ∀ n i s, i < e → I i s → (∀ s', I (i + 1) s' → W n (i + 1) s') → W (n + 1) i s) : ∃ n, W n i0 s :=
  ⟨e + 1, loop_i W I e hx hs (e + 1) i0 s hi (by omega) h0⟩
theorem sb_negT {w : Nat} (h : w < 2 ^ 31) : (-nI w).toInt = -(w : Int) := by
  rw [Int32.toInt_neg, nI_toInt h]
  exact Int.bmod_eq_of_le (by omega) (by omega)
theorem s_l : ∀ n, n < 32 → ((nI n &&& 31).toBitVec.smod 32).toNat = n := by decide +kernel
end
section
/-! the distance by table: g i j says that line i of a and line j of b match -/
def md_in (g : Nat → Nat → Bool) (i : Nat) (p : Nat → Nat) : Nat → Nat
  | 0 => i + 1
  | j + 1 => if g i j = true then p j else 1 + min (p (j + 1)) (md_in g i p j)
def md_dp (g : Nat → Nat → Bool) : Nat → Nat → Nat
  | 0 => fun j => j
  | i + 1 => md_in g i (md_dp g i)
theorem md_00 (g : Nat → Nat → Bool) (j : Nat) : md_dp g 0 j = j := rfl
theorem md_s0 (g : Nat → Nat → Bool) (i : Nat) : md_dp g i 0 = i := by
  cases i with
  | zero => rfl
  | succ i => rfl
theorem md_t {g : Nat → Nat → Bool} {i j : Nat} (h : g i j = true) : md_dp g (i + 1) (j + 1) = md_dp g i j := by
  show (if g i j = true then md_dp g i j else 1 + min (md_dp g i (j + 1)) (md_dp g (i + 1) j)) = _
  rw [if_pos h]
theorem md_f {g : Nat → Nat → Bool} {i j : Nat} (h : ¬ g i j = true) : md_dp g (i + 1) (j + 1) = 1 + min (md_dp g i (j + 1)) (md_dp g (i + 1) j) := by
  show (if g i j = true then md_dp g i j else 1 + min (md_dp g i (j + 1)) (md_dp g (i + 1) j)) = _
  rw [if_neg h]
theorem md_sq {g : Nat → Nat → Bool} {i j : Nat} (h1 : md_dp g i (j + 1) ≤ md_dp g i j + 1) (h2 : md_dp g i j ≤ md_dp g i (j + 1) + 1) (v1 : md_dp g (i + 1) j ≤ md_dp g i j + 1) (v2 : md_dp g i j ≤ md_dp g (i + 1) j + 1) :
    (md_dp g (i + 1) (j + 1) ≤ md_dp g i (j + 1) + 1 ∧ md_dp g i (j + 1) ≤ md_dp g (i + 1) (j + 1) + 1) ∧ (md_dp g (i + 1) (j + 1) ≤ md_dp g (i + 1) j + 1 ∧ md_dp g (i + 1) j ≤ md_dp g (i + 1) (j + 1) + 1) := by
  by_cases h : g i j = true
  · rw [md_t h]; omega
  · rw [md_f h]; omega
theorem md_V {g : Nat → Nat → Bool} {i : Nat} (H : ∀ j, md_dp g i (j + 1) ≤ md_dp g i j + 1 ∧ md_dp g i j ≤ md_dp g i (j + 1) + 1) : ∀ j, md_dp g (i + 1) j ≤ md_dp g i j + 1 ∧ md_dp g i j ≤ md_dp g (i + 1) j + 1 := by
  intro j
  induction j with
  | zero =>
    have a := md_s0 g i
    have b := md_s0 g (i + 1)
    omega
  | succ j ih => exact (md_sq (H j).1 (H j).2 ih.1 ih.2).1
theorem md_H (g : Nat → Nat → Bool) : ∀ i j, md_dp g i (j + 1) ≤ md_dp g i j + 1 ∧ md_dp g i j ≤ md_dp g i (j + 1) + 1 := by
  intro i
  induction i with
  | zero =>
    intro j
    have a := md_00 g j
    have b := md_00 g (j + 1)
    omega
  | succ i ih =>
    intro j
    have V := md_V ih j
    exact (md_sq (ih j).1 (ih j).2 V.1 V.2).2
theorem md_lip (g : Nat → Nat → Bool) (i j : Nat) : md_dp g i (j + 1) ≤ md_dp g i j + 1 ∧ md_dp g i j ≤ md_dp g i (j + 1) + 1 ∧ md_dp g (i + 1) j ≤ md_dp g i j + 1 ∧ md_dp g i j ≤ md_dp g (i + 1) j + 1 := by
  have a := md_H g i j
  have b := md_V (md_H g i) j
  omega
theorem md_up1 (g : Nat → Nat → Bool) (i j : Nat) : md_dp g i j ≤ md_dp g (i + 1) (j + 1) := by
  by_cases h : g i j = true
  · rw [md_t h]; omega
  · rw [md_f h]
    have a := md_lip g i j
    omega
theorem md_up (g : Nat → Nat → Bool) (i j t : Nat) : md_dp g i j ≤ md_dp g (i + t) (j + t) := by
  induction t with
  | zero => exact Nat.le_refl _
  | succ t ih => exact Nat.le_trans ih (md_up1 g (i + t) (j + t))
theorem md_par (g : Nat → Nat → Bool) : ∀ i j, (md_dp g i j + i + j) % 2 = 0 := by
  intro i
  induction i with
  | zero =>
    intro j
    have a := md_00 g j
    omega
  | succ i ih =>
    intro j
    induction j with
    | zero =>
      have a := md_s0 g (i + 1)
      omega
    | succ j jh =>
      have a := ih j
      have b := ih (j + 1)
      by_cases h : g i j = true
      · rw [md_t h]; omega
      · rw [md_f h]; omega
theorem md_lo (g : Nat → Nat → Bool) : ∀ i j, i ≤ md_dp g i j + j ∧ j ≤ md_dp g i j + i := by
  intro i
  induction i with
  | zero =>
    intro j
    have a := md_00 g j
    omega
  | succ i ih =>
    intro j
    induction j with
    | zero =>
      have a := md_s0 g (i + 1)
      omega
    | succ j jh =>
      have a := ih j
      have b := ih (j + 1)
      by_cases h : g i j = true
      · rw [md_t h]; omega
      · rw [md_f h]; omega
theorem md_hi (g : Nat → Nat → Bool) : ∀ i j, md_dp g i j ≤ i + j := by
  intro i
  induction i with
  | zero =>
    intro j
    have a := md_00 g j
    omega
  | succ i ih =>
    intro j
    induction j with
    | zero =>
      have a := md_s0 g (i + 1)
      omega
    | succ j jh =>
      have a := ih j
      have b := ih (j + 1)
      by_cases h : g i j = true
      · rw [md_t h]; omega
      · rw [md_f h]; omega
theorem md_N {g : Nat → Nat → Bool} {N M : Nat} (hg : ∀ i j, g i j = true → i < N ∧ j < M) : ∀ i j, i ≤ md_dp g i j + N := by
  intro i
  induction i with
  | zero => intro j; omega
  | succ i ih =>
    intro j
    induction j with
    | zero =>
      have a := md_s0 g (i + 1)
      omega
    | succ j jh =>
      have a := ih j
      have b := ih (j + 1)
      by_cases h : g i j = true
      · have c := hg i j h
        rw [md_t h]; omega
      · rw [md_f h]; omega
theorem md_outr {g : Nat → Nat → Bool} {N M : Nat} (hg : ∀ i j, g i j = true → i < N ∧ j < M) {i : Nat} (hi : N ≤ i) : ∀ j, md_dp g (i + 1) j = md_dp g i j + 1 := by
  intro j
  induction j with
  | zero =>
    have a := md_s0 g (i + 1)
    have b := md_s0 g i
    omega
  | succ j jh =>
    have h : ¬ g i j = true := fun z => by
      have := hg i j z
      omega
    have a := md_lip g i j
    rw [md_f h]; omega
theorem md_outc {g : Nat → Nat → Bool} {N M : Nat} (hg : ∀ i j, g i j = true → i < N ∧ j < M) {j : Nat} (hj : M ≤ j) : ∀ i, md_dp g i (j + 1) = md_dp g i j + 1 := by
  intro i
  induction i with
  | zero =>
    have a := md_00 g (j + 1)
    have b := md_00 g j
    omega
  | succ i ih =>
    have h : ¬ g i j = true := fun z => by
      have := hg i j z
      omega
    have a := md_lip g i j
    rw [md_f h]; omega
theorem md_out {g : Nat → Nat → Bool} {N M : Nat} (hg : ∀ i j, g i j = true → i < N ∧ j < M) (a b : Nat) : md_dp g (N + a) (M + b) = md_dp g N M + a + b := by
  induction a with
  | zero =>
    induction b with
    | zero => rfl
    | succ b ih =>
      have h := md_outc hg (j := M + b) (by omega) (N + 0)
      have e : M + (b + 1) = M + b + 1 := by omega
      rw [e, h]; omega
  | succ a ih =>
    have h := md_outr hg (i := N + a) (by omega) (M + b)
    have e : N + (a + 1) = N + a + 1 := by omega
    rw [e, h]; omega
/-- (x, y) is the furthest point of its diagonal within d edits -/
def md_F (g : Nat → Nat → Bool) (d x y : Nat) : Prop := md_dp g x y ≤ d ∧ d < md_dp g (x + 1) (y + 1)
theorem md_F_le {g : Nat → Nat → Bool} {d x y x' y' : Nat} (h : md_F g d x y) (h' : md_dp g x' y' ≤ d) (e : x + y' = x' + y) : x' ≤ x := by
  rcases Nat.lt_or_ge x x' with z | z
  · exfalso
    obtain ⟨t, rfl⟩ : ∃ t, x' = x + 1 + t := ⟨x' - x - 1, by omega⟩
    have ey : y' = y + 1 + t := by omega
    subst ey
    have a := md_up g (x + 1) (y + 1) t
    have b := h.2
    omega
  · exact z
/-- (x0, y0) is where the slide to the furthest point begins -/
def md_S (g : Nat → Nat → Bool) (d x0 y0 : Nat) : Prop := md_dp g x0 y0 ≤ d ∧ ∀ t, d ≤ md_dp g (x0 + t) (y0 + t + 1) ∧ d ≤ md_dp g (x0 + t + 1) (y0 + t)
theorem md_S_F {g : Nat → Nat → Bool} {d x0 y0 t : Nat} (h : md_S g d x0 y0) (h1 : md_dp g (x0 + t) (y0 + t) ≤ d) (hg : ¬ g (x0 + t) (y0 + t) = true) : md_F g d (x0 + t) (y0 + t) := by
  refine ⟨h1, ?_⟩
  rw [md_f hg]
  have a := h.2 t
  omega
theorem md_S_g {g : Nat → Nat → Bool} {d x0 y0 t : Nat} (h : md_S g d x0 y0) (h1 : md_dp g (x0 + t) (y0 + t) ≤ d) (i : Nat) (hi : i < t) : g (x0 + i) (y0 + i) = true := by
  rcases Classical.em (g (x0 + i) (y0 + i) = true) with z | z
  · exact z
  · exfalso
    obtain ⟨r, rfl⟩ : ∃ r, t = i + 1 + r := ⟨t - i - 1, by omega⟩
    have a := h.2 i
    have b := md_f z
    have c := md_up g (x0 + i + 1) (y0 + i + 1) r
    have e1 : x0 + i + 1 + r = x0 + (i + 1 + r) := by omega
    have e2 : y0 + i + 1 + r = y0 + (i + 1 + r) := by omega
    rw [e1, e2] at c
    omega
theorem md_S0 (g : Nat → Nat → Bool) : md_S g 0 0 0 := ⟨Nat.le_refl _, fun _ => ⟨Nat.zero_le _, Nat.zero_le _⟩⟩
theorem md_Sd {g : Nat → Nat → Bool} {e x y : Nat} (h : md_F g e x y) (hl : ∀ t, e < md_dp g (x + t) (y + 1 + t + 1)) : md_S g (e + 1) x (y + 1) := by
  refine ⟨?_, fun t => ⟨hl t, ?_⟩⟩
  · have a := md_lip g x y
    have b := h.1
    omega
  · have a := md_up g (x + 1) (y + 1) t
    have b := h.2
    have e1 : x + 1 + t = x + t + 1 := by omega
    rw [e1] at a
    omega
theorem md_Sr {g : Nat → Nat → Bool} {e x y : Nat} (h : md_F g e x y) (hr : ∀ t, e < md_dp g (x + 1 + t + 1) (y + t)) : md_S g (e + 1) (x + 1) y := by
  refine ⟨?_, fun t => ⟨?_, hr t⟩⟩
  · have a := md_lip g x y
    have b := h.1
    omega
  · have a := md_up g (x + 1) (y + 1) t
    have b := h.2
    have e1 : y + 1 + t = y + t + 1 := by omega
    rw [e1] at a
    omega
theorem md_far {g : Nat → Nat → Bool} {e x y x' y' : Nat} (h : md_F g e x y) (hx : x < x') (hy : x + y' = x' + y) : e < md_dp g x' y' := by
  obtain ⟨t, rfl⟩ : ∃ t, x' = x + 1 + t := ⟨x' - x - 1, by omega⟩
  have ey : y' = y + 1 + t := by omega
  subst ey
  have a := md_up g (x + 1) (y + 1) t
  have b := h.2
  omega
/-- re holds, by diagonals (24 + k), the furthest points within e edits -/
def md_Row (g : Nat → Nat → Bool) (e : Nat) (re : Nat → Int32) : Prop :=
  ∀ q, 24 ≤ q + e → q ≤ 24 + e → (q + e) % 2 = 0 → ∃ x y, re q = nI x ∧ x + 24 = y + q ∧ x ≤ 10 + e ∧ md_F g e x y
theorem md_stepD {g : Nat → Nat → Bool} {e q : Nat} {re : Nat → Int32} (he : e ≤ 20) (R : md_Row g e re) (h1 : 24 ≤ q + (e + 1)) (h2 : q ≤ 24 + (e + 1)) (h3 : (q + (e + 1)) % 2 = 0) (hn : q ≠ 24 + (e + 1)) (hd : q + (e + 1) = 24 ∨ ¬ re (q + 1) ≤ re (q - 1)) :
    ∃ x y, re (q + 1) = nI x ∧ x + 24 = y + 1 + q ∧ x ≤ 10 + e ∧ md_F g e x y ∧ md_S g (e + 1) x (y + 1) := by
  obtain ⟨x, y, ex, exy, hx, hF⟩ := R (q + 1) (by omega) (by omega) (by omega)
  refine ⟨x, y, ex, by omega, hx, hF, md_Sd hF fun t => ?_⟩
  rcases Nat.lt_or_ge 24 (q + (e + 1)) with z | z
  · obtain ⟨x1, y1, ex1, exy1, hx1, hF1⟩ := R (q - 1) (by omega) (by omega) (by omega)
    have lt : x1 < x := by
      rcases hd with w | w
      · omega
      · rw [ex, ex1, nI_leI (by omega) (by omega)] at w
        omega
    exact md_far hF1 (by omega) (by omega)
  · have a := md_lo g (x + t) (y + 1 + t + 1)
    omega
theorem md_stepR {g : Nat → Nat → Bool} {e q : Nat} {re : Nat → Int32} (he : e ≤ 20) (R : md_Row g e re) (h1 : 24 ≤ q + (e + 1)) (h2 : q ≤ 24 + (e + 1)) (h3 : (q + (e + 1)) % 2 = 0) (hn : q + (e + 1) ≠ 24) (hd : q = 24 + (e + 1) ∨ re (q + 1) ≤ re (q - 1)) :
    ∃ x y, re (q - 1) = nI x ∧ x + 1 + 24 = y + q ∧ x ≤ 10 + e ∧ md_F g e x y ∧ md_S g (e + 1) (x + 1) y := by
  obtain ⟨x, y, ex, exy, hx, hF⟩ := R (q - 1) (by omega) (by omega) (by omega)
  refine ⟨x, y, ex, by omega, hx, hF, md_Sr hF fun t => ?_⟩
  rcases Nat.lt_or_ge q (24 + (e + 1)) with z | z
  · obtain ⟨x1, y1, ex1, exy1, hx1, hF1⟩ := R (q + 1) (by omega) (by omega) (by omega)
    have lt : x1 ≤ x := by
      rcases hd with w | w
      · omega
      · rw [ex, ex1, nI_leI (by omega) (by omega)] at w
        omega
    exact md_far hF1 (by omega) (by omega)
  · have a := md_lo g (x + 1 + t + 1) (y + t)
    omega
/-- the lines of two texts that match -/
def md_g (A B : Nat → Int32) (N M : Nat) : Nat → Nat → Bool := fun i j => decide (i < N ∧ j < M ∧ A i = B j)
theorem md_g_iff {A B : Nat → Int32} {N M i j : Nat} : md_g A B N M i j = true ↔ i < N ∧ j < M ∧ A i = B j := by
  unfold md_g
  exact decide_eq_true_iff
theorem md_g_in {A B : Nat → Int32} {N M : Nat} : ∀ i j, md_g A B N M i j = true → i < N ∧ j < M := fun i j h => ⟨(md_g_iff.mp h).1, (md_g_iff.mp h).2.1⟩
theorem md_g_congr {A B A' B' : Nat → Int32} {N M : Nat} (ha : ∀ i, i < N → A i = A' i) (hb : ∀ i, i < M → B i = B' i) : md_g A B N M = md_g A' B' N M := by
  funext i j
  rw [Bool.eq_iff_iff, md_g_iff, md_g_iff]
  constructor
  · rintro ⟨h1, h2, h3⟩
    exact ⟨h1, h2, by rw [← ha i h1, ← hb j h2]; exact h3⟩
  · rintro ⟨h1, h2, h3⟩
    exact ⟨h1, h2, by rw [ha i h1, hb j h2]; exact h3⟩
theorem md_sym {A B : Nat → Int32} {N M : Nat} : ∀ i j, md_dp (md_g A B N M) i j = md_dp (md_g B A M N) j i := by
  intro i
  induction i with
  | zero => intro j; rw [md_00, md_s0]
  | succ i ih =>
    intro j
    induction j with
    | zero => rw [md_00, md_s0]
    | succ j jh =>
      have a := ih j
      have b := ih (j + 1)
      by_cases h : md_g A B N M i j = true
      · have h' : md_g B A M N j i = true := by
          have z := md_g_iff.mp h
          exact md_g_iff.mpr ⟨z.2.1, z.1, z.2.2.symm⟩
        rw [md_t h, md_t h', a]
      · have h' : ¬ md_g B A M N j i = true := fun w => h (by
          have z := md_g_iff.mp w
          exact md_g_iff.mpr ⟨z.2.1, z.1, z.2.2.symm⟩)
        rw [md_f h, md_f h', b, jh, Nat.min_comm]
end
section
/-! closed forms of copies -/
def wk_cp (a b : Nat → Int32) (n : Nat) : Nat → Int32 := fun j => if j < n then b j else a j
theorem wk_cp_0 (a b : Nat → Int32) : wk_cp a b 0 = a := by
  funext j
  exact if_neg (by omega)
theorem wk_cp_lt {a b : Nat → Int32} {n j : Nat} (h : j < n) : wk_cp a b n j = b j := if_pos h
theorem wk_cp_ge {a b : Nat → Int32} {n j : Nat} (h : n ≤ j) : wk_cp a b n j = a j := if_neg (by omega)
theorem wk_cp_s (a b : Nat → Int32) (i : Nat) : upd (wk_cp a b i) i (b i) = wk_cp a b (i + 1) := by
  funext j
  rcases Nat.lt_trichotomy j i with h | h | h
  · rw [pk_un (by omega), wk_cp_lt h, wk_cp_lt (by omega)]
  · subst h
    rw [pk_us, wk_cp_lt (by omega)]
  · rw [pk_un (by omega), wk_cp_ge (by omega), wk_cp_ge (by omega)]
theorem wk_cpc {a b : Nat → Int32} {i : Nat} (h : i < 2 ^ 31) : upd (wk_cp a b i) (nI i).toNatClampNeg (b (nI i).toNatClampNeg) = wk_cp a b (i + 1) := by
  rw [nI_clamp h]
  exact wk_cp_s a b i
def wk_bl (a : Nat → Int32) (o : Nat) (b : Nat → Int32) (n : Nat) : Nat → Int32 := fun j => if o ≤ j ∧ j < o + n then b (j - o) else a j
theorem wk_bl_0 (a b : Nat → Int32) (o : Nat) : wk_bl a o b 0 = a := by
  funext j
  exact if_neg (by omega)
theorem wk_bl_in {a b : Nat → Int32} {o n i : Nat} (h : i < n) : wk_bl a o b n (o + i) = b i := by
  unfold wk_bl
  rw [if_pos (by omega), Nat.add_sub_cancel_left]
theorem wk_bl_out {a b : Nat → Int32} {o n j : Nat} (h : j < o ∨ o + n ≤ j) : wk_bl a o b n j = a j := if_neg (by omega)
theorem wk_bl_s (a b : Nat → Int32) (o i : Nat) : upd (wk_bl a o b i) (o + i) (b i) = wk_bl a o b (i + 1) := by
  funext j
  rcases Nat.lt_or_ge j o with h | h
  · rw [pk_un (by omega), wk_bl_out (Or.inl h), wk_bl_out (Or.inl h)]
  · obtain ⟨t, rfl⟩ : ∃ t, j = o + t := ⟨j - o, by omega⟩
    rcases Nat.lt_trichotomy t i with h2 | h2 | h2
    · rw [pk_un (by omega), wk_bl_in h2, wk_bl_in (by omega)]
    · subst h2
      rw [pk_us, wk_bl_in (by omega)]
    · rw [pk_un (by omega), wk_bl_out (by omega), wk_bl_out (by omega)]
theorem wk_40 (s i : Nat) : (40 : Int32) * nI s + nI i = nI (40 * s + i) := by
  show nI 40 * nI s + nI i = _
  rw [pk_mul, nI_add]
theorem wk_10 (s i : Nat) : (10 : Int32) * nI s + nI i = nI (10 * s + i) := by
  show nI 10 * nI s + nI i = _
  rw [pk_mul, nI_add]
theorem wk_48 (s i : Nat) : (48 : Int32) * nI s + nI i = nI (48 * s + i) := by
  show nI 48 * nI s + nI i = _
  rw [pk_mul, nI_add]
theorem wk_256 (c : Nat) : nI (256 + c) - 256 = nI c := by
  show nI (256 + c) - nI 256 = _
  rw [pk_sub (by omega), Nat.add_sub_cancel_left]
theorem wk_neg (n : Nat) (h : n < 2 ^ 31) : ¬ nI n = -1 := by
  intro z
  have a := nI_pos (n := n) h
  rw [z] at a
  exact a (by decide)
theorem wk_neg2 (n : Nat) (h : n < 2 ^ 31) : ¬ nI n = -2 := by
  intro z
  have a := nI_pos (n := n) h
  rw [z] at a
  exact a (by decide)
/-! a difference: entries e (n-1) .. e 0 lead from place f of a, place t of b to the end of b -/
def sc_Ap (A B : Nat → Int32) (N M : Nat) (e : Nat → Int32) : Nat → Nat → Nat → Prop
  | 0 => fun _ t => t = M
  | n + 1 => fun f t => (∃ v, v < 256 ∧ e n = nI v ∧ t < M ∧ B t = nI v ∧ sc_Ap A B N M e n f (t + 1)) ∨
      (∃ c, e n = nI (256 + c) ∧ f + c ≤ N ∧ t + c ≤ M ∧ (∀ i, i < c → B (t + i) = A (f + i)) ∧ sc_Ap A B N M e n (f + c) (t + c)) ∨
      (e n = nI 513 ∧ f + 1 ≤ N ∧ sc_Ap A B N M e n (f + 1) t)
theorem sc_congr {A B A' B' : Nat → Int32} {N M : Nat} {e e' : Nat → Int32} (ha : ∀ i, i < N → A i = A' i) (hb : ∀ i, i < M → B i = B' i) :
    ∀ n f t, (∀ j, j < n → e j = e' j) → sc_Ap A B N M e n f t → sc_Ap A' B' N M e' n f t := by
  intro n
  induction n with
  | zero => exact fun f t _ h => h
  | succ n ih =>
    intro f t he h
    have he' : ∀ j, j < n → e j = e' j := fun j hj => he j (by omega)
    have en := he n (by omega)
    rcases h with ⟨v, h1, h2, h3, h4, h5⟩ | ⟨c, h1, h2, h3, h4, h5⟩ | ⟨h1, h2, h3⟩
    · exact Or.inl ⟨v, h1, by rw [← en]; exact h2, h3, by rw [← hb t h3]; exact h4, ih f (t + 1) he' h5⟩
    · refine Or.inr (Or.inl ⟨c, by rw [← en]; exact h1, h2, h3, fun i hi => ?_, ih _ _ he' h5⟩)
      rw [← hb (t + i) (by omega), ← ha (f + i) (by omega)]
      exact h4 i hi
    · exact Or.inr (Or.inr ⟨by rw [← en]; exact h1, h2, ih _ _ he' h3⟩)
theorem sc_full {A B : Nat → Int32} {M : Nat} {e : Nat → Int32} (hb : ∀ i, i < M → ∃ v, v < 256 ∧ B i = nI v) (he : ∀ j, j < M → e j = B (M - 1 - j)) :
    ∀ n, n ≤ M → sc_Ap A B 0 M e n 0 (M - n) := by
  intro n
  induction n with
  | zero => exact fun _ => rfl
  | succ n ih =>
    intro hn
    have e1 : M - 1 - n = M - (n + 1) := by omega
    obtain ⟨v, hv, ev⟩ := hb (M - (n + 1)) (by omega)
    refine Or.inl ⟨v, hv, ?_, by omega, ev, ?_⟩
    · rw [he n (by omega), e1]; exact ev
    · have e2 : M - (n + 1) + 1 = M - n := by omega
      rw [e2]
      exact ih (by omega)
/-! the store: P the slots that are held, L and T their texts, rk a rank that falls along startOf -/
def rs_Sl (P : Nat → Prop) (st en sc : Nat → Int32) (L : Nat → Nat) (T : Nat → Nat → Int32) (rk : Nat → Nat) (s : Nat) : Prop :=
  ∃ m, m ≤ 20 ∧ en s = nI m ∧ ((st s = -1 ∧ sc_Ap (T s) (T s) 0 (L s) (fun j => sc (40 * s + (m - 1 - j))) m 0 0) ∨
    (∃ t, P t ∧ st s = nI t ∧ rk t < rk s ∧ sc_Ap (T t) (T s) (L t) (L s) (fun j => sc (40 * s + (m - 1 - j))) m 0 0))
def rs_Tx (L : Nat → Nat) (T : Nat → Nat → Int32) (s : Nat) : Prop := L s ≤ 10 ∧ ∀ i, i < L s → ∃ v, v < 256 ∧ T s i = nI v
def rs_OK (P : Nat → Prop) (st en sc : Nat → Int32) (L : Nat → Nat) (T : Nat → Nat → Int32) (rk : Nat → Nat) : Prop :=
  ∀ s, P s → s < 12 ∧ rs_Tx L T s ∧ rs_Sl P st en sc L T rk s
def rs_cons (s : Nat) (c : Nat → Nat) : Nat → Nat
  | 0 => s
  | i + 1 => c i
theorem rs_ph : ∀ (m n : Nat) (c : Nat → Nat), (∀ i, i < n → c i < m) → (∀ i j, i < j → j < n → c i ≠ c j) → n ≤ m := by
  intro m
  induction m with
  | zero =>
    intro n c h _
    rcases Nat.eq_zero_or_pos n with z | z
    · omega
    · have := h 0 z
      omega
  | succ m ih =>
    intro n c h inj
    rcases Classical.em (∃ i, i < n ∧ c i = m) with ⟨k, hk, ek⟩ | hno
    · have key : n - 1 ≤ m := by
        refine ih (n - 1) (fun i => if i < k then c i else c (i + 1)) (fun i hi => ?_) (fun i j hij hj => ?_)
        · show (if i < k then c i else c (i + 1)) < m
          by_cases z : i < k
          · rw [if_pos z]
            have a := h i (by omega)
            have b := inj i k z hk
            omega
          · rw [if_neg z]
            have a := h (i + 1) (by omega)
            have b := inj k (i + 1) (by omega) (by omega)
            omega
        · show (if i < k then c i else c (i + 1)) ≠ (if j < k then c j else c (j + 1))
          by_cases z : i < k
          · by_cases z2 : j < k
            · rw [if_pos z, if_pos z2]
              exact inj i j hij (by omega)
            · rw [if_pos z, if_neg z2]
              exact inj i (j + 1) (by omega) (by omega)
          · rw [if_neg z, if_neg (by omega)]
            exact inj (i + 1) (j + 1) (by omega) (by omega)
      omega
    · have key : n ≤ m := ih n c (fun i hi => by
        have a := h i hi
        have b : c i ≠ m := fun e => hno ⟨i, hi, e⟩
        omega) inj
      omega
theorem rs_dec {n : Nat} {f : Nat → Nat} (h : ∀ i, i + 1 < n → f (i + 1) < f i) : ∀ d i, i + d + 1 < n → f (i + d + 1) < f i := by
  intro d
  induction d with
  | zero => exact fun i hi => h i hi
  | succ d ih => exact fun i hi => Nat.lt_trans (h (i + (d + 1)) hi) (ih i (by omega))
theorem rs_chain {P : Nat → Prop} {st en sc : Nat → Int32} {L : Nat → Nat} {T : Nat → Nat → Int32} {rk : Nat → Nat} (ok : rs_OK P st en sc L T rk) (s : Nat) (hs : P s) :
    ∃ (n : Nat) (c : Nat → Nat), c 0 = s ∧ 0 < n ∧ n ≤ 12 ∧ (∀ i, i < n → P (c i)) ∧ (∀ i, i + 1 < n → st (c i) = nI (c (i + 1))) ∧ st (c (n - 1)) = -1 := by
  have key : ∀ r s, rk s < r → P s → ∃ (n : Nat) (c : Nat → Nat), c 0 = s ∧ 0 < n ∧ (∀ i, i < n → P (c i)) ∧ (∀ i, i + 1 < n → st (c i) = nI (c (i + 1)) ∧ rk (c (i + 1)) < rk (c i)) ∧ st (c (n - 1)) = -1 := by
    intro r
    induction r with
    | zero => intro s h; omega
    | succ r ih =>
      intro s hr hs
      obtain ⟨m, hm, hen, ⟨h1, -⟩ | ⟨t, ht, h1, h2, -⟩⟩ := (ok s hs).2.2
      · refine ⟨1, fun _ => s, rfl, by omega, fun i _ => hs, fun i hi => ?_, h1⟩
        omega
      · obtain ⟨n, c, c0, hn, hP, hc, hz⟩ := ih t (by omega) ht
        refine ⟨n + 1, rs_cons s c, rfl, by omega, fun i hi => ?_, fun i hi => ?_, ?_⟩
        · cases i with
          | zero => exact hs
          | succ i => exact hP i (by omega)
        · cases i with
          | zero =>
            show st s = nI (c 0) ∧ rk (c 0) < rk s
            rw [c0]
            exact ⟨h1, h2⟩
          | succ i => exact hc i (by omega)
        · obtain ⟨k, rfl⟩ : ∃ k, n = k + 1 := ⟨n - 1, by omega⟩
          exact hz
  obtain ⟨n, c, c0, hn, hP, hc, hz⟩ := key (rk s + 1) s (by omega) hs
  refine ⟨n, c, c0, hn, ?_, hP, fun i hi => (hc i hi).1, hz⟩
  refine rs_ph 12 n c (fun i hi => (ok (c i) (hP i hi)).1) (fun i j hij hj e => ?_)
  obtain ⟨d, rfl⟩ : ∃ d, j = i + d + 1 := ⟨j - i - 1, by omega⟩
  have a := rs_dec (n := n) (f := fun i => rk (c i)) (fun i hi => (hc i hi).2) d i hj
  have b : rk (c (i + d + 1)) < rk (c i) := a
  rw [e] at b
  omega
/-- one slot is laid anew: the others stay -/
theorem rs_put {P : Nat → Prop} {st en sc st' en' sc' : Nat → Int32} {L : Nat → Nat} {T : Nat → Nat → Int32} {rk : Nat → Nat} {s : Nat} (h12 : ∀ r, P r → r < 12 ∧ rs_Tx L T r) (hs : s < 12)
    (ho : ∀ r, P r → r ≠ s → rs_Sl P st en sc L T rk r) (h1 : ∀ r, r ≠ s → st' r = st r) (h2 : ∀ r, r ≠ s → en' r = en r) (h3 : ∀ j, j < 40 * s ∨ 40 * s + 40 ≤ j → sc' j = sc j)
    (hn : rs_Sl P st' en' sc' L T rk s) : rs_OK P st' en' sc' L T rk := by
  intro r hr
  refine ⟨(h12 r hr).1, (h12 r hr).2, ?_⟩
  by_cases e : r = s
  · rw [e]; exact hn
  · obtain ⟨m, hm, hen, hd⟩ := ho r hr e
    have hr12 := (h12 r hr).1
    have hsc : ∀ j, j < m → sc (40 * r + (m - 1 - j)) = sc' (40 * r + (m - 1 - j)) := fun j hj => (h3 _ (by omega)).symm
    refine ⟨m, hm, by rw [h2 r e]; exact hen, ?_⟩
    rcases hd with ⟨a, b⟩ | ⟨t, ht, a, b, c⟩
    · exact Or.inl ⟨by rw [h1 r e]; exact a, sc_congr (fun _ _ => rfl) (fun _ _ => rfl) m 0 0 hsc b⟩
    · exact Or.inr ⟨t, ht, by rw [h1 r e]; exact a, b, sc_congr (fun _ _ => rfl) (fun _ _ => rfl) m 0 0 hsc c⟩
end
section
section
variable {wl gv pr bl la lb : Int32} {wk nu pa st en sc bu sp wy ta tb re tr bk : Nat → Int32}
theorem xa_takeWorkAsB_l {post : SX → Prop} {w : Nat} (hw : w ≤ 10) (K : post (nI w, gv, pr, bl, la, nI w, wk, nu, pa, st, en, sc, bu, sp, wy, ta, wk_cp tb wk w, re, tr, bk)) : ∀ d i, i + d = w → wX_takeWorkAsB_2 post (nI w) gv pr bl la lb (d + 1) (nI i) wk nu pa st en sc bu sp wy ta (wk_cp tb wk i) re tr bk := by
  intro d
  induction d with
  | zero =>
    intro i hi
    have e : i = w := by omega
    subst e
    exact pk_le i i (fun _ => K) (fun z => by omega)
  | succ d ih =>
    intro i hi
    exact pk_le w i (fun z => by omega) (fun _ => ⟨pk_in i 10 (by omega), pk_in i 10 (by omega), nm_r (wk_cpc (by omega)) (nm_r (nI_1 i) (ih (i + 1) (by omega)))⟩)
theorem xa_takeWorkAsB {post : SX → Prop} {w : Nat} (hw : w ≤ 10) (K : ∀ b : Nat → Int32, (∀ i, i < w → b i = wk i) → post (nI w, gv, pr, bl, la, nI w, wk, nu, pa, st, en, sc, bu, sp, wy, ta, b, re, tr, bk)) : wpX_takeWorkAsB post (nI w, gv, pr, bl, la, lb, wk, nu, pa, st, en, sc, bu, sp, wy, ta, tb, re, tr, bk) := by
  have h := xa_takeWorkAsB_l (post := post) (lb := lb) hw (K (wk_cp tb wk w) (fun i hi => wk_cp_lt hi)) w 0 (by omega)
  rw [wk_cp_0] at h
  exact Exists.intro (w + 1) h
theorem xa_takeWorkAsA_l {post : SX → Prop} {w : Nat} (hw : w ≤ 10) (K : post (nI w, gv, pr, bl, nI w, lb, wk, nu, pa, st, en, sc, bu, sp, wy, wk_cp ta wk w, tb, re, tr, bk)) : ∀ d i, i + d = w → wX_takeWorkAsA_2 post (nI w) gv pr bl la lb (d + 1) (nI i) wk nu pa st en sc bu sp wy (wk_cp ta wk i) tb re tr bk := by
  intro d
  induction d with
  | zero =>
    intro i hi
    have e : i = w := by omega
    subst e
    exact pk_le i i (fun _ => K) (fun z => by omega)
  | succ d ih =>
    intro i hi
    exact pk_le w i (fun z => by omega) (fun _ => ⟨pk_in i 10 (by omega), pk_in i 10 (by omega), nm_r (wk_cpc (by omega)) (nm_r (nI_1 i) (ih (i + 1) (by omega)))⟩)
theorem xa_takeWorkAsA {post : SX → Prop} {w : Nat} (hw : w ≤ 10) (K : ∀ b : Nat → Int32, (∀ i, i < w → b i = wk i) → post (nI w, gv, pr, bl, nI w, lb, wk, nu, pa, st, en, sc, bu, sp, wy, b, tb, re, tr, bk)) : wpX_takeWorkAsA post (nI w, gv, pr, bl, la, lb, wk, nu, pa, st, en, sc, bu, sp, wy, ta, tb, re, tr, bk) := by
  have h := xa_takeWorkAsA_l (post := post) (la := la) hw (K (wk_cp ta wk w) (fun i hi => wk_cp_lt hi)) w 0 (by omega)
  rw [wk_cp_0] at h
  exact Exists.intro (w + 1) h
theorem xa_takeBuiltAsA_l {post : SX → Prop} {w : Nat} (hw : w ≤ 10) (K : post (wl, gv, pr, nI w, nI w, lb, wk, nu, pa, st, en, sc, bu, sp, wy, wk_cp ta bu w, tb, re, tr, bk)) : ∀ d i, i + d = w → wX_takeBuiltAsA_2 post wl gv pr (nI w) la lb (d + 1) (nI i) wk nu pa st en sc bu sp wy (wk_cp ta bu i) tb re tr bk := by
  intro d
  induction d with
  | zero =>
    intro i hi
    have e : i = w := by omega
    subst e
    exact pk_le i i (fun _ => K) (fun z => by omega)
  | succ d ih =>
    intro i hi
    exact pk_le w i (fun z => by omega) (fun _ => ⟨pk_in i 10 (by omega), pk_in i 10 (by omega), nm_r (wk_cpc (by omega)) (nm_r (nI_1 i) (ih (i + 1) (by omega)))⟩)
theorem xa_takeBuiltAsA {post : SX → Prop} {w : Nat} (hw : w ≤ 10) (K : ∀ b : Nat → Int32, (∀ i, i < w → b i = bu i) → post (wl, gv, pr, nI w, nI w, lb, wk, nu, pa, st, en, sc, bu, sp, wy, b, tb, re, tr, bk)) : wpX_takeBuiltAsA post (wl, gv, pr, nI w, la, lb, wk, nu, pa, st, en, sc, bu, sp, wy, ta, tb, re, tr, bk) := by
  have h := xa_takeBuiltAsA_l (post := post) (la := la) hw (K (wk_cp ta bu w) (fun i hi => wk_cp_lt hi)) w 0 (by omega)
  rw [wk_cp_0] at h
  exact Exists.intro (w + 1) h
theorem xa_takeBuiltAsB_l {post : SX → Prop} {w : Nat} (hw : w ≤ 10) (K : post (wl, gv, pr, nI w, la, nI w, wk, nu, pa, st, en, sc, bu, sp, wy, ta, wk_cp tb bu w, re, tr, bk)) : ∀ d i, i + d = w → wX_takeBuiltAsB_2 post wl gv pr (nI w) la lb (d + 1) (nI i) wk nu pa st en sc bu sp wy ta (wk_cp tb bu i) re tr bk := by
  intro d
  induction d with
  | zero =>
    intro i hi
    have e : i = w := by omega
    subst e
    exact pk_le i i (fun _ => K) (fun z => by omega)
  | succ d ih =>
    intro i hi
    exact pk_le w i (fun z => by omega) (fun _ => ⟨pk_in i 10 (by omega), pk_in i 10 (by omega), nm_r (wk_cpc (by omega)) (nm_r (nI_1 i) (ih (i + 1) (by omega)))⟩)
theorem xa_takeBuiltAsB {post : SX → Prop} {w : Nat} (hw : w ≤ 10) (K : ∀ b : Nat → Int32, (∀ i, i < w → b i = bu i) → post (wl, gv, pr, nI w, la, nI w, wk, nu, pa, st, en, sc, bu, sp, wy, ta, b, re, tr, bk)) : wpX_takeBuiltAsB post (wl, gv, pr, nI w, la, lb, wk, nu, pa, st, en, sc, bu, sp, wy, ta, tb, re, tr, bk) := by
  have h := xa_takeBuiltAsB_l (post := post) (lb := lb) hw (K (wk_cp tb bu w) (fun i hi => wk_cp_lt hi)) w 0 (by omega)
  rw [wk_cp_0] at h
  exact Exists.intro (w + 1) h
end
section
variable {wl gv pr bl la lb : Int32} {wk nu pa st en sc bu sp wy ta tb re tr bk : Nat → Int32}
/-! storeFull -/
theorem xa_storeFull_l {post : SX → Prop} {w s : Nat} (hw : w ≤ 10) (hs : s < 12) (K : post (wl, gv, pr, bl, la, nI w, wk, nu, pa, st, upd en s (nI w), wk_bl sc (40 * s) tb w, bu, sp, wy, ta, tb, re, tr, bk)) : ∀ d i, i + d = w → wX_storeFull_9 post (nI s) wl gv pr bl la (nI w) (d + 1) (nI i) wk nu pa st en (wk_bl sc (40 * s) tb i) bu sp wy ta tb re tr bk := by
  intro d
  induction d with
  | zero =>
    intro i hi
    have e : i = w := by omega
    subst e
    exact pk_le i i (fun _ => ⟨pk_in s 12 hs, nm_r (by rw [nI_clamp (by omega)]) K⟩) (fun z => by omega)
  | succ d ih =>
    intro i hi
    refine pk_le w i (fun z => by omega) (fun _ => ⟨pk_in i 10 (by omega), pk_in (40 * s + i) 480 (by omega) (wk_40 s i), nm_r (e' := wk_bl sc (40 * s) tb (i + 1)) ?_ (nm_r (nI_1 i) (ih (i + 1) (by omega)))⟩)
    rw [wk_40, nI_clamp (by omega), nI_clamp (by omega)]
    exact wk_bl_s sc tb (40 * s) i
theorem xa_storeFull {post : SX → Prop} {w s : Nat} (hw : w ≤ 10) (hs : s < 12) (K : post (wl, gv, pr, bl, la, nI w, wk, nu, pa, upd st s (-1), upd en s (nI w), wk_bl sc (40 * s) tb w, bu, sp, wy, ta, tb, re, tr, bk)) : wpX_storeFull post (wl, gv, pr, bl, la, nI w, wk, nu, pa, st, en, sc, bu, sp, wy, ta, tb, re, tr, bk) (nI s) := by
  have h := xa_storeFull_l (post := post) (st := upd st s (-1)) hw hs K w 0 (by omega)
  rw [wk_bl_0] at h
  exact And.intro (pk_in s 12 hs) (nm_r (e' := upd st s (-1)) (by rw [nI_clamp (by omega)]) (Exists.intro (w + 1) h))
/-! slotOf, freeSlot, hasOtherChild, newestDependent: they only read -/
theorem xa_slotNo_l {post : Int32 → Prop} {x : Int32} (h : ∀ s, s < 12 → x < 0 ∨ nu s ≠ x) (K : post (-1)) : ∀ d i, i + d = 12 → wX_slotOf_2 post x wl gv pr bl la lb wk nu pa st en sc bu sp wy ta tb re tr bk (d + 1) (nI i) := by
  intro d
  induction d with
  | zero =>
    intro i hi
    exact pk_le 12 i (fun _ => K) (fun z => by omega)
  | succ d ih =>
    intro i hi
    have e := nI_1 i
    refine pk_le 12 i (fun z => by omega) (fun _ => ?_)
    by_cases hx : x < 0
    · exact br_t hx (nm_r e (ih (i + 1) (by omega)))
    · refine br_f hx ⟨pk_in i 12 (by omega), br_f ?_ (nm_r e (ih (i + 1) (by omega)))⟩
      rw [nI_clamp (by omega)]
      exact (h i (by omega)).resolve_left hx
theorem xa_slotNo {post : Int32 → Prop} {x : Int32} (h : ∀ s, s < 12 → x < 0 ∨ nu s ≠ x) (K : post (-1)) : wpX_slotOf post (wl, gv, pr, bl, la, lb, wk, nu, pa, st, en, sc, bu, sp, wy, ta, tb, re, tr, bk) x := Exists.intro 13 (xa_slotNo_l h K 12 0 rfl)
theorem xa_slot_l {post : Int32 → Prop} {x : Int32} {s : Nat} (hs : s < 12) (hx : ¬ x < 0) (hn : nu s = x) (h : ∀ t, t < s → nu t ≠ x) (K : post (nI s)) : ∀ d i, i + d = s → wX_slotOf_2 post x wl gv pr bl la lb wk nu pa st en sc bu sp wy ta tb re tr bk (d + 1) (nI i) := by
  intro d
  induction d with
  | zero =>
    intro i hi
    have e : i = s := by omega
    subst e
    refine pk_le 12 i (fun z => by omega) (fun _ => br_f hx ⟨pk_in i 12 (by omega), br_t ?_ K⟩)
    rw [nI_clamp (by omega)]
    exact hn
  | succ d ih =>
    intro i hi
    refine pk_le 12 i (fun z => by omega) (fun _ => br_f hx ⟨pk_in i 12 (by omega), br_f ?_ (nm_r (nI_1 i) (ih (i + 1) (by omega)))⟩)
    rw [nI_clamp (by omega)]
    exact h i (by omega)
theorem xa_slot {post : Int32 → Prop} {n s : Nat} (hn : n < 2 ^ 31) (hs : s < 12) (hN : nu s = nI n) (inj : ∀ t, t < 12 → nu t = nI n → t = s) (K : post (nI s)) : wpX_slotOf post (wl, gv, pr, bl, la, lb, wk, nu, pa, st, en, sc, bu, sp, wy, ta, tb, re, tr, bk) (nI n) :=
  Exists.intro (s + 1) (xa_slot_l hs (nI_pos hn) hN (fun t ht e => by have := inj t (by omega) e; omega) K s 0 (by omega))
theorem xa_free_l {post : Int32 → Prop} (K : ∀ s, s < 12 → nu s < 0 → post (nI s)) (hex : ∃ s, s < 12 ∧ nu s < 0) : ∀ (d : Nat) (f : Nat), d ≤ 12 → ((f < 12 ∧ nu f < 0) ∨ ∃ s, s < d ∧ nu s < 0) → wX_freeSlot_5 post wl gv pr bl la lb wk nu pa st en sc bu sp wy ta tb re tr bk (d + 1) (nI f) (nI d + (-1)) := by
  intro d
  induction d with
  | zero =>
    intro f _ hf
    rcases hf with ⟨h1, h2⟩ | ⟨s, h1, -⟩
    · exact br_t (by decide) (K f h1 h2)
    · omega
  | succ d ih =>
    intro f hd hf
    rw [pk_m1]
    refine br_f (nI_pos (by omega)) ⟨pk_in d 12 (by omega), ?_⟩
    rw [nI_clamp (by omega)]
    by_cases z : nu d < 0
    · exact br_f (Int32.not_le.mpr z) (nm_e (ih d (by omega) (Or.inl ⟨by omega, z⟩)))
    · refine br_t (Int32.not_lt.mp z) (nm_e (ih f (by omega) ?_))
      rcases hf with h | ⟨s, h1, h2⟩
      · exact Or.inl h
      · refine Or.inr ⟨s, ?_, h2⟩
        rcases Nat.lt_or_ge s d with w | w
        · exact w
        · have e : s = d := by omega
          rw [e] at h2
          exact absurd h2 z
theorem xa_free {post : Int32 → Prop} (hex : ∃ s, s < 12 ∧ nu s < 0) (K : ∀ s, s < 12 → nu s < 0 → post (nI s)) : wpX_freeSlot post (wl, gv, pr, bl, la, lb, wk, nu, pa, st, en, sc, bu, sp, wy, ta, tb, re, tr, bk) :=
  Exists.intro 13 (xa_free_l K hex 12 0 (by omega) (Or.inr hex))
theorem xa_other_l {post : Int32 → Prop} {x y : Int32} (K0 : post 0) (K1 : post 1) : ∀ d i, i + d = 12 → wX_hasOtherChild_2 post x y wl gv pr bl la lb wk nu pa st en sc bu sp wy ta tb re tr bk (d + 1) (nI i) := by
  intro d
  induction d with
  | zero =>
    intro i hi
    exact pk_le 12 i (fun _ => K0) (fun z => by omega)
  | succ d ih =>
    intro i hi
    have N := nm_r (P := fun z => wX_hasOtherChild_2 post x y wl gv pr bl la lb wk nu pa st en sc bu sp wy ta tb re tr bk (d + 1) z) (nI_1 i) (ih (i + 1) (by omega))
    have I := pk_in (x := nI i) i 12 (by omega)
    exact pk_le 12 i (fun z => by omega) (fun _ => br_c (fun _ => N) (fun _ => ⟨I, br_c (fun _ => N) (fun _ => ⟨I, br_c (fun _ => K1) (fun _ => N)⟩)⟩))
theorem xa_other {post : Int32 → Prop} {x y : Int32} (K0 : post 0) (K1 : post 1) : wpX_hasOtherChild post (wl, gv, pr, bl, la, lb, wk, nu, pa, st, en, sc, bu, sp, wy, ta, tb, re, tr, bk) x y := Exists.intro 13 (xa_other_l K0 K1 12 0 rfl)
theorem xa_newest_l {post : Int32 → Prop} {x : Int32} (K0 : (∀ s, s < 12 → ¬ nu s < 0 → st s ≠ x) → post (-1)) (K1 : ∀ s, s < 12 → ¬ nu s < 0 → st s = x → post (nI s)) :
    ∀ d i (y : Int32), i + d = 12 → ((y = -1 ∧ ∀ s, s < i → ¬ nu s < 0 → st s ≠ x) ∨ (∃ s, s < 12 ∧ y = nI s ∧ ¬ nu s < 0 ∧ st s = x)) → wX_newestDependent_4 post x wl gv pr bl la lb wk nu pa st en sc bu sp wy ta tb re tr bk (d + 1) y (nI i) := by
  intro d
  induction d with
  | zero =>
    intro i y hi hy
    refine pk_le 12 i (fun _ => ?_) (fun z => by omega)
    have e : i = 12 := by omega
    subst e
    rcases hy with ⟨rfl, h⟩ | ⟨s, h1, rfl, h2, h3⟩
    · exact K0 h
    · exact K1 s h1 h2 h3
  | succ d ih =>
    intro i y hi hy
    have I := pk_in (x := nI i) i 12 (by omega)
    refine pk_le 12 i (fun z => by omega) (fun _ => ⟨I, ?_⟩)
    rw [nI_clamp (by omega)]
    have stay : (st i ≠ x ∨ nu i < 0) → wX_newestDependent_4 post x wl gv pr bl la lb wk nu pa st en sc bu sp wy ta tb re tr bk (d + 1) y (nI (i + 1)) := fun hno => by
      refine ih (i + 1) y (by omega) ?_
      rcases hy with ⟨e, h⟩ | h
      · refine Or.inl ⟨e, fun s hs h2 => ?_⟩
        rcases Nat.lt_or_ge s i with w | w
        · exact h s w h2
        · have es : s = i := by omega
          rw [es] at h2
          rw [es]
          exact hno.resolve_right h2
      · exact Or.inr h
    by_cases z : nu i < 0
    · exact br_t z (nm_r (nI_1 i) (stay (Or.inr z)))
    · refine br_f z ⟨I, ?_⟩
      by_cases w : st i = x
      · have next : wX_newestDependent_4 post x wl gv pr bl la lb wk nu pa st en sc bu sp wy ta tb re tr bk (d + 1) (nI i) (nI (i + 1)) := ih (i + 1) (nI i) (by omega) (Or.inr ⟨i, by omega, rfl, z, w⟩)
        refine br_t w ?_
        rcases hy with ⟨rfl, h⟩ | ⟨s, h1, rfl, h2, h3⟩
        · exact br_t (by decide) (nm_r (nI_1 i) next)
        · refine br_f (nI_pos (by omega)) ⟨I, pk_in s 12 h1, br_c (fun _ => nm_r (nI_1 i) ?_) (fun _ => nm_r (nI_1 i) next)⟩
          exact ih (i + 1) (nI s) (by omega) (Or.inr ⟨s, h1, rfl, h2, h3⟩)
      · exact br_f w (nm_r (nI_1 i) (stay (Or.inl w)))
theorem xa_newest {post : Int32 → Prop} {x : Int32} (K0 : (∀ s, s < 12 → ¬ nu s < 0 → st s ≠ x) → post (-1)) (K1 : ∀ s, s < 12 → ¬ nu s < 0 → st s = x → post (nI s)) : wpX_newestDependent post (wl, gv, pr, bl, la, lb, wk, nu, pa, st, en, sc, bu, sp, wy, ta, tb, re, tr, bk) x :=
  Exists.intro 13 (xa_newest_l K0 K1 12 0 (-1) rfl (Or.inl ⟨rfl, fun s hs => by omega⟩))
end
end
section
section
variable {wl gv pr bl la lb : Int32} {wk nu pa st en sc bu sp wy ta tb re tr bk : Nat → Int32}
/-! apply -/
theorem xr_back_l {post : SX → Prop} {w : Nat} (hw : w ≤ 10) (K : post (wl, gv, pr, nI w, la, lb, wk, nu, pa, st, en, sc, wk_cp bu sp w, sp, wy, ta, tb, re, tr, bk)) : ∀ d i, i + d = w → wX_apply_124 post (nI w) wl gv pr bl la lb (d + 1) (nI i) wk nu pa st en sc (wk_cp bu sp i) sp wy ta tb re tr bk := by
  intro d
  induction d with
  | zero =>
    intro i hi
    have e : i = w := by omega
    subst e
    exact pk_le i i (fun _ => K) (fun z => by omega)
  | succ d ih =>
    intro i hi
    exact pk_le w i (fun z => by omega) (fun _ => ⟨pk_in i 10 (by omega), pk_in i 10 (by omega), nm_r (wk_cpc (by omega)) (nm_r (nI_1 i) (ih (i + 1) (by omega)))⟩)
theorem xr_keep_l {post : SX → Prop} {J : Int32 → Int32 → Int32 → (Nat → Int32) → (Nat → Int32) → (Nat → Int32) → (Nat → Int32) → (Nat → Int32) → (Nat → Int32) → (Nat → Int32) → (Nat → Int32) → (Nat → Int32) → (Nat → Int32) → (Nat → Int32) → (Nat → Int32) → (Nat → Int32) → (Nat → Int32) → Prop} {x1 : Int32} {k c f t : Nat} (hf : f + c ≤ 10) (ht : t + c ≤ 10)
    (K : J (nI (f + c)) (nI (t + c)) (nI (k + 1)) wk nu pa st en sc bu (wk_bl sp t (fun i => bu (f + i)) c) wy ta tb re tr bk) : ∀ d i, i + d = c → wX_apply_68 post J x1 (nI k) (nI (256 + c)) wl gv pr bl la lb (d + 1) (nI (f + i)) (nI (t + i)) (nI i) wk nu pa st en sc bu (wk_bl sp t (fun i => bu (f + i)) i) wy ta tb re tr bk := by
  intro d
  induction d with
  | zero =>
    intro i hi
    have e : i = c := by omega
    subst e
    exact pk_le i i (fun _ => nm_r (nI_1 k) K) (fun z => by omega) (wk_256 i)
  | succ d ih =>
    intro i hi
    refine pk_le c i (fun z => by omega) (fun _ => ⟨pk_in (f + i) 10 (by omega), pk_in (t + i) 10 (by omega), nm_r (e' := wk_bl sp t (fun i => bu (f + i)) (i + 1)) ?_ (nm_r (nI_1 (t + i)) (nm_r (nI_1 (f + i)) (nm_r (nI_1 i) (ih (i + 1) (by omega)))))⟩) (wk_256 c)
    rw [nI_clamp (by omega), nI_clamp (by omega)]
    exact wk_bl_s sp (fun i => bu (f + i)) t i
theorem xr_apply_l {post : SX → Prop} {A B : Nat → Int32} {N M s m : Nat} (hN : N ≤ 10) (hM : M ≤ 10) (hs : s < 12) (hm : m ≤ 20) (hen : en s = nI m) (hA : ∀ i, i < N → bu i = A i)
    (K : ∀ bu' sp' : Nat → Int32, (∀ i, i < M → bu' i = B i) → post (wl, gv, pr, nI M, la, lb, wk, nu, pa, st, en, sc, bu', sp', wy, ta, tb, re, tr, bk)) :
    ∀ r f t (sp : Nat → Int32), r ≤ m → f ≤ N → t ≤ M → (∀ i, i < t → sp i = B i) → sc_Ap A B N M (fun j => sc (40 * s + (m - 1 - j))) r f t → wX_apply_10 post (nI s) wl gv pr bl la lb (r + 1) (nI f) (nI t) (nI (40 * s + (m - r))) wk nu pa st en sc bu sp wy ta tb re tr bk := by
  have hE : (40 : Int32) * nI s + en (nI s).toNatClampNeg = nI (40 * s + m) := by rw [nI_clamp (by omega), hen, wk_40]
  intro r
  induction r with
  | zero =>
    intro f t sp hr hf ht hsp hap
    have e : t = M := hap
    subst e
    refine And.intro (pk_in s 12 hs) (pk_le (40 * s + m) (40 * s + (m - 0)) (fun _ => ?_) (fun z => by omega) hE)
    have h := xr_back_l (post := post) (bl := bl) (bu := bu) (sp := sp) hM (K (wk_cp bu sp t) sp (fun i hi => by rw [wk_cp_lt hi]; exact hsp i hi)) t 0 (by omega)
    rw [wk_cp_0] at h
    exact ⟨t + 1, h⟩
  | succ r ih =>
    intro f t sp hr hf ht hsp hap
    have e1 : 40 * s + (m - (r + 1)) + 1 = 40 * s + (m - r) := by omega
    have e2 : m - (r + 1) = m - 1 - r := by omega
    have hnx : nI (40 * s + (m - (r + 1))) + 1 = nI (40 * s + (m - r)) := by rw [nI_1, e1]
    have hat : sc (nI (40 * s + (m - (r + 1)))).toNatClampNeg = sc (40 * s + (m - 1 - r)) := by rw [nI_clamp (by omega), e2]
    refine And.intro (pk_in s 12 hs) (pk_le (40 * s + m) (40 * s + (m - (r + 1))) (fun z => by omega) (fun _ => ⟨pk_in (40 * s + (m - (r + 1))) 480 (by omega), ?_⟩) hE)
    rcases hap with ⟨v, hv, h2, h3, h4, h5⟩ | ⟨c, h1, h2, h3, h4, h5⟩ | ⟨h1, h2, h3⟩
    · refine nm_r (e' := nI v) (hat.trans h2) (pk_le 256 v (fun z => by omega) (fun _ => ⟨pk_in t 10 (by omega), nm_r (e' := upd sp t (nI v)) (by rw [nI_clamp (by omega)]) (nm_r (nI_1 t) (nm_r hnx (ih f (t + 1) (upd sp t (nI v)) (by omega) hf (by omega) (fun i hi => ?_) h5)))⟩))
      rcases Nat.lt_or_ge i t with w | w
      · rw [pk_un (by omega)]; exact hsp i w
      · have ei : i = t := by omega
        rw [ei, pk_us]; exact h4.symm
    · refine nm_r (e' := nI (256 + c)) (hat.trans h1) (pk_le 256 (256 + c) (fun _ => pk_le 512 (256 + c) (fun z => by omega) (fun _ => ⟨c + 1, ?_⟩)) (fun z => by omega))
      have hk := ih (f + c) (t + c) (wk_bl sp t (fun i => bu (f + i)) c) (by omega) (by omega) (by omega) (fun i hi => ?_) h5
      · rw [← e1] at hk
        have h := xr_keep_l (post := post) (x1 := nI s) (wl := wl) (gv := gv) (pr := pr) (bl := bl) (la := la) (lb := lb) (wk := wk) (nu := nu) (pa := pa) (st := st) (en := en) (sc := sc) (bu := bu) (sp := sp) (wy := wy) (ta := ta) (tb := tb) (re := re) (tr := tr) (bk := bk) (c := c) (f := f) (t := t) (k := 40 * s + (m - (r + 1))) (by omega) (by omega) hk c 0 (by omega)
        rw [wk_bl_0] at h
        exact h
      · rcases Nat.lt_or_ge i t with w | w
        · rw [wk_bl_out (Or.inl w)]; exact hsp i w
        · obtain ⟨j, rfl⟩ : ∃ j, i = t + j := ⟨i - t, by omega⟩
          rw [wk_bl_in (by omega), h4 j (by omega)]
          exact hA (f + j) (by omega)
    · refine nm_r (e' := nI 513) (hat.trans h1) (pk_le 256 513 (fun _ => pk_le 512 513 (fun _ => nm_r (e' := nI (f + 1)) ?_ (nm_r hnx (ih (f + 1) t sp (by omega) (by omega) ht hsp h3))) (fun z => by omega)) (fun z => by omega))
      exact nI_1 f
theorem xr_apply {post : SX → Prop} {A B : Nat → Int32} {N M s m : Nat} (hN : N ≤ 10) (hM : M ≤ 10) (hs : s < 12) (hm : m ≤ 20) (hen : en s = nI m) (hA : ∀ i, i < N → bu i = A i)
    (hap : sc_Ap A B N M (fun j => sc (40 * s + (m - 1 - j))) m 0 0) (K : ∀ bu' sp' : Nat → Int32, (∀ i, i < M → bu' i = B i) → post (wl, gv, pr, nI M, la, lb, wk, nu, pa, st, en, sc, bu', sp', wy, ta, tb, re, tr, bk)) : wpX_apply post (wl, gv, pr, bl, la, lb, wk, nu, pa, st, en, sc, bu, sp, wy, ta, tb, re, tr, bk) (nI s) := by
  have h := xr_apply_l (post := post) (bl := bl) hN hM hs hm hen hA K m 0 0 sp (Nat.le_refl _) (by omega) (by omega) (fun i hi => by omega) hap
  rw [Nat.sub_self] at h
  exact nm_r (e' := nI (40 * s + 0)) (pk_mul 40 s) ⟨m + 1, h⟩
/-! rebuild: the chain c of n slots, its last one first -/
theorem xr_down_l {P : Nat → Prop} {L : Nat → Nat} {T : Nat → Nat → Int32} {rk : Nat → Nat} {n : Nat} {c : Nat → Nat} {post : SX → Prop} (ok : rs_OK P st en sc L T rk) (hn : n ≤ 12) (hP : ∀ i, i < n → P (c i)) (hc : ∀ i, i + 1 < n → st (c i) = nI (c (i + 1))) (hz : st (c (n - 1)) = -1) (hw : ∀ i, i < n → wy i = nI (c i))
    (K : ∀ bu' sp' : Nat → Int32, (∀ i, i < L (c 0) → bu' i = T (c 0) i) → post (wl, gv, pr, nI (L (c 0)), la, lb, wk, nu, pa, st, en, sc, bu', sp', wy, ta, tb, re, tr, bk)) :
    ∀ k (bl : Int32) (bu sp : Nat → Int32), k ≤ n → 0 < n → (k < n → bl = nI (L (c k)) ∧ ∀ i, i < L (c k) → bu i = T (c k) i) → wX_rebuild_51 post (k + 1) (nI k + (-1)) wl gv pr bl la lb wk nu pa st en sc bu sp wy ta tb re tr bk := by
  intro k
  induction k with
  | zero =>
    intro bl bu sp hk h0 h
    obtain ⟨rfl, h2⟩ := h h0
    exact br_t (by decide) (K bu sp h2)
  | succ k ih =>
    intro bl bu sp hk h0 h
    rw [pk_m1]
    obtain ⟨h12, ⟨hL, hT⟩, m, hm, hen, hd⟩ := ok (c k) (hP k (by omega))
    refine br_f (nI_pos (by omega)) ⟨pk_in k 12 (by omega), ?_⟩
    rw [nI_clamp (by omega), hw k (by omega)]
    have next : ∀ bu' sp' : Nat → Int32, (∀ i, i < L (c k) → bu' i = T (c k) i) → ∀ z, z = nI k + (-1) → wX_rebuild_51 post (k + 1) z wl gv pr (nI (L (c k))) la lb wk nu pa st en sc bu' sp' wy ta tb re tr bk := fun bu' sp' hb z ez => by
      rw [ez]
      exact ih _ bu' sp' (by omega) h0 (fun _ => ⟨rfl, hb⟩)
    rcases Nat.lt_or_ge (k + 1) n with w | w
    · obtain ⟨-, h2⟩ := h w
      have e1 := hc k w
      rcases hd with ⟨a, -⟩ | ⟨t, ht, a, b, hap⟩
      · rw [e1] at a
        exact absurd a (wk_neg _ (by have := (ok _ (hP (k + 1) w)).1; omega))
      · have et : t = c (k + 1) := by
          rw [e1] at a
          have a1 := (ok t ht).1
          have a2 := (ok _ (hP (k + 1) w)).1
          exact ((nI_eq (by omega) (by omega)).mp a).symm
        subst et
        exact xr_apply ((ok _ ht).2.1.1) hL h12 hm hen h2 hap next
    · have ek : k = n - 1 := by omega
      rw [← ek] at hz
      rcases hd with ⟨-, hap⟩ | ⟨t, ht, a, -, -⟩
      · exact xr_apply (Nat.zero_le _) hL h12 hm hen (fun i hi => by omega) hap next
      · rw [hz] at a
        exact absurd a.symm (wk_neg _ (by have := (ok t ht).1; omega))
theorem xr_way_l {n : Nat} {c : Nat → Nat} {post : SX → Prop} (h0 : 0 < n) (hn : n ≤ 12) (h12 : ∀ i, i < n → c i < 12) (hc : ∀ i, i + 1 < n → st (c i) = nI (c (i + 1))) (hz : st (c (n - 1)) = -1)
    (K : ∀ wy' : Nat → Int32, (∀ i, i < n → wy' i = nI (c i)) → ∃ f, wX_rebuild_51 post f (nI n + (-1)) wl gv pr 0 la lb wk nu pa st en sc bu sp wy' ta tb re tr bk) :
    ∀ d i (wy : Nat → Int32) (x : Int32), i + d = n → (i < n → x = nI (c i)) → (i = n → x = -1) → (∀ j, j < i → wy j = nI (c j)) → wX_rebuild_7 post wl gv pr bl la lb (d + 1) (nI i) x (nI i) wk nu pa st en sc bu sp wy ta tb re tr bk := by
  have em : nI n - 1 = nI n + (-1) := by rw [Int32.sub_eq_add_neg]
  intro d
  induction d with
  | zero =>
    intro i wy x hi h1 h2 hw
    have e : i = n := by omega
    subst e
    have ex := h2 rfl
    subst ex
    have k := K wy hw
    exact br_c (fun _ => nm_r em k) (fun _ => br_t (by decide) (nm_r em k))
  | succ d ih =>
    intro i wy x hi h1 h2 hw
    have ex := h1 (by omega)
    subst ex
    have hci := h12 i (by omega)
    refine pk_le 12 i (fun z => by omega) (fun _ => br_f (nI_pos (by omega)) ⟨pk_in i 12 (by omega), nm_r (e' := upd wy i (nI (c i))) (by rw [nI_clamp (by omega)]) (nm_r (nI_1 i) ⟨pk_in (c i) 12 hci, nm_r (e' := st (c i)) (by rw [nI_clamp (by omega)]) (nm_r (nI_1 i) (ih (i + 1) (upd wy i (nI (c i))) (st (c i)) (by omega) (fun z => hc i z) (fun z => ?_) (fun j hj => ?_)))⟩)⟩)
    · have e : i = n - 1 := by omega
      rw [e]; exact hz
    · rcases Nat.lt_or_ge j i with w | w
      · rw [pk_un (by omega)]; exact hw j w
      · have ej : j = i := by omega
        rw [ej, pk_us]
theorem xr_rebuild {P : Nat → Prop} {L : Nat → Nat} {T : Nat → Nat → Int32} {rk : Nat → Nat} {s : Nat} {post : SX → Prop} (ok : rs_OK P st en sc L T rk) (hs : P s)
    (K : ∀ bu' sp' wy' : Nat → Int32, (∀ i, i < L s → bu' i = T s i) → post (wl, gv, pr, nI (L s), la, lb, wk, nu, pa, st, en, sc, bu', sp', wy', ta, tb, re, tr, bk)) : wpX_rebuild post (wl, gv, pr, bl, la, lb, wk, nu, pa, st, en, sc, bu, sp, wy, ta, tb, re, tr, bk) (nI s) := by
  obtain ⟨n, c, c0, h0, hn, hP, hc, hz⟩ := rs_chain ok s hs
  subst c0
  refine Exists.intro (n + 1) (xr_way_l h0 hn (fun i hi => (ok _ (hP i hi)).1) hc hz (fun wy' hw => ⟨n + 1, xr_down_l ok hn hP hc hz hw (fun bu' sp' hb => K bu' sp' wy' hb) n 0 bu sp (Nat.le_refl _) h0 (fun z => by omega)⟩) n 0 wy (nI (c 0)) (by omega) (fun _ => rfl) (fun z => by omega) (fun j hj => by omega))
end
end
section
/-! the diagonal k as nI q - 24 -/
theorem kq_y {x y q : Nat} (h : x + 24 = y + q) : nI x - (nI q - 24) = nI y := by
  have e : nI x + 24 = nI y + nI q := by
    show nI x + nI 24 = _
    rw [nI_add, nI_add, h]
  grind
theorem kq_xy {x y q : Nat} (h : x + 24 = y + q) : nI x - nI y = nI q - 24 := by
  have e : nI x + 24 = nI y + nI q := by
    show nI x + nI 24 = _
    rw [nI_add, nI_add, h]
  grind
theorem kq_24 (q : Nat) : (24 : Int32) + (nI q - 24) = nI q := by grind
theorem kq_23 {q : Nat} (h : 0 < q) : (23 : Int32) + (nI q - 24) = nI (q - 1) := by
  obtain ⟨r, rfl⟩ : ∃ r, q = r + 1 := ⟨q - 1, by omega⟩
  have e := nI_1 r
  rw [Nat.add_sub_cancel]
  grind
theorem kq_25 (q : Nat) : (25 : Int32) + (nI q - 24) = nI (q + 1) := by
  have e := nI_1 q
  grind
theorem kq_2 (q : Nat) : (nI q - 24) + 2 = nI (q + 2) - 24 := by
  have e : nI q + 2 = nI (q + 2) := nI_add q 2
  grind
theorem kq_n {d : Nat} (h : d ≤ 24) : -nI d = nI (24 - d) - 24 := by
  have e : nI (24 - d) + nI d = nI 24 := by rw [nI_add, Nat.sub_add_cancel h]
  have e2 : nI 24 = 24 := rfl
  grind
theorem kq_lt {d q : Nat} (hd : d < 2 ^ 30) (hq : q < 2 ^ 30) : nI d < nI q - 24 ↔ 24 + d < q := by
  have e : (nI q - 24).toInt = (q : Int) - 24 := pk_sub_toInt (b := 24) hq (by decide)
  rw [Int32.lt_iff_toInt_lt, e, nI_toInt (by omega)]
  omega
theorem kq_eq {d q : Nat} (hd : d < 2 ^ 30) (hq : q < 2 ^ 30) : nI q - 24 = nI d ↔ q = 24 + d := by
  have e : (nI q - 24).toInt = (q : Int) - 24 := pk_sub_toInt (b := 24) hq (by decide)
  rw [← Int32.toInt_inj, e, nI_toInt (by omega)]
  omega
theorem kq_en {d q : Nat} (hd : d < 2 ^ 30) (hq : q < 2 ^ 30) : nI q - 24 = -nI d ↔ q + d = 24 := by
  have e : (nI q - 24).toInt = (q : Int) - 24 := pk_sub_toInt (b := 24) hq (by decide)
  rw [← Int32.toInt_inj, e, sb_negT (by omega)]
  omega
theorem kq_byte : ∀ x, x < 128 → (nI x).toInt8.toInt32.toInt8.toInt32 = nI x := by decide +kernel
theorem md_sl {g : Nat → Nat → Bool} {x y : Nat} : ∀ t, (∀ i, i < t → g (x + i) (y + i) = true) → md_dp g (x + t) (y + t) = md_dp g x y := by
  intro t
  induction t with
  | zero => exact fun _ => rfl
  | succ t ih => exact fun h => (md_t (h t (by omega))).trans (ih (fun i hi => h i (by omega)))
theorem md_Row_c {g : Nat → Nat → Bool} {e : Nat} {re re' : Nat → Int32} (h : ∀ q x, 24 ≤ q + e → q ≤ 24 + e → (q + e) % 2 = 0 → x ≤ 10 + e → re q = nI x → re' q = nI x) (R : md_Row g e re) : md_Row g e re' := by
  intro q h1 h2 h3
  obtain ⟨x, y, a, b, c, d⟩ := R q h1 h2 h3
  exact ⟨x, y, h q x h1 h2 h3 c a, b, c, d⟩
def xe_Pre (g : Nat → Nat → Bool) (d : Nat) (re : Nat → Int32) : Prop := (d = 0 ∧ re 25 = nI 0) ∨ ∃ e, d = e + 1 ∧ md_Row g e re
def xe_Dn (g : Nat → Nat → Bool) (d N M : Nat) (re : Nat → Int32) (q : Nat) : Prop :=
  ∀ p, 24 ≤ p + d → p < q → p ≤ 24 + d → (p + d) % 2 = 0 → ∃ x y, re p = nI x ∧ x + 24 = y + p ∧ x ≤ 10 + d ∧ md_F g d x y ∧ (x < N ∨ y < M)
theorem xe_Pre_u {g : Nat → Nat → Bool} {d q : Nat} {re : Nat → Int32} {v : Int32} (h : xe_Pre g d re) (hq : (q + d) % 2 = 0) : xe_Pre g d (upd re q v) := by
  rcases h with ⟨rfl, h⟩ | ⟨e, rfl, h⟩
  · exact Or.inl ⟨rfl, by rw [pk_un (by omega)]; exact h⟩
  · refine Or.inr ⟨e, rfl, md_Row_c (fun p x h1 h2 h3 _ hx => ?_) h⟩
    rw [pk_un (by omega)]
    exact hx
theorem xe_Dn_u {g : Nat → Nat → Bool} {d N M q x y : Nat} {re : Nat → Int32} (h : xe_Dn g d N M re q) (hq : (q + d) % 2 = 0) (h1 : x + 24 = y + q) (h2 : x ≤ 10 + d) (h3 : md_F g d x y) (h4 : x < N ∨ y < M) : xe_Dn g d N M (upd re q (nI x)) (q + 2) := by
  intro p a b c e
  rcases Nat.lt_or_ge p q with w | w
  · rw [pk_un (by omega)]
    exact h p a w c e
  · have ep : p = q := by omega
    subst ep
    exact ⟨x, y, pk_us, h1, h2, h3, h4⟩
/-- the last round: nothing done within d means more than d -/
theorem xe_more {g : Nat → Nat → Bool} {d N M : Nat} {re : Nat → Int32} (h : xe_Dn g d N M re (26 + d)) (hd : d ≤ md_dp g N M) (hM : M ≤ 24) : d + 1 ≤ md_dp g N M := by
  rcases Nat.lt_or_ge d (md_dp g N M) with w | w
  · exact w
  · exfalso
    have e : md_dp g N M = d := by omega
    have lo := md_lo g N M
    have par := md_par g N M
    obtain ⟨x, y, -, h1, -, h2, h3⟩ := h (24 + N - M) (by omega) (by omega) (by omega) (by omega)
    have a := md_F_le h2 (Nat.le_of_eq e) (by omega)
    omega
theorem xe_done {g : Nat → Nat → Bool} {d N M x y : Nat} (hg : ∀ i j, g i j = true → i < N ∧ j < M) (hd : d ≤ md_dp g N M) (h : md_F g d x y) (hx : N ≤ x) (hy : M ≤ y) : md_dp g N M = d := by
  obtain ⟨a, rfl⟩ : ∃ a, x = N + a := ⟨x - N, by omega⟩
  obtain ⟨b, rfl⟩ : ∃ b, y = M + b := ⟨y - M, by omega⟩
  have o := md_out hg a b
  have f := h.1
  omega
section
variable {wl gv pr bl la lb : Int32} {wk nu pa st en sc bu sp wy ta tb re tr bk : Nat → Int32}
theorem xe_slide_l {N M q : Nat} (hN : N ≤ 10) (hM : M ≤ 10) : ∀ d j x y, j + d = 10 → j ≤ x → x + 24 = y + q → x ≤ 100 → q ≤ 100 →
    ∃ t, (∀ i, i < t → md_g ta tb N M (x + i) (y + i) = true) ∧ ¬ md_g ta tb N M (x + t) (y + t) = true ∧ ∀ post : Int32 → Prop, post (nI (x + t)) → wX_slide_5 post (nI q - 24) wl gv pr bl (nI N) (nI M) wk nu pa st en sc bu sp wy ta tb re tr bk (d + 1) (nI x) (nI j) := by
  intro d
  induction d with
  | zero =>
    intro j x y hj hx hq hx1 hq1
    refine ⟨0, fun i hi => by omega, fun z => ?_, fun post hp => ?_⟩
    · have a := (md_g_iff.mp z).1
      omega
    · exact pk_le 10 j (fun _ => hp) (fun z => by omega)
  | succ d ih =>
    intro j x y hj hx hq hx1 hq1
    have ey := kq_y hq
    by_cases z : md_g ta tb N M x y = true
    · obtain ⟨z1, z2, z3⟩ := md_g_iff.mp z
      obtain ⟨t, h1, h2, h3⟩ := ih (j + 1) (x + 1) (y + 1) (by omega) (by omega) (by omega) (by omega) hq1
      have e1 : x + (t + 1) = x + 1 + t := by omega
      have e2 : y + (t + 1) = y + 1 + t := by omega
      refine ⟨t + 1, fun i hi => ?_, by rw [e1, e2]; exact h2, fun post hp => ?_⟩
      · cases i with
        | zero => exact z
        | succ i =>
          have a := h1 i (by omega)
          have e3 : x + (i + 1) = x + 1 + i := by omega
          have e4 : y + (i + 1) = y + 1 + i := by omega
          rw [e3, e4]; exact a
      · rw [e1] at hp
        refine pk_le 10 j (fun w => by omega) (fun _ => pk_le N x (fun w => by omega) (fun _ => pk_le M y (fun w => by omega) (fun _ => ⟨pk_in x 10 (by omega), pk_in y 10 (by omega) ey, br_t ?_ (nm_r (nI_1 x) (nm_r (nI_1 j) (h3 post hp)))⟩) rfl ey))
        rw [ey, nI_clamp (by omega), nI_clamp (by omega)]; exact z3
    · refine ⟨0, fun i hi => by omega, z, fun post hp => ?_⟩
      refine pk_le 10 j (fun w => by omega) (fun _ => pk_le N x (fun _ => hp) (fun w1 => pk_le M y (fun _ => hp) (fun w2 => ⟨pk_in x 10 (by omega), pk_in y 10 (by omega) ey, br_f ?_ hp⟩) rfl ey))
      rw [ey, nI_clamp (by omega), nI_clamp (by omega)]
      exact fun w3 => z (md_g_iff.mpr ⟨w1, w2, w3⟩)
theorem xe_73 {N M q d x0 y0 : Nat} (hN : N ≤ 10) (hM : M ≤ 10) (hS : md_S (md_g ta tb N M) d x0 y0) (hq : x0 + 24 = y0 + q) (hx0 : x0 ≤ 11 + d) (hd : d ≤ 20) (hq48 : q < 48) :
    ∃ x y, x + 24 = y + q ∧ x ≤ 10 + d ∧ md_F (md_g ta tb N M) d x y ∧ ∀ (post : Int32 → SX → Prop) (J : Int32 → (Nat → Int32) → (Nat → Int32) → (Nat → Int32) → (Nat → Int32) → (Nat → Int32) → (Nat → Int32) → (Nat → Int32) → (Nat → Int32) → (Nat → Int32) → (Nat → Int32) → (Nat → Int32) → (Nat → Int32) → (Nat → Int32) → (Nat → Int32) → Prop) (x1 : Int32), ((x < N ∨ y < M) → J (nI (q + 2) - 24) wk nu pa st en sc bu sp wy ta tb (upd re q (nI x)) tr bk) → (N ≤ x → M ≤ y → post 1 (wl, gv, pr, bl, nI N, nI M, wk, nu, pa, st, en, sc, bu, sp, wy, ta, tb, upd re q (nI x), tr, bk)) →
      wX_extendAll_73 post J x1 (nI q - 24) (nI x0) wl gv pr bl (nI N) (nI M) wk nu pa st en sc bu sp wy ta tb re tr bk := by
  obtain ⟨t, h1, h2, h3⟩ := xe_slide_l (wl := wl) (gv := gv) (pr := pr) (bl := bl) (wk := wk) (nu := nu) (pa := pa) (st := st) (en := en) (sc := sc) (bu := bu) (sp := sp) (wy := wy) (ta := ta) (tb := tb) (re := re) (tr := tr) (bk := bk) (q := q) hN hM 10 0 x0 y0 rfl (by omega) hq (by omega) (by omega)
  have hdp : md_dp (md_g ta tb N M) (x0 + t) (y0 + t) ≤ d := by
    rw [md_sl t h1]
    exact hS.1
  have hb := md_N (md_g_in (A := ta) (B := tb) (N := N) (M := M)) (x0 + t) (y0 + t)
  refine ⟨x0 + t, y0 + t, by omega, by omega, md_S_F hS hdp h2, fun post J x1 hJ hP => Exists.intro 11 (h3 _ ?_)⟩
  exact ⟨pk_in q 48 hq48 (kq_24 q), nm_r (e' := upd re q (nI (x0 + t))) (by rw [kq_24, nI_clamp (by omega)]) (pk_lt (x0 + t) N (fun z => nm_r (kq_2 q) (hJ (Or.inl z))) (fun z1 => pk_lt (y0 + t) M (fun z => nm_r (kq_2 q) (hJ (Or.inr z))) (fun z2 => hP z1 z2) (kq_y (by omega))))⟩
theorem xe_40 {q : Nat} {post : Int32 → SX → Prop} {J : Int32 → (Nat → Int32) → (Nat → Int32) → (Nat → Int32) → (Nat → Int32) → (Nat → Int32) → (Nat → Int32) → (Nat → Int32) → (Nat → Int32) → (Nat → Int32) → (Nat → Int32) → (Nat → Int32) → (Nat → Int32) → (Nat → Int32) → (Nat → Int32) → Prop} {x1 z : Int32} (hq : q + 1 < 48) (hv : re (q + 1) = z) (h : wX_extendAll_73 post J x1 (nI q - 24) z wl gv pr bl la lb wk nu pa st en sc bu sp wy ta tb re tr bk) : wX_extendAll_40 post J x1 (nI q - 24) wl gv pr bl la lb wk nu pa st en sc bu sp wy ta tb re tr bk := by
  unfold wX_extendAll_40 wX_extendAll_45
  refine br_f (by decide) ⟨pk_in (q + 1) 48 hq (kq_25 q), ?_⟩
  rw [kq_25, nI_clamp (by omega), hv]
  exact h
theorem xe_44 {q : Nat} {post : Int32 → SX → Prop} {J : Int32 → (Nat → Int32) → (Nat → Int32) → (Nat → Int32) → (Nat → Int32) → (Nat → Int32) → (Nat → Int32) → (Nat → Int32) → (Nat → Int32) → (Nat → Int32) → (Nat → Int32) → (Nat → Int32) → (Nat → Int32) → (Nat → Int32) → (Nat → Int32) → Prop} {x1 z : Int32} (h0 : 0 < q) (hq : q < 48) (hv : re (q - 1) + 1 = z) (h : wX_extendAll_73 post J x1 (nI q - 24) z wl gv pr bl la lb wk nu pa st en sc bu sp wy ta tb re tr bk) : wX_extendAll_44 post J x1 (nI q - 24) wl gv pr bl la lb wk nu pa st en sc bu sp wy ta tb re tr bk := by
  unfold wX_extendAll_44 wX_extendAll_45
  refine br_t rfl ⟨pk_in (q - 1) 48 (by omega) (kq_23 h0), ?_⟩
  rw [kq_23 h0, nI_clamp (by omega), hv]
  exact h
theorem xe_all_l {N M d : Nat} (hN : N ≤ 10) (hM : M ≤ 10) (hd : d ≤ 20) {post : Int32 → SX → Prop} (K0 : ∀ re' : Nat → Int32, xe_Dn (md_g ta tb N M) d N M re' (26 + d) → post 0 (wl, gv, pr, bl, nI N, nI M, wk, nu, pa, st, en, sc, bu, sp, wy, ta, tb, re', tr, bk))
    (K1 : ∀ (re' : Nat → Int32) (x y : Nat), md_F (md_g ta tb N M) d x y → N ≤ x → M ≤ y → post 1 (wl, gv, pr, bl, nI N, nI M, wk, nu, pa, st, en, sc, bu, sp, wy, ta, tb, re', tr, bk)) :
    ∀ r q (re : Nat → Int32), q + 2 * r = 26 + d → 24 ≤ q + d → xe_Pre (md_g ta tb N M) d re → xe_Dn (md_g ta tb N M) d N M re q → wX_extendAll_3 post (nI d) wl gv pr bl (nI N) (nI M) (r + 1) (nI q - 24) wk nu pa st en sc bu sp wy ta tb re tr bk := by
  intro r
  induction r with
  | zero =>
    intro q re hq hq24 hp hdn
    have e : q = 26 + d := by omega
    subst e
    exact br_t ((kq_lt (by omega) (by omega)).mpr (by omega)) (K0 re hdn)
  | succ r ih =>
    intro q re hq hq24 hp hdn
    have hpar : (q + d) % 2 = 0 := by omega
    have step : ∀ x0 y0, md_S (md_g ta tb N M) d x0 y0 → x0 + 24 = y0 + q → x0 ≤ 11 + d → wX_extendAll_73 post (wX_extendAll_3 post (nI d) wl gv pr bl (nI N) (nI M) (r + 1)) (nI d) (nI q - 24) (nI x0) wl gv pr bl (nI N) (nI M) wk nu pa st en sc bu sp wy ta tb re tr bk := by
      intro x0 y0 hS hxq hx0
      obtain ⟨x, y, h1, h2, h3, h4⟩ := xe_73 (wl := wl) (gv := gv) (pr := pr) (bl := bl) (wk := wk) (nu := nu) (pa := pa) (st := st) (en := en) (sc := sc) (bu := bu) (sp := sp) (wy := wy) (ta := ta) (tb := tb) (re := re) (tr := tr) (bk := bk) hN hM hS hxq hx0 hd (by omega)
      exact h4 post _ (nI d) (fun hno => ih (q + 2) (upd re q (nI x)) (by omega) (by omega) (xe_Pre_u hp hpar) (xe_Dn_u hdn hpar h1 h2 h3 hno)) (fun a b => K1 _ x y h3 a b)
    refine br_f (fun z => by have := (kq_lt (by omega) (by omega)).mp z; omega) ?_
    rcases hp with ⟨rfl, h25⟩ | ⟨e, rfl, hR⟩
    · have e : q = 24 := by omega
      subst e
      refine br_t ((kq_en (by omega) (by omega)).mpr (by omega)) (xe_40 (by omega) h25 (step 0 0 (md_S0 _) (by omega) (by omega)))
    · have down : q ≠ 24 + (e + 1) → (q + (e + 1) = 24 ∨ ¬ re (q + 1) ≤ re (q - 1)) → wX_extendAll_40 post (wX_extendAll_3 post (nI (e + 1)) wl gv pr bl (nI N) (nI M) (r + 1)) (nI (e + 1)) (nI q - 24) wl gv pr bl (nI N) (nI M) wk nu pa st en sc bu sp wy ta tb re tr bk := fun a b => by
        obtain ⟨x, y, h1, h2, h3, -, h5⟩ := md_stepD (by omega) hR hq24 (by omega) hpar a b
        exact xe_40 (by omega) h1 (step x (y + 1) h5 (by omega) (by omega))
      have right : q + (e + 1) ≠ 24 → (q = 24 + (e + 1) ∨ re (q + 1) ≤ re (q - 1)) → wX_extendAll_44 post (wX_extendAll_3 post (nI (e + 1)) wl gv pr bl (nI N) (nI M) (r + 1)) (nI (e + 1)) (nI q - 24) wl gv pr bl (nI N) (nI M) wk nu pa st en sc bu sp wy ta tb re tr bk := fun a b => by
        obtain ⟨x, y, h1, h2, h3, -, h5⟩ := md_stepR (by omega) hR hq24 (by omega) hpar a b
        exact xe_44 (by omega) (by omega) (by rw [h1]; exact nI_1 x) (step (x + 1) y h5 (by omega) (by omega))
      by_cases c1 : q + (e + 1) = 24
      · exact br_t ((kq_en (by omega) (by omega)).mpr c1) (down (by omega) (Or.inl c1))
      · refine br_f (fun z => c1 ((kq_en (by omega) (by omega)).mp z)) ?_
        by_cases c2 : q = 24 + (e + 1)
        · exact br_t ((kq_eq (by omega) (by omega)).mpr c2) (right c1 (Or.inl c2))
        · refine br_f (fun z => c2 ((kq_eq (by omega) (by omega)).mp z)) ⟨pk_in (q - 1) 48 (by omega) (kq_23 (by omega)), pk_in (q + 1) 48 (by omega) (kq_25 q), ?_⟩
          rw [kq_23 (by omega), kq_25, nI_clamp (by omega), nI_clamp (by omega)]
          exact br_c (fun z => right c1 (Or.inr z)) (fun z => down c2 (Or.inr z))
theorem xe_all {N M d : Nat} (hN : N ≤ 10) (hM : M ≤ 10) (hd : d ≤ 20) (hp : xe_Pre (md_g ta tb N M) d re) {post : Int32 → SX → Prop} (K0 : ∀ re' : Nat → Int32, xe_Dn (md_g ta tb N M) d N M re' (26 + d) → post 0 (wl, gv, pr, bl, nI N, nI M, wk, nu, pa, st, en, sc, bu, sp, wy, ta, tb, re', tr, bk))
    (K1 : ∀ (re' : Nat → Int32) (x y : Nat), md_F (md_g ta tb N M) d x y → N ≤ x → M ≤ y → post 1 (wl, gv, pr, bl, nI N, nI M, wk, nu, pa, st, en, sc, bu, sp, wy, ta, tb, re', tr, bk)) : wpX_extendAll post (wl, gv, pr, bl, nI N, nI M, wk, nu, pa, st, en, sc, bu, sp, wy, ta, tb, re, tr, bk) (nI d) :=
  nm_r (kq_n (by omega)) ⟨d + 2, xe_all_l hN hM hd K0 K1 (d + 1) (24 - d) re (by omega) (by omega) hp (fun p a b => by omega)⟩
/-! shortestEdit -/
def xe_By (re : Nat → Int32) : Nat → Int32 := fun i => vp_nar .byte ((re i).toInt8.toInt32)
theorem xe_By_s {re : Nat → Int32} {q x : Nat} (h : re q = nI x) (hx : x < 128) : xe_By re q = nI x := by
  unfold xe_By
  rw [h, vp_nar_byte]
  exact kq_byte x hx
theorem xe_31_l {N M d : Nat} (hN : N ≤ 10) (hM : M ≤ 10) (hd : d ≤ 20) (hp : xe_Pre (md_g ta tb N M) d re) {post : Int32 → SX → Prop} {J : Int32 → Int32 → Int32 → Int32 → Int32 → Int32 → Int32 → (Nat → Int32) → (Nat → Int32) → (Nat → Int32) → (Nat → Int32) → (Nat → Int32) → (Nat → Int32) → (Nat → Int32) → (Nat → Int32) → (Nat → Int32) → (Nat → Int32) → (Nat → Int32) → (Nat → Int32) → (Nat → Int32) → (Nat → Int32) → Prop}
    (K0 : ∀ re' : Nat → Int32, xe_Dn (md_g ta tb N M) d N M re' (26 + d) → J (nI (d + 1)) wl gv pr bl (nI N) (nI M) wk nu pa st en sc bu sp wy ta tb re' (wk_bl tr (48 * d) (xe_By re) 48) bk)
    (K1 : ∀ (re' : Nat → Int32) (x y : Nat), md_F (md_g ta tb N M) d x y → N ≤ x → M ≤ y → post (nI d) (wl, gv, pr, bl, nI N, nI M, wk, nu, pa, st, en, sc, bu, sp, wy, ta, tb, re', wk_bl tr (48 * d) (xe_By re) 48, bk)) :
    ∀ c i, i + c = 48 → wX_shortestEdit_31 post J (nI d) wl gv pr bl (nI N) (nI M) (c + 1) (nI i) wk nu pa st en sc bu sp wy ta tb re (wk_bl tr (48 * d) (xe_By re) i) bk := by
  intro c
  induction c with
  | zero =>
    intro i hi
    have e : i = 48 := by omega
    subst e
    refine pk_le 48 48 (fun _ => ?_) (fun z => by omega)
    refine xe_all hN hM hd hp (fun re' h => ?_) (fun re' x y h1 h2 h3 => ?_)
    · exact br_t rfl (nm_r (nI_1 d) (K0 re' h))
    · exact br_f (by decide) (K1 re' x y h1 h2 h3)
  | succ c ih =>
    intro i hi
    refine pk_le 48 i (fun z => by omega) (fun _ => ⟨pk_in i 48 (by omega), pk_in (48 * d + i) 1056 (by omega) (wk_48 d i), nm_r (e' := wk_bl tr (48 * d) (xe_By re) (i + 1)) ?_ (nm_r (nI_1 i) (ih (i + 1) (by omega)))⟩)
    rw [wk_48, nI_clamp (by omega), nI_clamp (by omega)]
    exact wk_bl_s tr (xe_By re) (48 * d) i
def xe_Tr (g : Nat → Nat → Bool) (d : Nat) (tr : Nat → Int32) : Prop := ∀ e, e < d → md_Row g e (fun q => tr (48 * (e + 1) + q))
theorem xe_Tr_s {g : Nat → Nat → Bool} {d : Nat} {re tr : Nat → Int32} (hd : d ≤ 20) (hp : xe_Pre g d re) (h : ∀ e, e + 1 < d → md_Row g e (fun q => tr (48 * (e + 1) + q))) : xe_Tr g d (wk_bl tr (48 * d) (xe_By re) 48) := by
  intro e he
  rcases Nat.lt_or_ge (e + 1) d with w | w
  · refine md_Row_c (fun q x h1 h2 _ _ hx => ?_) (h e w)
    show wk_bl tr (48 * d) (xe_By re) 48 (48 * (e + 1) + q) = nI x
    rw [wk_bl_out (Or.inl (by omega))]
    exact hx
  · rcases hp with ⟨rfl, -⟩ | ⟨e', rfl, hR⟩
    · omega
    · have ee : e' = e := by omega
      subst ee
      refine md_Row_c (fun q x h1 h2 _ h4 hx => ?_) hR
      show wk_bl tr (48 * (e' + 1)) (xe_By re) 48 (48 * (e' + 1) + q) = nI x
      rw [wk_bl_in (by omega)]
      exact xe_By_s hx (by omega)
theorem xe_23_l {N M : Nat} (hN : N ≤ 10) (hM : M ≤ 10) {post : Int32 → SX → Prop} (K : ∀ re' tr' : Nat → Int32, xe_Tr (md_g ta tb N M) (md_dp (md_g ta tb N M) N M) tr' → post (nI (md_dp (md_g ta tb N M) N M)) (wl, gv, pr, bl, nI N, nI M, wk, nu, pa, st, en, sc, bu, sp, wy, ta, tb, re', tr', bk)) :
    ∀ r d (re tr : Nat → Int32), d + r = 21 → d ≤ md_dp (md_g ta tb N M) N M → xe_Pre (md_g ta tb N M) d re → (∀ e, e + 1 < d → md_Row (md_g ta tb N M) e (fun q => tr (48 * (e + 1) + q))) → wX_shortestEdit_23 post (r + 1) (nI d) wl gv pr bl (nI N) (nI M) wk nu pa st en sc bu sp wy ta tb re tr bk := by
  have hD := md_hi (md_g ta tb N M) N M
  intro r
  induction r with
  | zero =>
    intro d re tr hr hdd hp ht
    omega
  | succ r ih =>
    intro d re tr hr hdd hp ht
    refine pk_lt 20 d (fun z => by omega) (fun _ => ⟨49, ?_⟩)
    have hT := xe_Tr_s (by omega) hp ht
    have h := xe_31_l (post := post) (J := wX_shortestEdit_23 post (r + 1)) (wl := wl) (gv := gv) (pr := pr) (bl := bl) (wk := wk) (nu := nu) (pa := pa) (st := st) (en := en) (sc := sc) (bu := bu) (sp := sp) (wy := wy) (ta := ta) (tb := tb) (re := re) (tr := tr) (bk := bk) hN hM (by omega) hp (fun re' h => ih (d + 1) re' _ (by omega) (xe_more h hdd (by omega)) (Or.inr ⟨d, rfl, fun q h1 h2 h3 => by
        obtain ⟨x, y, a, b, c, e, -⟩ := h q h1 (by omega) h2 h3
        exact ⟨x, y, a, b, c, e⟩⟩) (fun e he => hT e (by omega))) (fun re' x y h1 h2 h3 => by
        have e := xe_done md_g_in hdd h1 h2 h3
        have k := K re' (wk_bl tr (48 * d) (xe_By re) 48) (by rw [e]; exact hT)
        rw [e] at k
        exact k) 48 0 rfl
    rw [wk_bl_0] at h
    exact h
theorem xe_2_l {post : Int32 → SX → Prop} (K : ∃ f, wX_shortestEdit_23 post f (nI 0) wl gv pr bl la lb wk nu pa st en sc bu sp wy ta tb (wk_cp re (fun _ => nI 0) 48) tr bk) : ∀ c i, i + c = 48 → wX_shortestEdit_2 post wl gv pr bl la lb (c + 1) (nI i) wk nu pa st en sc bu sp wy ta tb (wk_cp re (fun _ => nI 0) i) tr bk := by
  intro c
  induction c with
  | zero =>
    intro i hi
    have e : i = 48 := by omega
    subst e
    exact pk_le 48 48 (fun _ => K) (fun z => by omega)
  | succ c ih =>
    intro i hi
    refine pk_le 48 i (fun z => by omega) (fun _ => ⟨pk_in i 48 (by omega), nm_r (e' := wk_cp re (fun _ => nI 0) (i + 1)) ?_ (nm_r (nI_1 i) (ih (i + 1) (by omega)))⟩)
    rw [nI_clamp (by omega)]
    exact wk_cp_s re (fun _ => nI 0) i
theorem xe_edit {N M : Nat} (hN : N ≤ 10) (hM : M ≤ 10) {post : Int32 → SX → Prop} (K : ∀ re' tr' : Nat → Int32, xe_Tr (md_g ta tb N M) (md_dp (md_g ta tb N M) N M) tr' → post (nI (md_dp (md_g ta tb N M) N M)) (wl, gv, pr, bl, nI N, nI M, wk, nu, pa, st, en, sc, bu, sp, wy, ta, tb, re', tr', bk)) : wpX_shortestEdit post (wl, gv, pr, bl, nI N, nI M, wk, nu, pa, st, en, sc, bu, sp, wy, ta, tb, re, tr, bk) := by
  have h := xe_2_l (post := post) (la := nI N) (lb := nI M) (wl := wl) (gv := gv) (pr := pr) (bl := bl) (wk := wk) (nu := nu) (pa := pa) (st := st) (en := en) (sc := sc) (bu := bu) (sp := sp) (wy := wy) (ta := ta) (tb := tb) (re := re) (tr := tr) (bk := bk) ⟨22, xe_23_l hN hM K 21 0 (wk_cp re (fun _ => nI 0) 48) tr rfl (Nat.zero_le _) (Or.inl ⟨rfl, wk_cp_lt (by omega)⟩) (fun e he => by omega)⟩ 48 0 rfl
  rw [wk_cp_0] at h
  exact Exists.intro 49 h
end
end
section
theorem xt_ip (d q : Nat) : (48 * nI d + 24 + (nI q - 24)) + 1 = nI (48 * d + (q + 1)) := by
  have e1 : 48 * nI d = nI (48 * d) := pk_mul 48 d
  have e2 : nI (48 * d) + nI (q + 1) = nI (48 * d + (q + 1)) := nI_add _ _
  have e3 := nI_1 q
  grind
theorem xt_im {d q : Nat} (h : 0 < q) : (48 * nI d + 24 + (nI q - 24)) - 1 = nI (48 * d + (q - 1)) := by
  obtain ⟨r, rfl⟩ : ∃ r, q = r + 1 := ⟨q - 1, by omega⟩
  have e1 : 48 * nI d = nI (48 * d) := pk_mul 48 d
  have e2 : nI (48 * d) + nI r = nI (48 * d + r) := nI_add _ _
  have e3 := nI_1 r
  rw [Nat.add_sub_cancel]
  grind
theorem xt_yd {b y q : Nat} (h : b + 24 = y + 1 + q) : nI b - (nI q - 24) - 1 = nI y := by
  rw [kq_y h]
  exact nI_pred y
theorem xt_yr {b y q : Nat} (h : b + 1 + 24 = y + q) : nI b - (nI q - 24) + 1 = nI y := by
  have e := kq_y h
  have e1 := nI_1 b
  grind
theorem sc_upd {A B : Nat → Int32} {N M : Nat} {e : Nat → Int32} {n f t : Nat} {v : Int32} (h : sc_Ap A B N M e n f t) : sc_Ap A B N M (upd e n v) n f t :=
  sc_congr (fun _ _ => rfl) (fun _ _ => rfl) n f t (fun j hj => (pk_un (by omega)).symm) h
theorem sc_keep {A B : Nat → Int32} {N M : Nat} {e : Nat → Int32} {n f t c : Nat} (hf : f + c ≤ N) (ht : t + c ≤ M) (hg : ∀ i, i < c → md_g A B N M (f + i) (t + i) = true) (h : sc_Ap A B N M e n (f + c) (t + c)) : sc_Ap A B N M (upd e n (nI (256 + c))) (n + 1) f t :=
  Or.inr (Or.inl ⟨c, pk_us, hf, ht, fun i hi => ((md_g_iff.mp (hg i hi)).2.2).symm, sc_upd h⟩)
section
variable {wl gv pr bl la lb : Int32} {wk nu pa st en sc bu sp wy ta tb re tr bk : Nat → Int32}
theorem xt_135 {N M n c x0 y0 : Nat} {post : Int32 → SX → Prop} {J : Int32 → Int32 → Int32 → Int32 → (Nat → Int32) → (Nat → Int32) → (Nat → Int32) → (Nat → Int32) → (Nat → Int32) → (Nat → Int32) → (Nat → Int32) → (Nat → Int32) → (Nat → Int32) → (Nat → Int32) → (Nat → Int32) → (Nat → Int32) → (Nat → Int32) → (Nat → Int32) → Prop} {x5 x6 x8 x9 : Int32} (hN : N ≤ 10) (hM : M ≤ 10) (hx : x0 + c ≤ N) (hy : y0 + c ≤ M) (hg : ∀ i, i < c → md_g ta tb N M (x0 + i) (y0 + i) = true) (hn : n + (x0 + c) + (y0 + c) ≤ N + M) (hap : sc_Ap ta tb N M bk n (x0 + c) (y0 + c))
    (K : ∀ (n' : Nat) (bk' : Nat → Int32), n' + x0 + y0 ≤ N + M → sc_Ap ta tb N M bk' n' x0 y0 → wX_traceBack_158 post J (nI n') x5 x6 x8 x9 wl gv pr bl la lb wk nu pa st en sc bu sp wy ta tb re tr bk') : wX_traceBack_135 post J (nI n) x5 x6 x8 x9 (nI x0) (nI (x0 + c)) wl gv pr bl la lb wk nu pa st en sc bu sp wy ta tb re tr bk := by
  unfold wX_traceBack_135
  have e1 : nI (x0 + c) - nI x0 = nI c := by rw [pk_sub (by omega), Nat.add_sub_cancel_left]
  refine nm_r e1 (pk_le c 0 (fun z => ?_) (fun z => ⟨pk_in n 48 (by omega), nm_r (e' := upd bk n (nI (256 + c))) ?_ (nm_r (nI_1 n) (K (n + 1) _ (by omega) (sc_keep hx hy hg hap)))⟩))
  · have ec : c = 0 := by omega
    subst ec
    exact K n bk (by omega) hap
  · rw [nI_clamp (by omega), ← nI_add]
    rfl
theorem xt_79 {N M n c q e b yb : Nat} {post : Int32 → SX → Prop} {J : Int32 → Int32 → Int32 → Int32 → (Nat → Int32) → (Nat → Int32) → (Nat → Int32) → (Nat → Int32) → (Nat → Int32) → (Nat → Int32) → (Nat → Int32) → (Nat → Int32) → (Nat → Int32) → (Nat → Int32) → (Nat → Int32) → (Nat → Int32) → (Nat → Int32) → (Nat → Int32) → Prop} (hN : N ≤ 10) (hM : M ≤ 10) (he : e ≤ 20) (hq : q + 1 < 48) (hb : ∀ i, i < M → ∃ v, v < 256 ∧ tb i = nI v) (htr : tr (48 * (e + 1) + (q + 1)) = nI b) (hd : b + 24 = yb + 1 + q) (hx : b + c ≤ N) (hy : yb + 1 + c ≤ M) (hg : ∀ i, i < c → md_g ta tb N M (b + i) (yb + 1 + i) = true) (hn : n + (b + c) + (yb + 1 + c) ≤ N + M) (hap : sc_Ap ta tb N M bk n (b + c) (yb + 1 + c))
    (K : ∀ (n' : Nat) (bk' : Nat → Int32), n' + b + yb ≤ N + M → sc_Ap ta tb N M bk' n' b yb → J (nI n') (nI b) (nI yb) (nI e) wk nu pa st en sc bu sp wy ta tb re tr bk') : wX_traceBack_79 post J (nI n) (nI (b + c)) (nI (e + 1)) (nI q - 24) (48 * nI (e + 1) + 24) wl gv pr bl la lb wk nu pa st en sc bu sp wy ta tb re tr bk := by
  unfold wX_traceBack_79 wX_traceBack_84
  refine br_f (by decide) ⟨pk_in (48 * (e + 1) + (q + 1)) 1056 (by omega) (xt_ip (e + 1) q), ?_⟩
  rw [xt_ip, nI_clamp (by omega), htr]
  unfold wX_traceBack_118
  refine br_f (by decide) (xt_135 hN hM hx hy hg hn hap (fun n' bk' h1 h2 => ?_))
  unfold wX_traceBack_158
  refine br_f (by decide) ?_
  rw [xt_yd hd]
  unfold wX_traceBack_181
  obtain ⟨v, hv, ev⟩ := hb yb (by omega)
  refine br_f (by decide) ⟨pk_in yb 10 (by omega), pk_in n' 48 (by omega), nm_r (e' := upd bk' n' (nI v)) (by rw [nI_clamp (by omega), nI_clamp (by omega), ev]) (nm_r (nI_1 n') (nm_r (pk_m1 e) (K (n' + 1) _ (by omega) (Or.inl ⟨v, hv, pk_us, by omega, ev, sc_upd h2⟩))))⟩
theorem xt_83 {N M n c q e b yb : Nat} {post : Int32 → SX → Prop} {J : Int32 → Int32 → Int32 → Int32 → (Nat → Int32) → (Nat → Int32) → (Nat → Int32) → (Nat → Int32) → (Nat → Int32) → (Nat → Int32) → (Nat → Int32) → (Nat → Int32) → (Nat → Int32) → (Nat → Int32) → (Nat → Int32) → (Nat → Int32) → (Nat → Int32) → (Nat → Int32) → Prop} (hN : N ≤ 10) (hM : M ≤ 10) (he : e ≤ 20) (hq0 : 0 < q) (hq : q < 48) (htr : tr (48 * (e + 1) + (q - 1)) = nI b) (hd : b + 1 + 24 = yb + q) (hx : b + 1 + c ≤ N) (hy : yb + c ≤ M) (hg : ∀ i, i < c → md_g ta tb N M (b + 1 + i) (yb + i) = true) (hn : n + (b + 1 + c) + (yb + c) ≤ N + M) (hap : sc_Ap ta tb N M bk n (b + 1 + c) (yb + c))
    (K : ∀ (n' : Nat) (bk' : Nat → Int32), n' + b + yb ≤ N + M → sc_Ap ta tb N M bk' n' b yb → J (nI n') (nI b) (nI yb) (nI e) wk nu pa st en sc bu sp wy ta tb re tr bk') : wX_traceBack_83 post J (nI n) (nI (b + 1 + c)) (nI (e + 1)) (nI q - 24) (48 * nI (e + 1) + 24) wl gv pr bl la lb wk nu pa st en sc bu sp wy ta tb re tr bk := by
  unfold wX_traceBack_83 wX_traceBack_84
  refine br_t rfl ⟨pk_in (48 * (e + 1) + (q - 1)) 1056 (by omega) (xt_im hq0), ?_⟩
  rw [xt_im hq0, nI_clamp (by omega), htr]
  unfold wX_traceBack_118
  refine br_t rfl ?_
  rw [nI_1 b]
  refine xt_135 hN hM hx hy hg hn hap (fun n' bk' h1 h2 => ?_)
  unfold wX_traceBack_158
  refine br_t rfl ?_
  rw [xt_yr hd]
  unfold wX_traceBack_181
  refine br_t rfl ⟨pk_in n' 48 (by omega), nm_r (e' := upd bk' n' (nI 513)) (by rw [nI_clamp (by omega)]; rfl) (nm_r (nI_1 n') (nm_r (pk_m1 e) (K (n' + 1) _ (by omega) (Or.inr (Or.inr ⟨pk_us, by omega, sc_upd h2⟩)))))⟩
theorem xt_16_l {N M D : Nat} (hN : N ≤ 10) (hM : M ≤ 10) (hD : D ≤ 20) (hb : ∀ i, i < M → ∃ v, v < 256 ∧ tb i = nI v) (hT : xe_Tr (md_g ta tb N M) D tr) {post : Int32 → SX → Prop} (K : ∀ (m : Nat) (bk' : Nat → Int32), m ≤ 20 → sc_Ap ta tb N M bk' m 0 0 → post (nI m) (wl, gv, pr, bl, la, lb, wk, nu, pa, st, en, sc, bu, sp, wy, ta, tb, re, tr, bk')) :
    ∀ d n x y (bk : Nat → Int32), d ≤ D → md_F (md_g ta tb N M) d x y → (d + x + y) % 2 = 0 → x ≤ N → y ≤ M → n + x + y ≤ N + M → sc_Ap ta tb N M bk n x y → wX_traceBack_16 post wl gv pr bl la lb (d + 1) (nI n) (nI x) (nI y) (nI d) wk nu pa st en sc bu sp wy ta tb re tr bk := by
  intro d
  induction d with
  | zero =>
    intro n x y bk hd hF hpar hx hy hn hap
    have lo := md_lo (md_g ta tb N M) x y
    have f1 := hF.1
    have exy : y = x := by omega
    subst exy
    refine pk_le 0 0 (fun _ => pk_le y 0 (fun z => ?_) (fun z => ⟨pk_in n 48 (by omega), nm_r (e' := upd bk n (nI (256 + y))) ?_ (nm_r (nI_1 n) (K (n + 1) _ (by omega) ?_))⟩)) (fun z => by omega)
    · have e0 : y = 0 := by omega
      subst e0
      exact K n bk (by omega) hap
    · rw [nI_clamp (by omega), ← nI_add]
      rfl
    · have e0 : 0 + y = y := by omega
      exact sc_keep (by omega) (by omega) (fun i hi => md_S_g (md_S0 _) (by rw [e0]; exact f1) i hi) (by rw [e0]; exact hap)
  | succ e ih =>
    intro n x y bk hd hF hpar hx hy hn hap
    have lo := md_lo (md_g ta tb N M) x y
    have f1 := hF.1
    obtain ⟨q, hq⟩ : ∃ q, x + 24 = y + q := ⟨x + 24 - y, by omega⟩
    have hR := hT e (by omega)
    have down : q ≠ 24 + (e + 1) → (q + (e + 1) = 24 ∨ ¬ tr (48 * (e + 1) + (q + 1)) ≤ tr (48 * (e + 1) + (q - 1))) → wX_traceBack_79 post (wX_traceBack_16 post wl gv pr bl la lb (e + 1)) (nI n) (nI x) (nI (e + 1)) (nI q - 24) (48 * nI (e + 1) + 24) wl gv pr bl la lb wk nu pa st en sc bu sp wy ta tb re tr bk := fun a b => by
      obtain ⟨xb, yb, h1, h2, h3, h4, h5⟩ := md_stepD (q := q) (by omega) hR (by omega) (by omega) (by omega) a b
      have le := md_F_le hF h5.1 (by omega)
      obtain ⟨c, rfl⟩ : ∃ c, x = xb + c := ⟨x - xb, by omega⟩
      have ey : y = yb + 1 + c := by omega
      subst ey
      exact xt_79 hN hM (by omega) (by omega) hb h1 h2 (by omega) (by omega) (fun i hi => md_S_g h5 f1 i hi) (by omega) hap (fun n' bk' k1 k2 => ih n' xb yb bk' (by omega) h4 (by omega) (by omega) (by omega) (by omega) k2)
    have right : q + (e + 1) ≠ 24 → (q = 24 + (e + 1) ∨ tr (48 * (e + 1) + (q + 1)) ≤ tr (48 * (e + 1) + (q - 1))) → wX_traceBack_83 post (wX_traceBack_16 post wl gv pr bl la lb (e + 1)) (nI n) (nI x) (nI (e + 1)) (nI q - 24) (48 * nI (e + 1) + 24) wl gv pr bl la lb wk nu pa st en sc bu sp wy ta tb re tr bk := fun a b => by
      obtain ⟨xb, yb, h1, h2, h3, h4, h5⟩ := md_stepR (q := q) (by omega) hR (by omega) (by omega) (by omega) a b
      have le := md_F_le hF h5.1 (by omega)
      obtain ⟨c, rfl⟩ : ∃ c, x = xb + 1 + c := ⟨x - (xb + 1), by omega⟩
      have ey : y = yb + c := by omega
      subst ey
      exact xt_83 hN hM (by omega) (by omega) (by omega) h1 h2 (by omega) (by omega) (fun i hi => md_S_g h5 f1 i hi) (by omega) hap (fun n' bk' k1 k2 => ih n' xb yb bk' (by omega) h4 (by omega) (by omega) (by omega) (by omega) k2)
    refine pk_le (e + 1) 0 (fun z => by omega) (fun _ => nm_r (kq_xy hq) (nm_e ?_))
    by_cases c1 : q + (e + 1) = 24
    · exact br_t ((kq_en (by omega) (by omega)).mpr c1) (down (by omega) (Or.inl c1))
    · refine br_f (fun z => c1 ((kq_en (by omega) (by omega)).mp z)) ?_
      by_cases c2 : q = 24 + (e + 1)
      · exact br_t ((kq_eq (by omega) (by omega)).mpr c2) (right c1 (Or.inl c2))
      · refine br_f (fun z => c2 ((kq_eq (by omega) (by omega)).mp z)) ⟨pk_in (48 * (e + 1) + (q - 1)) 1056 (by omega) (xt_im (by omega)), pk_in (48 * (e + 1) + (q + 1)) 1056 (by omega) (xt_ip (e + 1) q), ?_⟩
        rw [xt_ip, xt_im (by omega), nI_clamp (by omega), nI_clamp (by omega)]
        exact br_c (fun z => right c1 (Or.inr z)) (fun z => down c2 (Or.inr z))
theorem xt_back {N M : Nat} (hN : N ≤ 10) (hM : M ≤ 10) (hb : ∀ i, i < M → ∃ v, v < 256 ∧ tb i = nI v) (hT : xe_Tr (md_g ta tb N M) (md_dp (md_g ta tb N M) N M) tr) {post : Int32 → SX → Prop} (K : ∀ (m : Nat) (bk' : Nat → Int32), m ≤ 20 → sc_Ap ta tb N M bk' m 0 0 → post (nI m) (wl, gv, pr, bl, nI N, nI M, wk, nu, pa, st, en, sc, bu, sp, wy, ta, tb, re, tr, bk')) : wpX_traceBack post (wl, gv, pr, bl, nI N, nI M, wk, nu, pa, st, en, sc, bu, sp, wy, ta, tb, re, tr, bk) (nI (md_dp (md_g ta tb N M) N M)) := by
  have h1 := md_hi (md_g ta tb N M) N M
  have h2 := md_par (md_g ta tb N M) N M
  have h3 := md_out (md_g_in (A := ta) (B := tb) (N := N) (M := M)) 1 1
  exact Exists.intro (md_dp (md_g ta tb N M) N M + 1) (xt_16_l hN hM (by omega) hb hT K _ 0 N M bk (Nat.le_refl _) ⟨Nat.le_refl _, by omega⟩ h2 (Nat.le_refl _) (Nat.le_refl _) (by omega) rfl)
theorem xt_22_l {post : SX → Prop} {m s : Nat} (hm : m ≤ 20) (hs : s < 12) (K : post (wl, gv, pr, bl, la, lb, wk, nu, pa, st, upd en s (nI m), wk_bl sc (40 * s) (fun i => bk (m - 1 - i)) m, bu, sp, wy, ta, tb, re, tr, bk)) : ∀ d i, i + d = m → wX_storeDifference_22 post (nI s) (nI m) wl gv pr bl la lb (d + 1) (nI i) wk nu pa st en (wk_bl sc (40 * s) (fun i => bk (m - 1 - i)) i) bu sp wy ta tb re tr bk := by
  intro d
  induction d with
  | zero =>
    intro i hi
    have e : i = m := by omega
    subst e
    exact pk_le i i (fun _ => ⟨pk_in s 12 hs, nm_r (by rw [nI_clamp (by omega)]) K⟩) (fun z => by omega)
  | succ d ih =>
    intro i hi
    have e1 : nI m - 1 - nI i = nI (m - 1 - i) := by
      show nI m - nI 1 - nI i = _
      rw [pk_sub (by omega), pk_sub (by omega)]
    refine pk_le m i (fun z => by omega) (fun _ => ⟨pk_in (m - 1 - i) 48 (by omega) e1, pk_in (40 * s + i) 480 (by omega) (wk_40 s i), nm_r (e' := wk_bl sc (40 * s) (fun i => bk (m - 1 - i)) (i + 1)) ?_ (nm_r (nI_1 i) (ih (i + 1) (by omega)))⟩)
    rw [wk_40, e1, nI_clamp (by omega), nI_clamp (by omega)]
    exact wk_bl_s sc (fun i => bk (m - 1 - i)) (40 * s) i
theorem xt_diff {N M s : Nat} {x : Int32} (hN : N ≤ 10) (hM : M ≤ 10) (hs : s < 12) (hb : ∀ i, i < M → ∃ v, v < 256 ∧ tb i = nI v) {post : SX → Prop}
    (K : ∀ (re' tr' bk' sc' : Nat → Int32) (m : Nat), m ≤ 20 → (∀ j, j < 40 * s ∨ 40 * s + 40 ≤ j → sc' j = sc j) → sc_Ap ta tb N M (fun j => sc' (40 * s + (m - 1 - j))) m 0 0 → post (wl, gv, pr, bl, nI N, nI M, wk, nu, pa, upd st s x, upd en s (nI m), sc', bu, sp, wy, ta, tb, re', tr', bk')) : wpX_storeDifference post (wl, gv, pr, bl, nI N, nI M, wk, nu, pa, st, en, sc, bu, sp, wy, ta, tb, re, tr, bk) (nI s) x := by
  unfold wpX_storeDifference
  refine xe_edit hN hM (fun re' tr' hT => ?_)
  refine xt_back hN hM hb hT (fun m bk' hm hap => ?_)
  refine And.intro (pk_in s 12 hs) (nm_r (e' := upd st s x) (by rw [nI_clamp (by omega)]) (Exists.intro (m + 1) ?_))
  have k := K re' tr' bk' (wk_bl sc (40 * s) (fun i => bk' (m - 1 - i)) m) m hm (fun j hj => wk_bl_out (by omega)) (sc_congr (fun _ _ => rfl) (fun _ _ => rfl) m 0 0 (fun j hj => by
    have e : m - 1 - (m - 1 - j) = j := by omega
    show bk' j = wk_bl sc (40 * s) (fun i => bk' (m - 1 - i)) m (40 * s + (m - 1 - j))
    rw [wk_bl_in (by omega), e]) hap)
  have h := xt_22_l (post := post) hm hs k m 0 (by omega)
  rw [wk_bl_0] at h
  exact h
end
end
section
/-! counts -/
def yc_ct (f : Nat → Bool) : Nat → Nat
  | 0 => 0
  | i + 1 => yc_ct f i + (if f i = true then 1 else 0)
theorem yc_t {f : Nat → Bool} {i : Nat} (h : f i = true) : yc_ct f (i + 1) = yc_ct f i + 1 := by
  show yc_ct f i + (if f i = true then 1 else 0) = _
  rw [if_pos h]
theorem yc_f {f : Nat → Bool} {i : Nat} (h : ¬ f i = true) : yc_ct f (i + 1) = yc_ct f i := by
  show yc_ct f i + (if f i = true then 1 else 0) = _
  rw [if_neg h]
  rfl
theorem yc_le (f : Nat → Bool) : ∀ n, yc_ct f n ≤ n := by
  intro n
  induction n with
  | zero => exact Nat.le_refl _
  | succ n ih =>
    by_cases h : f n = true
    · rw [yc_t h]; omega
    · rw [yc_f h]; omega
theorem yc_free {f : Nat → Bool} : ∀ n, yc_ct f n < n → ∃ i, i < n ∧ ¬ f i = true := by
  intro n
  induction n with
  | zero => intro h; exact absurd h (Nat.not_lt_zero _)
  | succ n ih =>
    intro h
    by_cases z : f n = true
    · rw [yc_t z] at h
      obtain ⟨i, hi, h2⟩ := ih (by omega)
      exact ⟨i, by omega, h2⟩
    · exact ⟨n, by omega, z⟩
theorem yc_congr {f f' : Nat → Bool} : ∀ n, (∀ i, i < n → f' i = f i) → yc_ct f' n = yc_ct f n := by
  intro n
  induction n with
  | zero => exact fun _ => rfl
  | succ n ih =>
    intro h
    have a := ih (fun i hi => h i (by omega))
    have b := h n (by omega)
    by_cases z : f n = true
    · rw [yc_t z, yc_t (b.trans z), a]
    · rw [yc_f z, yc_f (by rw [b]; exact z), a]
theorem yc_set {f f' : Nat → Bool} {k : Nat} (h0 : ¬ f k = true) (h1 : f' k = true) : ∀ n, k < n → (∀ i, i ≠ k → f' i = f i) → yc_ct f' n = yc_ct f n + 1 := by
  intro n
  induction n with
  | zero => intro h; exact absurd h (Nat.not_lt_zero _)
  | succ n ih =>
    intro hk h
    rcases Nat.lt_or_ge k n with w | w
    · have a := ih w h
      have b := h n (by omega)
      by_cases z : f n = true
      · rw [yc_t z, yc_t (b.trans z), a]
      · rw [yc_f z, yc_f (by rw [b]; exact z), a]
    · have e : k = n := by omega
      subst e
      rw [yc_f h0, yc_t h1, yc_congr k (fun i hi => h i (by omega))]
def yc_h (he : Nat → Int32) : Nat → Bool := fun i => decide (¬ he i = 0)
def yc_n (nu : Nat → Int32) : Nat → Bool := fun i => decide (¬ nu i < 0)
theorem yc_h_i {he : Nat → Int32} {i : Nat} : yc_h he i = true ↔ ¬ he i = 0 := by
  unfold yc_h
  exact decide_eq_true_iff
theorem yc_n_i {nu : Nat → Int32} {i : Nat} : yc_n nu i = true ↔ ¬ nu i < 0 := by
  unfold yc_n
  exact decide_eq_true_iff
theorem md_right (g : Nat → Nat → Bool) (i j t : Nat) : md_dp g i (j + t) ≤ md_dp g i j + t := by
  induction t with
  | zero => exact Nat.le_refl _
  | succ t ih =>
    have a := (md_lip g i (j + t)).1
    have e : j + (t + 1) = j + t + 1 := by omega
    rw [e]
    omega
theorem ys_bit {c i : Nat} (hc : c < 2 ^ 31) (hi : i < 32) : (nI c >>> (nI i &&& 31)) &&& 1 = nI (c / 2 ^ i % 2) := by
  rw [pk_shrN hc _ i (s_l i hi)]
  exact pk_andN (Nat.lt_of_le_of_lt (Nat.div_le_self _ _) (by omega)) 1 rfl
theorem ys_pow {c' c i : Nat} (h : c' % 2 ^ (i + 1) = c) (hc : c < 2 ^ i) : c' % 2 ^ i = c ∧ ¬ c' / 2 ^ i % 2 = 1 := by
  rw [Nat.pow_succ, Nat.mod_mul] at h
  have a := Nat.mod_lt (c' / 2 ^ i) (show 0 < 2 by omega)
  rcases Nat.lt_or_ge (c' / 2 ^ i % 2) 1 with w | w
  · have e : c' / 2 ^ i % 2 = 0 := by omega
    rw [e, Nat.mul_zero] at h
    exact ⟨by omega, by omega⟩
  · have e : c' / 2 ^ i % 2 = 1 := by omega
    rw [e, Nat.mul_one] at h
    omega
theorem ys_pow1 {c' c i : Nat} (h : c' % 2 ^ (i + 1) = 2 ^ i + c) (hc : c < 2 ^ i) : c' % 2 ^ i = c ∧ c' / 2 ^ i % 2 = 1 := by
  rw [Nat.pow_succ, Nat.mod_mul] at h
  have a := Nat.mod_lt (c' / 2 ^ i) (show 0 < 2 by omega)
  have b := Nat.mod_lt c' (Nat.two_pow_pos i)
  rcases Nat.lt_or_ge (c' / 2 ^ i % 2) 1 with w | w
  · have e : c' / 2 ^ i % 2 = 0 := by omega
    rw [e, Nat.mul_zero] at h
    omega
  · have e : c' / 2 ^ i % 2 = 1 := by omega
    rw [e, Nat.mul_one] at h
    exact ⟨by omega, e⟩
section
variable {ln nx ll rl : Int32} {tx he pt le ts lf rt : Nat → Int32}
theorem ym_no {post : Int32 → Prop} {x : Int32} (h : ∀ n, n < 40 → x = nI n → he n = 0) (K : post 1) : wpY_missing post (ln, nx, ll, rl, tx, he, pt, le, ts, lf, rt) x := by
  refine br_c (fun _ => K) (fun h0 => br_c (fun _ => K) (fun h1 => ?_))
  obtain ⟨j, hj, rfl⟩ := nI_of h0
  have h2 : ¬ nI 39 < nI j := h1
  rw [nI_ltI (by omega) hj] at h2
  refine ⟨pk_in j 40 (by omega), br_t ?_ K⟩
  rw [nI_clamp hj]
  exact h j (by omega) rfl
theorem ym_yes {post : Int32 → Prop} {n : Nat} (hn : n < 40) (h : ¬ he n = 0) (K : post 0) : wpY_missing post (ln, nx, ll, rl, tx, he, pt, le, ts, lf, rt) (nI n) := by
  refine br_f (nI_pos (by omega)) (pk_lt 39 n (fun z => by omega) (fun _ => ⟨pk_in n 40 hn, br_f ?_ K⟩))
  rw [nI_clamp (by omega)]
  exact h
theorem ym_count_l {post : Int32 → Prop} (K : post (nI (yc_ct (yc_h he) 40))) : ∀ d i, i + d = 40 → wY_count_4 post ln nx ll rl tx he pt le ts lf rt (d + 1) (nI (yc_ct (yc_h he) i)) (nI i) := by
  intro d
  induction d with
  | zero =>
    intro i hi
    have e : i = 40 := by omega
    subst e
    exact pk_le 40 40 (fun _ => K) (fun z => by omega)
  | succ d ih =>
    intro i hi
    have k := ih (i + 1) (by omega)
    refine pk_le 40 i (fun z => by omega) (fun _ => ⟨pk_in i 40 (by omega), ?_⟩)
    rw [nI_clamp (by omega)]
    by_cases z : he i = 0
    · rw [yc_f (fun w => yc_h_i.mp w z)] at k
      exact br_t z (nm_r (nI_1 i) k)
    · rw [yc_t (yc_h_i.mpr z)] at k
      exact br_f z (nm_r (nI_1 _) (nm_r (nI_1 i) k))
theorem ym_count {post : Int32 → Prop} (K : post (nI (yc_ct (yc_h he) 40))) : wpY_count post (ln, nx, ll, rl, tx, he, pt, le, ts, lf, rt) := Exists.intro 41 (ym_count_l K 40 0 rfl)
/-! stay, least -/
theorem ys_26 {M i k : Nat} (hM : M ≤ 10) (hi : i < 10) : ∀ d a, a + d = M →
    (∃ a', a ≤ a' ∧ a' < M ∧ rt a' = lf i ∧ (∀ b, a ≤ b → b < a' → rt b ≠ lf i) ∧ ∀ (post : Int32 → Prop) (J : Int32 → Int32 → Int32 → Prop) (c : Int32), J (nI (a' + 1)) (nI (k + 1)) (nI (i + 1)) → wY_stay_26 post J c (nI k) (nI i) ln nx ll (nI M) tx he pt le ts lf rt (d + 1) (nI a)) ∨
    ((∀ b, a ≤ b → b < M → rt b ≠ lf i) ∧ ∀ (post : Int32 → Prop) (J : Int32 → Int32 → Int32 → Prop) (c : Int32), post (-1) → wY_stay_26 post J c (nI k) (nI i) ln nx ll (nI M) tx he pt le ts lf rt (d + 1) (nI a)) := by
  intro d
  induction d with
  | zero =>
    intro a ha
    have e : a = M := by omega
    subst e
    refine Or.inr ⟨fun b h1 h2 => by omega, fun post J c hp => pk_le a a (fun _ => ?_) (fun z => by omega)⟩
    unfold wY_stay_56
    exact pk_lt a a (fun z => by omega) (fun _ => hp)
  | succ d ih =>
    intro a ha
    by_cases z : rt a = lf i
    · refine Or.inl ⟨a, Nat.le_refl _, by omega, z, fun b h1 h2 => by omega, fun post J c hp => pk_le M a (fun w => by omega) (fun _ => ⟨pk_in a 10 (by omega), pk_in i 10 hi, br_t ?_ ?_⟩)⟩
      · rw [nI_clamp (by omega), nI_clamp (by omega)]; exact z
      · unfold wY_stay_56
        exact pk_lt a M (fun _ => nm_r (nI_1 a) (nm_r (nI_1 k) (nm_r (nI_1 i) hp))) (fun w => by omega)
    · have hz : ¬ rt (nI a).toNatClampNeg = lf (nI i).toNatClampNeg := by rw [nI_clamp (by omega), nI_clamp (by omega)]; exact z
      have st : ∀ b, a ≤ b → (a + 1 ≤ b ∨ b = a) := fun b hb => by omega
      rcases ih (a + 1) (by omega) with ⟨a', h1, h2, h3, h4, h5⟩ | ⟨h1, h2⟩
      · refine Or.inl ⟨a', by omega, h2, h3, fun b k1 k2 => ?_, fun post J c hp => pk_le M a (fun w => by omega) (fun _ => ⟨pk_in a 10 (by omega), pk_in i 10 hi, br_f hz (nm_r (nI_1 a) (h5 post J c hp))⟩)⟩
        rcases st b k1 with w | w
        · exact h4 b w k2
        · rw [w]; exact z
      · refine Or.inr ⟨fun b k1 k2 => ?_, fun post J c hp => pk_le M a (fun w => by omega) (fun _ => ⟨pk_in a 10 (by omega), pk_in i 10 hi, br_f hz (nm_r (nI_1 a) (h2 post J c hp))⟩)⟩
        rcases st b k1 with w | w
        · exact h1 b w k2
        · rw [w]; exact z
theorem ys_any_l {N M c : Nat} (hN : N ≤ 10) (hM : M ≤ 10) (hc : c < 2 ^ 31) : ∀ d i a k, i + d = N → a ≤ M → k ≤ i → md_dp (md_g lf rt N M) i a + 2 * k ≤ i + a →
    ∃ r : Int32, (r = -1 ∨ ∃ k', k' ≤ 10 ∧ r = nI k' ∧ 2 * k' + md_dp (md_g lf rt N M) N M ≤ N + M) ∧ ∀ post : Int32 → Prop, post r → wY_stay_7 post (nI c) ln nx (nI N) (nI M) tx he pt le ts lf rt (d + 1) (nI a) (nI k) (nI i) := by
  intro d
  induction d with
  | zero =>
    intro i a k hi ha hk h
    have e : i = N := by omega
    subst e
    have r := md_right (md_g lf rt i M) i a (M - a)
    have e2 : a + (M - a) = M := by omega
    rw [e2] at r
    exact ⟨nI k, Or.inr ⟨k, by omega, rfl, by omega⟩, fun post hp => pk_le i i (fun _ => hp) (fun z => by omega)⟩
  | succ d ih =>
    intro i a k hi ha hk h
    have lip := md_lip (md_g lf rt N M) i a
    by_cases z : c / 2 ^ i % 2 = 1
    · have hz : (nI c >>> (nI i &&& 31)) &&& 1 = 1 := by rw [ys_bit hc (by omega), z]; rfl
      rcases ys_26 (ln := ln) (nx := nx) (tx := tx) (he := he) (pt := pt) (le := le) (ts := ts) (lf := lf) (rt := rt) (ll := nI N) (M := M) (i := i) (k := k) hM (by omega) (M - a) a (by omega) with ⟨a', h1, h2, h3, -, h5⟩ | ⟨-, h2⟩
      · have r := md_right (md_g lf rt N M) i a (a' - a)
        have e2 : a + (a' - a) = a' := by omega
        rw [e2] at r
        have t := md_t (md_g_iff.mpr ⟨(show i < N by omega), h2, h3.symm⟩ : md_g lf rt N M i a' = true)
        obtain ⟨x, hx, hp⟩ := ih (i + 1) (a' + 1) (k + 1) (by omega) (by omega) (by omega) (by omega)
        exact ⟨x, hx, fun post hr => pk_le N i (fun w => by omega) (fun _ => br_t hz ⟨M - a + 1, h5 post _ (nI c) (hp post hr)⟩)⟩
      · exact ⟨-1, Or.inl rfl, fun post hr => pk_le N i (fun w => by omega) (fun _ => br_t hz ⟨M - a + 1, h2 post _ (nI c) hr⟩)⟩
    · have hz : ¬ (nI c >>> (nI i &&& 31)) &&& 1 = 1 := by
        rw [ys_bit hc (by omega)]
        intro w
        have w2 : nI (c / 2 ^ i % 2) = nI 1 := w
        rw [nI_eq (by omega) (by omega)] at w2
        exact z w2
      obtain ⟨x, hx, hp⟩ := ih (i + 1) a k (by omega) ha (by omega) (by omega)
      exact ⟨x, hx, fun post hr => pk_le N i (fun w => by omega) (fun _ => br_f hz (nm_r (nI_1 i) (hp post hr)))⟩
theorem ys_skip {N M c i a k n : Nat} {post : Int32 → Prop} (hN : N ≤ 10) (hi : i < N) (hc : c < 2 ^ 31) (z : ¬ c / 2 ^ i % 2 = 1) (h : wY_stay_7 post (nI c) ln nx (nI N) (nI M) tx he pt le ts lf rt n (nI a) (nI k) (nI (i + 1))) : wY_stay_7 post (nI c) ln nx (nI N) (nI M) tx he pt le ts lf rt (n + 1) (nI a) (nI k) (nI i) := by
  have hz : ¬ (nI c >>> (nI i &&& 31)) &&& 1 = 1 := by
    rw [ys_bit hc (by omega)]
    intro w
    have w2 : nI (c / 2 ^ i % 2) = nI 1 := w
    rw [nI_eq (by omega) (by omega)] at w2
    exact z w2
  exact pk_le N i (fun w => by omega) (fun _ => br_f hz (nm_r (nI_1 i) h))
theorem ys_opt_l {N M : Nat} (hN : N ≤ 10) (hM : M ≤ 10) : ∀ i, i ≤ N → ∀ j, j ≤ M → ∃ c a k, c < 2 ^ i ∧ a ≤ j ∧ k ≤ i ∧ 2 * k + md_dp (md_g lf rt N M) i j = i + j ∧
    ∀ (post : Int32 → Prop) (c' n : Nat), c' < 2 ^ 31 → c' % 2 ^ i = c → wY_stay_7 post (nI c') ln nx (nI N) (nI M) tx he pt le ts lf rt n (nI a) (nI k) (nI i) → wY_stay_7 post (nI c') ln nx (nI N) (nI M) tx he pt le ts lf rt (n + i) (nI 0) (nI 0) (nI 0) := by
  intro i
  induction i with
  | zero =>
    intro _ j _
    exact ⟨0, 0, 0, Nat.two_pow_pos 0, Nat.zero_le _, Nat.zero_le _, by rw [md_00], fun post c' n _ _ h => h⟩
  | succ i ih =>
    intro hi j
    have skip : ∀ j', j' ≤ M → ∃ c a k, c < 2 ^ (i + 1) ∧ a ≤ j' ∧ k ≤ i + 1 ∧ 2 * k + md_dp (md_g lf rt N M) i j' = i + j' ∧ ∀ (post : Int32 → Prop) (c' n : Nat), c' < 2 ^ 31 → c' % 2 ^ (i + 1) = c → wY_stay_7 post (nI c') ln nx (nI N) (nI M) tx he pt le ts lf rt n (nI a) (nI k) (nI (i + 1)) → wY_stay_7 post (nI c') ln nx (nI N) (nI M) tx he pt le ts lf rt (n + (i + 1)) (nI 0) (nI 0) (nI 0) := by
      intro j' hj'
      obtain ⟨c, a, k, h1, h2, h3, h4, h5⟩ := ih (by omega) j' hj'
      have p : 2 ^ (i + 1) = 2 ^ i * 2 := Nat.pow_succ ..
      refine ⟨c, a, k, by omega, h2, by omega, h4, fun post c' n hc' hm h => ?_⟩
      obtain ⟨m1, m2⟩ := ys_pow hm h1
      have e : n + (i + 1) = n + 1 + i := by omega
      rw [e]
      exact h5 post c' (n + 1) hc' m1 (ys_skip hN (by omega) hc' m2 h)
    induction j with
    | zero =>
      intro hj
      obtain ⟨c, a, k, h1, h2, h3, h4, h5⟩ := skip 0 hj
      refine ⟨c, a, k, h1, h2, h3, ?_, h5⟩
      rw [md_s0] at h4
      rw [md_s0]
      omega
    | succ j jh =>
      intro hj
      by_cases z : md_g lf rt N M i j = true
      · obtain ⟨z1, z2, z3⟩ := md_g_iff.mp z
        obtain ⟨c, a, k, h1, h2, h3, h4, h5⟩ := ih (by omega) j (by omega)
        have p : 2 ^ (i + 1) = 2 ^ i * 2 := Nat.pow_succ ..
        rcases ys_26 (ln := ln) (nx := nx) (tx := tx) (he := he) (pt := pt) (le := le) (ts := ts) (lf := lf) (rt := rt) (ll := nI N) (M := M) (i := i) (k := k) hM (by omega) (M - a) a (by omega) with ⟨a', k1, k2, k3, k4, k5⟩ | ⟨k1, -⟩
        · have le : a' ≤ j := by
            rcases Nat.lt_or_ge j a' with w | w
            · exact absurd z3.symm (k4 j h2 w)
            · exact w
          refine ⟨2 ^ i + c, a' + 1, k + 1, by omega, by omega, by omega, by rw [md_t z]; omega, fun post c' n hc' hm h => ?_⟩
          obtain ⟨m1, m2⟩ := ys_pow1 hm h1
          have hz : (nI c' >>> (nI i &&& 31)) &&& 1 = 1 := by rw [ys_bit hc' (by omega), m2]; rfl
          have e : n + (i + 1) = n + 1 + i := by omega
          rw [e]
          exact h5 post c' (n + 1) hc' m1 (pk_le N i (fun w => by omega) (fun _ => br_t hz ⟨M - a + 1, k5 post _ (nI c') h⟩))
        · exact absurd z3.symm (k1 j h2 z2)
      · rw [md_f z]
        rcases Nat.le_total (md_dp (md_g lf rt N M) i (j + 1)) (md_dp (md_g lf rt N M) (i + 1) j) with w | w
        · obtain ⟨c, a, k, h1, h2, h3, h4, h5⟩ := skip (j + 1) hj
          exact ⟨c, a, k, h1, h2, h3, by omega, h5⟩
        · obtain ⟨c, a, k, h1, h2, h3, h4, h5⟩ := jh (by omega)
          exact ⟨c, a, k, h1, by omega, h3, by omega, h5⟩
theorem ys_opt {N M : Nat} (hN : N ≤ 10) (hM : M ≤ 10) : ∃ c k, c < 2 ^ N ∧ k ≤ 10 ∧ 2 * k + md_dp (md_g lf rt N M) N M = N + M ∧ ∀ post : Int32 → Prop, post (nI k) → wpY_stay post (ln, nx, nI N, nI M, tx, he, pt, le, ts, lf, rt) (nI c) := by
  obtain ⟨c, a, k, h1, h2, h3, h4, h5⟩ := ys_opt_l (ln := ln) (nx := nx) (tx := tx) (he := he) (pt := pt) (le := le) (ts := ts) (lf := lf) (rt := rt) (N := N) (M := M) hN hM N (Nat.le_refl _) M (Nat.le_refl _)
  have p : 2 ^ N ≤ 2 ^ 10 := Nat.pow_le_pow_right (by omega) hN
  refine ⟨c, k, h1, by omega, h4, fun post hp => Exists.intro (1 + N) (h5 post c 1 (by omega) (Nat.mod_eq_of_lt h1) ?_)⟩
  exact pk_le N N (fun _ => hp) (fun z => by omega)
theorem ys_least_l {N M P cs D kb : Nat} (hN : N ≤ 10) (hM : M ≤ 10) (hP : 2 ^ N = P) (hP2 : P ≤ 1024) (hD : D = md_dp (md_g lf rt N M) N M) (hk : kb ≤ 10) (hkb : 2 * kb + D = N + M) (hcs : ∀ post : Int32 → Prop, post (nI kb) → wpY_stay post (ln, nx, nI N, nI M, tx, he, pt, le, ts, lf, rt) (nI cs)) (hlt : cs < P) {post : Int32 → Prop} (K : post (nI D)) :
    ∀ d i b, i + d = P → D ≤ b → b ≤ N + M → (b = D ∨ i ≤ cs) → wY_least_12 post ln nx (nI N) (nI M) tx he pt le ts lf rt (d + 1) (nI b) (nI i) := by
  have hsh : (1 : Int32) <<< (nI N &&& 31) = nI P := by
    have e := pk_shlN (n := 1) (nI N &&& 31) N (s_l N (by omega)) (by rw [hP]; omega)
    rw [hP, Nat.one_mul] at e
    exact e
  have hx4 : ∀ k, k ≤ 10 → 2 * k ≤ N + M → (nI N + nI M) - 2 * nI k = nI (N + M - 2 * k) := fun k _ h => by
    show (nI N + nI M) - nI 2 * nI k = _
    rw [nI_add, pk_mul, pk_sub h]
  intro d
  induction d with
  | zero =>
    intro i b hi h1 h2 h3
    have e : b = D := by omega
    subst e
    refine pk_le P i (fun _ => K) (fun z => by omega) hsh
  | succ d ih =>
    intro i b hi h1 h2 h3
    refine pk_le P i (fun z => by omega) (fun _ => ?_) hsh
    by_cases z : i = cs
    · subst z
      refine hcs _ (nm_r (hx4 kb hk (by omega)) (br_f (nI_pos (by omega)) (pk_le b (N + M - 2 * kb) (fun w => nm_r (nI_1 i) (ih (i + 1) b (by omega) h1 h2 (Or.inl (by omega)))) (fun w => nm_r (nI_1 i) (ih (i + 1) (N + M - 2 * kb) (by omega) (by omega) (by omega) (Or.inl (by omega)))))))
    · obtain ⟨r, hr, hp⟩ := ys_any_l (ln := ln) (nx := nx) (tx := tx) (he := he) (pt := pt) (le := le) (ts := ts) (lf := lf) (rt := rt) (N := N) (M := M) (c := i) hN hM (by omega) N 0 0 0 (by omega) (Nat.zero_le _) (Nat.zero_le _) (by rw [md_00]; omega)
      rcases hr with rfl | ⟨k, k1, rfl, k2⟩
      · exact Exists.intro (N + 1) (hp _ (nm_e (br_t (by decide) (nm_r (nI_1 i) (ih (i + 1) b (by omega) h1 h2 (by omega))))))
      · rw [← hD] at k2
        exact Exists.intro (N + 1) (hp _ (nm_r (hx4 k k1 (by omega)) (br_f (nI_pos (by omega)) (pk_le b (N + M - 2 * k) (fun w => nm_r (nI_1 i) (ih (i + 1) b (by omega) h1 h2 (by omega))) (fun w => nm_r (nI_1 i) (ih (i + 1) (N + M - 2 * k) (by omega) (by omega) (by omega) (by omega)))))))
theorem ys_least {N M : Nat} (hN : N ≤ 10) (hM : M ≤ 10) {post : Int32 → Prop} (K : post (nI (md_dp (md_g lf rt N M) N M))) : wpY_least post (ln, nx, nI N, nI M, tx, he, pt, le, ts, lf, rt) := by
  obtain ⟨c, k, h1, h2, h3, h4⟩ := ys_opt (ln := ln) (nx := nx) (tx := tx) (he := he) (pt := pt) (le := le) (ts := ts) (lf := lf) (rt := rt) (N := N) (M := M) hN hM
  have p : 2 ^ N ≤ 2 ^ 10 := Nat.pow_le_pow_right (by omega) hN
  have hi := md_hi (md_g lf rt N M) N M
  exact nm_r (nI_add N M) ⟨2 ^ N + 1, ys_least_l hN hM rfl (by omega) rfl h2 h3 h4 h1 K (2 ^ N) 0 (N + M) (by omega) hi (Nat.le_refl _) (Or.inr (Nat.zero_le _))⟩
/-! copies -/
theorem yl_right_l {post : SY → Prop} {w n : Nat} (hw : w ≤ 10) (hn : n < 40) (K : post (ln, nx, ll, nI w, tx, he, pt, le, ts, lf, wk_cp rt (fun i => ts (10 * n + i)) w)) : ∀ d i, i + d = w → wY_layRight_12 post (nI n) ln nx ll (nI w) (d + 1) (nI i) tx he pt le ts lf (wk_cp rt (fun i => ts (10 * n + i)) i) := by
  intro d
  induction d with
  | zero =>
    intro i hi
    have e : i = w := by omega
    subst e
    exact pk_le i i (fun _ => K) (fun z => by omega)
  | succ d ih =>
    intro i hi
    refine pk_le w i (fun z => by omega) (fun _ => ⟨pk_in (10 * n + i) 400 (by omega) (wk_10 n i), pk_in i 10 (by omega), nm_r (e' := wk_cp rt (fun i => ts (10 * n + i)) (i + 1)) ?_ (nm_r (nI_1 i) (ih (i + 1) (by omega)))⟩)
    rw [wk_10, nI_clamp (by omega), nI_clamp (by omega)]
    exact wk_cp_s rt (fun i => ts (10 * n + i)) i
theorem yl_right {post : SY → Prop} {w n : Nat} (hw : w ≤ 10) (hn : n < 40) (hl : le n = nI w) (K : ∀ b : Nat → Int32, (∀ i, i < w → b i = ts (10 * n + i)) → post (ln, nx, ll, nI w, tx, he, pt, le, ts, lf, b)) : wpY_layRight post (ln, nx, ll, rl, tx, he, pt, le, ts, lf, rt) (nI n) := by
  have h := yl_right_l (post := post) hw hn (K (wk_cp rt (fun i => ts (10 * n + i)) w) (fun i hi => wk_cp_lt hi)) w 0 (by omega)
  rw [wk_cp_0] at h
  exact And.intro (pk_in n 40 hn) (nm_r (e' := nI w) (by rw [nI_clamp (by omega), hl]) (Exists.intro (w + 1) h))
theorem yl_dist_l {post : Int32 → SY → Prop} {w n : Nat} {x2 : Int32} (hw : w ≤ 10) (hn : n < 40) (K : wpY_layRight (fun u => wpY_least (fun r => post r u) u) (ln, nx, nI w, rl, tx, he, pt, le, ts, wk_cp lf (fun i => ts (10 * n + i)) w, rt) x2) : ∀ d i, i + d = w → wY_distance_30 post (nI n) x2 ln nx (nI w) rl (d + 1) (nI i) tx he pt le ts (wk_cp lf (fun i => ts (10 * n + i)) i) rt := by
  intro d
  induction d with
  | zero =>
    intro i hi
    have e : i = w := by omega
    subst e
    exact pk_le i i (fun _ => K) (fun z => by omega)
  | succ d ih =>
    intro i hi
    refine pk_le w i (fun z => by omega) (fun _ => ⟨pk_in (10 * n + i) 400 (by omega) (wk_10 n i), pk_in i 10 (by omega), nm_r (e' := wk_cp lf (fun i => ts (10 * n + i)) (i + 1)) ?_ (nm_r (nI_1 i) (ih (i + 1) (by omega)))⟩)
    rw [wk_10, nI_clamp (by omega), nI_clamp (by omega)]
    exact wk_cp_s lf (fun i => ts (10 * n + i)) i
theorem yl_chg_l {post : Int32 → SY → Prop} {w : Nat} {x1 : Int32} (hw : w ≤ 10) (K : wpY_layRight (fun u => wpY_least (fun r => post r u) u) (nI w, nx, ll, rl, tx, he, pt, le, ts, wk_cp lf tx w, rt) x1) : ∀ d i, i + d = w → wY_changed_20 post x1 (nI w) nx ll rl (d + 1) (nI i) tx he pt le ts (wk_cp lf tx i) rt := by
  intro d
  induction d with
  | zero =>
    intro i hi
    have e : i = w := by omega
    subst e
    exact pk_le i i (fun _ => K) (fun z => by omega)
  | succ d ih =>
    intro i hi
    exact pk_le w i (fun z => by omega) (fun _ => ⟨pk_in i 10 (by omega), pk_in i 10 (by omega), nm_r (wk_cpc (by omega)) (nm_r (nI_1 i) (ih (i + 1) (by omega)))⟩)
theorem yl_out_l {post : Int32 → SY → Prop} {w n : Nat} (hw : w ≤ 10) (hn : n < 40) (K : post (nI w) (nI w, nx, ll, rl, wk_cp tx (fun i => ts (10 * n + i)) w, he, pt, le, ts, lf, rt)) : ∀ d i, i + d = w → wY_checkout_22 post (nI n) (nI w) nx ll rl (d + 1) (nI i) (wk_cp tx (fun i => ts (10 * n + i)) i) he pt le ts lf rt := by
  intro d
  induction d with
  | zero =>
    intro i hi
    have e : i = w := by omega
    subst e
    exact pk_le i i (fun _ => K) (fun z => by omega)
  | succ d ih =>
    intro i hi
    refine pk_le w i (fun z => by omega) (fun _ => ⟨pk_in (10 * n + i) 400 (by omega) (wk_10 n i), pk_in i 10 (by omega), nm_r (e' := wk_cp tx (fun i => ts (10 * n + i)) (i + 1)) ?_ (nm_r (nI_1 i) (ih (i + 1) (by omega)))⟩)
    rw [wk_10, nI_clamp (by omega), nI_clamp (by omega)]
    exact wk_cp_s tx (fun i => ts (10 * n + i)) i
theorem yl_com_l {post : Int32 → SY → Prop} {w g : Nat} (hw : w ≤ 10) (hg : g < 40) (K : post (nI g) (nI w, nI (g + 1), ll, rl, tx, he, pt, le, wk_bl ts (10 * g) tx w, lf, rt)) : ∀ d i, i + d = w → wY_commit_78 post (nI w) (nI g) ll rl (d + 1) (nI i) tx he pt le (wk_bl ts (10 * g) tx i) lf rt := by
  intro d
  induction d with
  | zero =>
    intro i hi
    have e : i = w := by omega
    subst e
    refine pk_le i i (fun _ => nm_r (nI_1 g) ?_) (fun z => by omega)
    rw [nI_pred]
    exact K
  | succ d ih =>
    intro i hi
    refine pk_le w i (fun z => by omega) (fun _ => ⟨pk_in i 10 (by omega), pk_in (10 * g + i) 400 (by omega) (wk_10 g i), nm_r (e' := wk_bl ts (10 * g) tx (i + 1)) ?_ (nm_r (nI_1 i) (ih (i + 1) (by omega)))⟩)
    rw [wk_10, nI_clamp (by omega), nI_clamp (by omega)]
    exact wk_bl_s ts tx (10 * g) i
end
end
section
/-! the relation -/
def rl_At (g : Nat) (nu pa he pt le ts : Nat → Int32) (L : Nat → Nat) (T : Nat → Nat → Int32) (n s : Nat) : Prop :=
  n < g ∧ nu s = nI n ∧ ¬ he n = 0 ∧ pa s = pt n ∧ le n = nI (L s) ∧ ∀ i, i < L s → ts (10 * n + i) = T s i
def rl_C (g : Nat) (nu pa he pt le ts : Nat → Int32) (L : Nat → Nat) (T : Nat → Nat → Int32) : Prop :=
  (∀ s, s < 12 → nu s = -1 ∨ ∃ n, rl_At g nu pa he pt le ts L T n s) ∧
  (∀ n, n < 40 → ¬ he n = 0 → (∃ s, s < 12 ∧ rl_At g nu pa he pt le ts L T n s) ∧ (pt n = -2 ∨ ∃ q, q < n ∧ pt n = nI q ∧ ¬ he q = 0)) ∧
  (∀ s t n, s < 12 → t < 12 → n < 40 → nu s = nI n → nu t = nI n → s = t)
def rl_P (nu : Nat → Int32) : Nat → Prop := fun s => s < 12 ∧ ¬ nu s < 0
def rl_W (w : Nat) (wl ln : Int32) (wk tx : Nat → Int32) : Prop := wl = nI w ∧ ln = nI w ∧ w ≤ 10 ∧ (∀ i, i < w → ∃ v, v < 256 ∧ wk i = nI v) ∧ tx = wk
def rl_N (g p : Nat) (gv nx pr : Int32) (he nu : Nat → Int32) : Prop := gv = nI g ∧ nx = nI g ∧ g ≤ 40 ∧ pr = nI p ∧ yc_ct (yc_h he) 40 = p ∧ yc_ct (yc_n nu) 12 = p
def rl_R (wl gv pr : Int32) (wk nu pa st en sc : Nat → Int32) (ln nx : Int32) (tx he pt le ts : Nat → Int32) : Prop :=
  ∃ (w g p : Nat) (L : Nat → Nat) (T : Nat → Nat → Int32) (rk : Nat → Nat), rl_W w wl ln wk tx ∧ rl_N g p gv nx pr he nu ∧ rl_C g nu pa he pt le ts L T ∧ rs_OK (rl_P nu) st en sc L T rk
def i_Rel (_ : Nat) (u : SX) (v : SY) : Prop := match u, v with
  | (wl, gv, pr, bl, la, lb, wk, nu, pa, st, en, sc, bu, sp, wy, ta, tb, re, tr, bk), (ln, nx, ll, rl, tx, he, pt, le, ts, lf, rt) => rl_R wl gv pr wk nu pa st en sc ln nx tx he pt le ts
theorem i_up {k : Nat} {u : SX} {v : SY} (h : i_Rel k u v) : i_Rel (k + 3) u v := h
/-! facts -/
theorem rl_pos {x : Int32} (h : ¬ x < 0) : ¬ x = -1 := fun e => h (by rw [e]; decide)
theorem rl_neg : (-1 : Int32) < 0 := by decide
section
variable {g : Nat} {nu pa he pt le ts : Nat → Int32} {L : Nat → Nat} {T : Nat → Nat → Int32}
theorem rl_free (C : rl_C g nu pa he pt le ts L T) (hg : g ≤ 40) {s : Nat} (hs : s < 12) (h : nu s < 0) : nu s = -1 := by
  rcases C.1 s hs with e | ⟨n, h1, h2, -⟩
  · exact e
  · rw [h2] at h
    exact absurd h (nI_pos (by omega))
theorem rl_in (C : rl_C g nu pa he pt le ts L T) {s : Nat} (h : rl_P nu s) : ∃ n, rl_At g nu pa he pt le ts L T n s := by
  rcases C.1 s h.1 with e | h2
  · exact absurd e (rl_pos h.2)
  · exact h2
theorem rl_at_P (hg : g ≤ 40) {n s : Nat} (hs : s < 12) (h : rl_At g nu pa he pt le ts L T n s) : rl_P nu s := by
  refine ⟨hs, ?_⟩
  rw [h.2.1]
  have a := h.1
  exact nI_pos (by omega)
/-- a number is either held, with its slot, or missing -/
theorem rl_look (C : rl_C g nu pa he pt le ts L T) (hg : g ≤ 40) (x : Int32) :
    (∃ n s, x = nI n ∧ n < 40 ∧ s < 12 ∧ rl_At g nu pa he pt le ts L T n s ∧ ∀ t, t < 12 → nu t = nI n → t = s) ∨
    ((∀ s, s < 12 → x < 0 ∨ nu s ≠ x) ∧ ∀ n, n < 40 → x = nI n → he n = 0) := by
  rcases Classical.em (∃ n, n < 40 ∧ x = nI n ∧ ¬ he n = 0) with ⟨n, hn, rfl, hh⟩ | hno
  · obtain ⟨⟨s, hs, hat⟩, -⟩ := C.2.1 n hn hh
    exact Or.inl ⟨n, s, rfl, hn, hs, hat, fun t ht et => C.2.2 t s n ht hs hn et hat.2.1⟩
  · refine Or.inr ⟨fun s hs => ?_, fun n hn e => ?_⟩
    · rcases C.1 s hs with e | ⟨n, h1, h2, h3, -⟩
      · rcases Classical.em (x < 0) with z | z
        · exact Or.inl z
        · exact Or.inr fun e2 => z (by rw [← e2, e]; decide)
      · exact Or.inr fun e => hno ⟨n, by omega, by rw [← e, h2], h3⟩
    · rcases Classical.em (he n = 0) with z | z
      · exact z
      · exact absurd ⟨n, hn, e, z⟩ hno
/-- the forebears of a number, with their slots -/
theorem rl_chain (C : rl_C g nu pa he pt le ts L T) (n : Nat) (hn : n < 40) (hh : ¬ he n = 0) :
    ∃ (m : Nat) (q c : Nat → Nat), q 0 = n ∧ 0 < m ∧ m ≤ 12 ∧ (∀ i, i < m → q i < 40 ∧ ¬ he (q i) = 0 ∧ c i < 12 ∧ nu (c i) = nI (q i) ∧ pa (c i) = pt (q i)) ∧ (∀ i, i + 1 < m → pt (q i) = nI (q (i + 1))) ∧ pt (q (m - 1)) = -2 := by
  have key : ∀ r n, n < r → n < 40 → ¬ he n = 0 → ∃ (m : Nat) (q c : Nat → Nat), q 0 = n ∧ 0 < m ∧ (∀ i, i < m → q i < 40 ∧ ¬ he (q i) = 0 ∧ c i < 12 ∧ nu (c i) = nI (q i) ∧ pa (c i) = pt (q i)) ∧ (∀ i, i + 1 < m → pt (q i) = nI (q (i + 1)) ∧ q (i + 1) < q i) ∧ pt (q (m - 1)) = -2 := by
    intro r
    induction r with
    | zero => intro n h; omega
    | succ r ih =>
      intro n hr hn hh
      obtain ⟨⟨s, hs, hat⟩, h1 | ⟨p, hp, h1, h2⟩⟩ := C.2.1 n hn hh
      · refine ⟨1, fun _ => n, fun _ => s, rfl, by omega, fun i _ => ⟨hn, hh, hs, hat.2.1, hat.2.2.2.1⟩, fun i hi => ?_, h1⟩
        omega
      · obtain ⟨m, q, c, q0, hm, hP, hc, hz⟩ := ih p (by omega) (by omega) h2
        refine ⟨m + 1, rs_cons n q, rs_cons s c, rfl, by omega, fun i hi => ?_, fun i hi => ?_, ?_⟩
        · cases i with
          | zero => exact ⟨hn, hh, hs, hat.2.1, hat.2.2.2.1⟩
          | succ i => exact hP i (by omega)
        · cases i with
          | zero =>
            show pt n = nI (q 0) ∧ q 0 < n
            rw [q0]
            exact ⟨h1, hp⟩
          | succ i => exact hc i (by omega)
        · obtain ⟨k, rfl⟩ : ∃ k, m = k + 1 := ⟨m - 1, by omega⟩
          exact hz
  obtain ⟨m, q, c, q0, hm, hP, hc, hz⟩ := key (n + 1) n (by omega) hn hh
  refine ⟨m, q, c, q0, hm, ?_, hP, fun i hi => (hc i hi).1, hz⟩
  refine rs_ph 12 m c (fun i hi => (hP i hi).2.2.1) (fun i j hij hj e => ?_)
  obtain ⟨d, rfl⟩ : ∃ d, j = i + d + 1 := ⟨j - i - 1, by omega⟩
  have a := rs_dec (n := m) (f := q) (fun i hi => (hc i hi).2) d i hj
  have b1 := (hP i (by omega)).2.2.2.1
  have b2 := (hP (i + d + 1) hj).2.2.2.1
  have c1 := (hP i (by omega)).1
  have c2 := (hP (i + d + 1) hj).1
  rw [e, b2, nI_eq (by omega) (by omega)] at b1
  omega
end
/-! the store under its changes -/
section
variable {P P' : Nat → Prop} {st en sc st' en' sc' : Nat → Int32} {L L' : Nat → Nat} {T T' : Nat → Nat → Int32} {rk rk' : Nat → Nat} {s : Nat}
theorem rs_mono {r : Nat} (h : rs_Sl P st en sc L T rk r) (hP : ∀ t, P t → st r = nI t → P' t) (hr : ∀ t, P t → rk t < rk r → rk' t < rk' r) : rs_Sl P' st en sc L T rk' r := by
  obtain ⟨m, hm, hen, hd⟩ := h
  refine ⟨m, hm, hen, ?_⟩
  rcases hd with h1 | ⟨t, ht, a, b, c⟩
  · exact Or.inl h1
  · exact Or.inr ⟨t, hP t ht a, a, hr t ht b, c⟩
theorem rs_LT (ok : rs_OK P st en sc L T rk) (h : ∀ r, P r → L' r = L r ∧ T' r = T r) : rs_OK P st en sc L' T' rk := by
  intro r hr
  obtain ⟨h1, h2, m, hm, hen, hd⟩ := ok r hr
  obtain ⟨e1, e2⟩ := h r hr
  refine ⟨h1, ?_, m, hm, hen, ?_⟩
  · unfold rs_Tx at h2 ⊢
    rw [e1, e2]
    exact h2
  · rcases hd with ⟨a, b⟩ | ⟨t, ht, a, b, c⟩
    · exact Or.inl ⟨a, by rw [e1, e2]; exact b⟩
    · exact Or.inr ⟨t, ht, a, b, by rw [e1, e2, (h t ht).1, (h t ht).2]; exact c⟩
/-- slot s is laid in full -/
theorem rs_full {tb : Nat → Int32} (ok : rs_OK P st en sc L T rk) (hs : s < 12) (hT : rs_Tx L T s) (hb : ∀ i, i < L s → tb i = T s i) (h1 : ∀ r, P' r → P r ∨ r = s) (h2 : ∀ r, P r → P' r) :
    rs_OK P' (upd st s (-1)) (upd en s (nI (L s))) (wk_bl sc (40 * s) tb (L s)) L T (fun r => if r = s then 0 else rk r + 1) := by
  have hL := hT.1
  refine rs_put (st := st) (en := en) (sc := sc) (s := s) (fun r hr => ?_) hs (fun r hr hne => ?_) (fun r hr => pk_un hr) (fun r hr => pk_un hr) (fun j hj => wk_bl_out (by omega)) ?_
  · rcases h1 r hr with z | z
    · exact ⟨(ok r z).1, (ok r z).2.1⟩
    · rw [z]; exact ⟨hs, hT⟩
  · have z := (h1 r hr).resolve_right hne
    refine rs_mono (ok r z).2.2 (fun t ht _ => h2 t ht) (fun t ht hlt => ?_)
    show (if t = s then 0 else rk t + 1) < (if r = s then 0 else rk r + 1)
    rw [if_neg hne]
    by_cases e : t = s
    · rw [if_pos e]; omega
    · rw [if_neg e]; omega
  · refine ⟨L s, by omega, pk_us, Or.inl ⟨pk_us, ?_⟩⟩
    have h := sc_full (A := T s) (B := T s) (M := L s) (e := fun j => wk_bl sc (40 * s) tb (L s) (40 * s + (L s - 1 - j))) hT.2 (fun j hj => by
      show wk_bl sc (40 * s) tb (L s) (40 * s + (L s - 1 - j)) = T s (L s - 1 - j)
      rw [wk_bl_in (by omega)]
      exact hb _ (by omega)) (L s) (Nat.le_refl _)
    rw [Nat.sub_self] at h
    exact h
/-- slot s is laid as a difference from slot t -/
theorem rs_diff {t m : Nat} {ta tb : Nat → Int32} (ok : rs_OK P st en sc L T rk) (hP : ∀ r, P' r → P r ∨ r = s) (hP2 : ∀ r, P r → P' r) (hs : s < 12) (hT : rs_Tx L T s) (ht : P t) (hr : ∀ r, P r → r ≠ s → rk' r = rk r) (hlt : rk' t < rk' s) (hle : ∀ r, P r → r ≠ s → st r = nI s → rk' s < rk' r) (hm : m ≤ 20)
    (hsc : ∀ j, j < 40 * s ∨ 40 * s + 40 ≤ j → sc' j = sc j) (ha : ∀ i, i < L t → ta i = T t i) (hb : ∀ i, i < L s → tb i = T s i) (hap : sc_Ap ta tb (L t) (L s) (fun j => sc' (40 * s + (m - 1 - j))) m 0 0) :
    rs_OK P' (upd st s (nI t)) (upd en s (nI m)) sc' L T rk' := by
  refine rs_put (st := st) (en := en) (sc := sc) (s := s) (fun r hr => ?_) hs (fun r hr' hne => ?_) (fun r hr => pk_un hr) (fun r hr => pk_un hr) hsc ?_
  · rcases hP r hr with z | z
    · exact ⟨(ok r z).1, (ok r z).2.1⟩
    · rw [z]; exact ⟨hs, hT⟩
  · have z := (hP r hr').resolve_right hne
    obtain ⟨m1, hm1, hen1, hd⟩ := (ok r z).2.2
    refine ⟨m1, hm1, hen1, ?_⟩
    rcases hd with h1 | ⟨t1, ht1, a, b, c⟩
    · exact Or.inl h1
    · refine Or.inr ⟨t1, hP2 t1 ht1, a, ?_, c⟩
      by_cases e : t1 = s
      · rw [e] at a ⊢
        exact hle r z hne a
      · rw [hr t1 ht1 e, hr r z hne]
        exact b
  · exact ⟨m, hm, pk_us, Or.inr ⟨t, hP2 t ht, pk_us, hlt, sc_congr ha hb m 0 0 (fun _ _ => rfl) hap⟩⟩
theorem rs_drop (ok : rs_OK P st en sc L T rk) (h1 : ∀ r, P' r → P r ∧ r ≠ s) (h2 : ∀ r, P r → r ≠ s → P' r) (h3 : ∀ r, P r → r ≠ s → st r ≠ nI s) : rs_OK P' st en sc L T rk := by
  intro r hr
  obtain ⟨a, b⟩ := h1 r hr
  obtain ⟨k1, k2, k3⟩ := ok r a
  exact ⟨k1, k2, rs_mono k3 (fun t ht e => h2 t ht (fun z => h3 r a b (by rw [← z]; exact e))) (fun t _ h => h)⟩
end
end
section
theorem yc_zero {f : Nat → Bool} : ∀ n, (∀ i, i < n → ¬ f i = true) → yc_ct f n = 0 := by
  intro n
  induction n with
  | zero => exact fun _ => rfl
  | succ n ih =>
    intro h
    rw [yc_f (h n (by omega))]
    exact ih (fun i hi => h i (by omega))
theorem wk_cp_eq {a b b' : Nat → Int32} {n : Nat} (h : ∀ i, i < n → b i = b' i) : wk_cp a b n = wk_cp a b' n := by
  funext j
  rcases Nat.lt_or_ge j n with w | w
  · rw [wk_cp_lt w, wk_cp_lt w, h j w]
  · rw [wk_cp_ge w, wk_cp_ge w]
def pu_sh (pl : Nat) : Nat → (Nat → Int32) → (Nat → Int32)
  | 0 => fun a => a
  | d + 1 => fun a => pu_sh pl d (upd a (pl + d + 1) (a (pl + d)))
theorem pu_by {pl m : Nat} {B : Int32 → Prop} : ∀ d (a : Nat → Int32), pl + d < m → (∀ i, i < m → i ≠ pl + d → B (a i)) → ∀ i, i < m → i ≠ pl → B (pu_sh pl d a i) := by
  intro d
  induction d with
  | zero => exact fun a _ h i hi hne => h i hi hne
  | succ d ih =>
    intro a hm h i hi hne
    refine ih (upd a (pl + d + 1) (a (pl + d))) (by omega) (fun j hj hjn => ?_) i hi hne
    by_cases e : j = pl + d + 1
    · rw [e, pk_us]
      exact h (pl + d) (by omega) (by omega)
    · rw [pk_un e]
      exact h j hj (by omega)
def tk_sh : Nat → Nat → (Nat → Int32) → (Nat → Int32)
  | 0 => fun _ a => a
  | d + 1 => fun i a => tk_sh d (i + 1) (upd a i (a (i + 1)))
theorem tk_by {m : Nat} {B : Int32 → Prop} : ∀ d i (a : Nat → Int32), i + d < m → (∀ j, j < m → B (a j)) → ∀ j, j < m → B (tk_sh d i a j) := by
  intro d
  induction d with
  | zero => exact fun i a _ h j hj => h j hj
  | succ d ih =>
    intro i a hm h j hj
    refine ih (i + 1) (upd a i (a (i + 1))) (by omega) (fun k hk => ?_) j hj
    by_cases e : k = i
    · rw [e, pk_us]
      exact h (i + 1) (by omega)
    · rw [pk_un e]
      exact h k hk
section
variable {wl gv pr bl la lb : Int32} {wk nu pa st en sc bu sp wy ta tb re tr bk : Nat → Int32} {ln nx ll rl : Int32} {tx he pt le ts lf rt : Nat → Int32}
theorem in_l {post : SX → Prop} (K : post (wl, gv, pr, bl, la, lb, wk, wk_cp nu (fun _ => -1) 12, pa, st, en, sc, bu, sp, wy, ta, tb, re, tr, bk)) : ∀ d i, i + d = 12 → wX_init_120 post wl gv pr bl la lb (d + 1) (nI i) wk (wk_cp nu (fun _ => -1) i) pa st en sc bu sp wy ta tb re tr bk := by
  intro d
  induction d with
  | zero =>
    intro i hi
    have e : i = 12 := by omega
    subst e
    exact pk_le 12 12 (fun _ => K) (fun z => by omega)
  | succ d ih =>
    intro i hi
    exact pk_le 12 i (fun z => by omega) (fun _ => ⟨pk_in i 12 (by omega), nm_r (e' := wk_cp nu (fun _ => -1) (i + 1)) (by rw [nI_clamp (by omega)]; exact wk_cp_s nu (fun _ => -1) i) (nm_r (nI_1 i) (ih (i + 1) (by omega)))⟩)
theorem i_vc0 : wpX_init (fun u => wpY_init (fun v => i_Rel 0 u v)) := by
  have h := in_l (post := fun u => wpY_init (fun v => i_Rel 0 u v)) (wl := 0) (gv := 0) (pr := 0) (bl := 0) (la := 0) (lb := 0) (wk := fun _ => 0) (nu := fun _ => 0) (pa := fun _ => 0) (st := fun _ => 0) (en := fun _ => 0) (sc := fun _ => 0) (bu := fun _ => 0) (sp := fun _ => 0) (wy := fun _ => 0) (ta := fun _ => 0) (tb := fun _ => 0) (re := fun _ => 0) (tr := fun _ => 0) (bk := fun _ => 0) ?_ 12 0 rfl
  · rw [wk_cp_0] at h
    exact Exists.intro 13 h
  · have hnu : ∀ s, s < 12 → wk_cp (fun _ => 0) (fun _ => -1) 12 s = -1 := fun s hs => wk_cp_lt hs
    refine (⟨0, 0, 0, fun _ => 0, fun _ _ => 0, fun _ => 0, ⟨rfl, rfl, by omega, fun i hi => by omega, rfl⟩, ⟨rfl, rfl, by omega, rfl, yc_zero 40 (fun i _ => ?_), yc_zero 12 (fun i hi => ?_)⟩, ⟨fun s hs => Or.inl (hnu s hs), fun n _ h0 => absurd rfl h0, fun s t n hs _ hn e _ => ?_⟩, fun s hs => ?_⟩ : rl_R 0 0 0 (fun _ => 0) (wk_cp (fun _ => 0) (fun _ => -1) 12) (fun _ => 0) (fun _ => 0) (fun _ => 0) (fun _ => 0) 0 0 (fun _ => 0) (fun _ => 0) (fun _ => 0) (fun _ => 0) (fun _ => 0))
    · rw [yc_h_i]
      exact fun z => z rfl
    · rw [yc_n_i, hnu i hi]
      exact fun z => z rl_neg
    · rw [hnu s hs] at e
      exact absurd e.symm (wk_neg n (by omega))
    · have z := hs.2
      rw [hnu s hs.1] at z
      exact absurd rl_neg z
/-! put, take, lines, line -/
theorem pu_x {post : Int32 → SX → Prop} {w pl : Nat} {x : Int32} (hw : w < 10) : ∀ d (wk : Nat → Int32), pl + d ≤ w → post (nI (w + 1)) (nI (w + 1), gv, pr, bl, la, lb, upd (pu_sh pl d wk) pl x, nu, pa, st, en, sc, bu, sp, wy, ta, tb, re, tr, bk) → wX_put_39 post (nI pl) x (nI w) gv pr bl la lb (d + 1) (nI (pl + d)) wk nu pa st en sc bu sp wy ta tb re tr bk := by
  intro d
  induction d with
  | zero =>
    intro wk hd K
    exact pk_le pl pl (fun _ => ⟨pk_in pl 10 (by omega), nm_r (e' := upd wk pl x) (by rw [nI_clamp (by omega)]) (nm_r (nI_1 w) K)⟩) (fun z => by omega)
  | succ d ih =>
    intro wk hd K
    have e : pl + (d + 1) = pl + d + 1 := by omega
    rw [e]
    refine pk_le (pl + d + 1) pl (fun z => by omega) (fun _ => ⟨pk_in (pl + d) 10 (by omega) (nI_pred _), pk_in (pl + d + 1) 10 (by omega), nm_r (e' := upd wk (pl + d + 1) (wk (pl + d))) (by rw [nI_pred, nI_clamp (by omega), nI_clamp (by omega)]) (nm_r (pk_m1 (pl + d)) (ih (upd wk (pl + d + 1) (wk (pl + d))) (by omega) K))⟩)
theorem pu_y {post : Int32 → SY → Prop} {w pl : Nat} {x : Int32} (hw : w < 10) : ∀ d (tx : Nat → Int32), pl + d ≤ w → post (nI (w + 1)) (nI (w + 1), nx, ll, rl, upd (pu_sh pl d tx) pl x, he, pt, le, ts, lf, rt) → wY_put_39 post (nI pl) x (nI w) nx ll rl (d + 1) (nI (pl + d)) tx he pt le ts lf rt := by
  intro d
  induction d with
  | zero =>
    intro tx hd K
    exact pk_le pl pl (fun _ => ⟨pk_in pl 10 (by omega), nm_r (e' := upd tx pl x) (by rw [nI_clamp (by omega)]) (nm_r (nI_1 w) K)⟩) (fun z => by omega)
  | succ d ih =>
    intro tx hd K
    have e : pl + (d + 1) = pl + d + 1 := by omega
    rw [e]
    refine pk_le (pl + d + 1) pl (fun z => by omega) (fun _ => ⟨pk_in (pl + d) 10 (by omega) (nI_pred _), pk_in (pl + d + 1) 10 (by omega), nm_r (e' := upd tx (pl + d + 1) (tx (pl + d))) (by rw [nI_pred, nI_clamp (by omega), nI_clamp (by omega)]) (nm_r (pk_m1 (pl + d)) (ih (upd tx (pl + d + 1) (tx (pl + d))) (by omega) K))⟩)
theorem tk_x {post : Int32 → SX → Prop} {w : Nat} {x : Int32} (hw : w < 10) : ∀ d i (wk : Nat → Int32), i + d = w → post x (nI w, gv, pr, bl, la, lb, tk_sh d i wk, nu, pa, st, en, sc, bu, sp, wy, ta, tb, re, tr, bk) → wX_take_23 post x (nI (w + 1)) gv pr bl la lb (d + 1) (nI i) wk nu pa st en sc bu sp wy ta tb re tr bk := by
  intro d
  induction d with
  | zero =>
    intro i wk hd K
    have e : i = w := by omega
    subst e
    exact pk_le (i + 1) (i + 1) (fun _ => nm_r (nI_pred i) K) (fun z => by omega) rfl (nI_1 i)
  | succ d ih =>
    intro i wk hd K
    exact pk_le (w + 1) (i + 1) (fun z => by omega) (fun _ => ⟨pk_in (i + 1) 10 (by omega) (nI_1 i), pk_in i 10 (by omega), nm_r (e' := upd wk i (wk (i + 1))) (by rw [nI_1, nI_clamp (by omega), nI_clamp (by omega)]) (nm_r (nI_1 i) (ih (i + 1) (upd wk i (wk (i + 1))) (by omega) K))⟩) rfl (nI_1 i)
theorem tk_y {post : Int32 → SY → Prop} {w : Nat} {x : Int32} (hw : w < 10) : ∀ d i (tx : Nat → Int32), i + d = w → post x (nI w, nx, ll, rl, tk_sh d i tx, he, pt, le, ts, lf, rt) → wY_take_33 post x (nI w) nx ll rl (d + 1) (nI i) tx he pt le ts lf rt := by
  intro d
  induction d with
  | zero =>
    intro i tx hd K
    have e : i = w := by omega
    subst e
    exact pk_le i i (fun _ => K) (fun z => by omega)
  | succ d ih =>
    intro i tx hd K
    exact pk_le w i (fun z => by omega) (fun _ => ⟨pk_in (i + 1) 10 (by omega) (nI_1 i), pk_in i 10 (by omega), nm_r (e' := upd tx i (tx (i + 1))) (by rw [nI_1, nI_clamp (by omega), nI_clamp (by omega)]) (nm_r (nI_1 i) (ih (i + 1) (upd tx i (tx (i + 1))) (by omega) K))⟩)
theorem zm_put {k : Nat} (R : rl_R wl gv pr wk nu pa st en sc ln nx tx he pt le ts) (v1 v2 : Int32) : wpX_put (fun r u' => wpY_put (fun r' v' => r' = r ∧ i_Rel (k + 3) u' v') (ln, nx, ll, rl, tx, he, pt, le, ts, lf, rt) v1 v2) (wl, gv, pr, bl, la, lb, wk, nu, pa, st, en, sc, bu, sp, wy, ta, tb, re, tr, bk) v1 v2 := by
  by_cases h1 : v2 < 0
  · exact br_t h1 (br_t h1 ⟨rfl, R⟩)
  by_cases h2 : 255 < v2
  · exact br_f h1 (br_t h2 (br_f h1 (br_t h2 ⟨rfl, R⟩)))
  by_cases h3 : v1 < 0
  · exact br_f h1 (br_f h2 (br_t h3 (br_f h1 (br_f h2 (br_t h3 ⟨rfl, R⟩)))))
  have R0 := R
  obtain ⟨w, g, p, L, T, rk, ⟨rfl, rfl, hw, hb, rfl⟩, hN, hC, hO⟩ := R
  obtain ⟨pl, hpl, rfl⟩ := nI_of h3
  obtain ⟨v, hv, rfl⟩ := nI_of h1
  by_cases h4 : nI w < nI pl
  · exact br_f h1 (br_f h2 (br_f h3 (br_t h4 (br_f h1 (br_f h2 (br_f h3 (br_t h4 ⟨rfl, R0⟩)))))))
  have h4' := h4
  rw [nI_ltI (by omega) hpl] at h4'
  by_cases h5 : w < 10
  · have h2' : ¬ nI 255 < nI v := h2
    rw [nI_ltI (by omega) hv] at h2'
    have e : pl + (w - pl) = w := by omega
    refine br_f h1 (br_f h2 (br_f h3 (br_f h4 (br_t (nI_lt (b := 10) h5 (by decide)) ⟨w - pl + 1, ?_⟩))))
    have hx := pu_x (post := fun r u' => wpY_put (fun r' v' => r' = r ∧ i_Rel (k + 3) u' v') (nI w, nx, ll, rl, tx, he, pt, le, ts, lf, rt) (nI pl) (nI v)) (gv := gv) (pr := pr) (bl := bl) (la := la) (lb := lb) (nu := nu) (pa := pa) (st := st) (en := en) (sc := sc) (bu := bu) (sp := sp) (wy := wy) (ta := ta) (tb := tb) (re := re) (tr := tr) (bk := bk) (pl := pl) (x := nI v) h5 (w - pl) tx (by omega) ?_
    · rw [e] at hx
      exact hx
    · refine br_f h1 (br_f h2 (br_f h3 (br_f h4 (br_f (fun z => ?_) ⟨w - pl + 1, ?_⟩))))
      · have z' : nI w = nI 10 := z
        rw [nI_eq (by omega) (by omega)] at z'
        omega
      · have hy := pu_y (post := fun r' v' => r' = nI (w + 1) ∧ i_Rel (k + 3) (nI (w + 1), gv, pr, bl, la, lb, upd (pu_sh pl (w - pl) tx) pl (nI v), nu, pa, st, en, sc, bu, sp, wy, ta, tb, re, tr, bk) v') (nx := nx) (ll := ll) (rl := rl) (he := he) (pt := pt) (le := le) (ts := ts) (lf := lf) (rt := rt) (pl := pl) (x := nI v) h5 (w - pl) tx (by omega) ⟨rfl, ?_⟩
        · rw [e] at hy
          exact hy
        · refine (⟨w + 1, g, p, L, T, rk, ⟨rfl, rfl, by omega, fun i hi => ?_, rfl⟩, hN, hC, hO⟩ : rl_R (nI (w + 1)) gv pr (upd (pu_sh pl (w - pl) tx) pl (nI v)) nu pa st en sc (nI (w + 1)) nx (upd (pu_sh pl (w - pl) tx) pl (nI v)) he pt le ts)
          by_cases ei : i = pl
          · exact ⟨v, by omega, by rw [ei, pk_us]⟩
          · rw [pk_un ei]
            exact pu_by (B := fun z => ∃ v, v < 256 ∧ z = nI v) (m := w + 1) (w - pl) tx (by omega) (fun j hj hne => hb j (by omega)) i hi ei
  · have e : w = 10 := by omega
    subst e
    exact br_f h1 (br_f h2 (br_f h3 (br_f h4 (br_f (by decide) (br_f h1 (br_f h2 (br_f h3 (br_f h4 (br_t rfl ⟨rfl, R0⟩)))))))))
theorem zm_take {k : Nat} (R : rl_R wl gv pr wk nu pa st en sc ln nx tx he pt le ts) (v1 : Int32) : wpX_take (fun r u' => wpY_take (fun r' v' => r' = r ∧ i_Rel (k + 3) u' v') (ln, nx, ll, rl, tx, he, pt, le, ts, lf, rt) v1) (wl, gv, pr, bl, la, lb, wk, nu, pa, st, en, sc, bu, sp, wy, ta, tb, re, tr, bk) v1 := by
  by_cases h1 : v1 < 0
  · exact br_t h1 (br_t h1 ⟨rfl, R⟩)
  have R0 := R
  obtain ⟨w, g, p, L, T, rk, ⟨rfl, rfl, hw, hb, rfl⟩, hN, hC, hO⟩ := R
  obtain ⟨pl, hpl, rfl⟩ := nI_of h1
  by_cases h2 : nI pl < nI w
  · have h2' := h2
    rw [nI_ltI hpl (by omega)] at h2'
    obtain ⟨w', rfl⟩ : ∃ w', w = w' + 1 := ⟨w - 1, by omega⟩
    refine br_f h1 (br_t h2 ⟨pk_in pl 10 (by omega), nm_e ⟨w' - pl + 1, ?_⟩⟩)
    refine tk_x (by omega) (w' - pl) pl tx (by omega) ?_
    refine br_f h1 (br_t h2 ⟨pk_in pl 10 (by omega), nm_e (nm_r (nI_pred w') ⟨w' - pl + 1, ?_⟩)⟩)
    refine tk_y (by omega) (w' - pl) pl tx (by omega) ⟨rfl, ?_⟩
    exact (⟨w', g, p, L, T, rk, ⟨rfl, rfl, by omega, fun i hi => tk_by (B := fun z => ∃ v, v < 256 ∧ z = nI v) (m := w' + 1) (w' - pl) pl tx (by omega) hb i (by omega), rfl⟩, hN, hC, hO⟩ : rl_R (nI w') gv pr (tk_sh (w' - pl) pl tx) nu pa st en sc (nI w') nx (tk_sh (w' - pl) pl tx) he pt le ts)
  · exact br_f h1 (br_f h2 (br_f h1 (br_f h2 ⟨rfl, R0⟩)))
theorem zm_lines {k : Nat} (R : rl_R wl gv pr wk nu pa st en sc ln nx tx he pt le ts) : wpX_lines (fun r => wpY_lines (fun r' => r' = r ∧ i_Rel (k + 3) (wl, gv, pr, bl, la, lb, wk, nu, pa, st, en, sc, bu, sp, wy, ta, tb, re, tr, bk) (ln, nx, ll, rl, tx, he, pt, le, ts, lf, rt)) (ln, nx, ll, rl, tx, he, pt, le, ts, lf, rt)) (wl, gv, pr, bl, la, lb, wk, nu, pa, st, en, sc, bu, sp, wy, ta, tb, re, tr, bk) := by
  have R0 := R
  obtain ⟨w, g, p, L, T, rk, ⟨rfl, rfl, -⟩, -⟩ := R
  exact ⟨rfl, R0⟩
theorem zm_line {k : Nat} (R : rl_R wl gv pr wk nu pa st en sc ln nx tx he pt le ts) (v1 : Int32) : wpX_line (fun r => wpY_line (fun r' => r' = r ∧ i_Rel (k + 3) (wl, gv, pr, bl, la, lb, wk, nu, pa, st, en, sc, bu, sp, wy, ta, tb, re, tr, bk) (ln, nx, ll, rl, tx, he, pt, le, ts, lf, rt)) (ln, nx, ll, rl, tx, he, pt, le, ts, lf, rt) v1) (wl, gv, pr, bl, la, lb, wk, nu, pa, st, en, sc, bu, sp, wy, ta, tb, re, tr, bk) v1 := by
  have R0 := R
  obtain ⟨w, g, p, L, T, rk, ⟨rfl, rfl, hw, hb, rfl⟩, -⟩ := R
  by_cases h1 : v1 < 0
  · exact br_t h1 (br_t h1 ⟨rfl, R0⟩)
  obtain ⟨pl, hpl, rfl⟩ := nI_of h1
  by_cases h2 : nI pl < nI w
  · have h2' := h2
    rw [nI_ltI hpl (by omega)] at h2'
    have I := pk_in (x := nI pl) pl 10 (by omega)
    exact br_f h1 (br_t h2 ⟨I, br_f h1 (br_t h2 ⟨I, rfl, R0⟩)⟩)
  · exact br_f h1 (br_f h2 (br_f h1 (br_f h2 ⟨rfl, R0⟩)))
/-! parent, checkout -/
theorem zm_parent {k : Nat} (R : rl_R wl gv pr wk nu pa st en sc ln nx tx he pt le ts) (v1 : Int32) : wpX_parent (fun r => wpY_parent (fun r' => r' = r ∧ i_Rel (k + 3) (wl, gv, pr, bl, la, lb, wk, nu, pa, st, en, sc, bu, sp, wy, ta, tb, re, tr, bk) (ln, nx, ll, rl, tx, he, pt, le, ts, lf, rt)) (ln, nx, ll, rl, tx, he, pt, le, ts, lf, rt) v1) (wl, gv, pr, bl, la, lb, wk, nu, pa, st, en, sc, bu, sp, wy, ta, tb, re, tr, bk) v1 := by
  have R0 := R
  obtain ⟨w, g, p, L, T, rk, hW, ⟨rfl, rfl, hg, hN⟩, hC, hO⟩ := R
  unfold wpX_parent
  rcases rl_look hC hg v1 with ⟨n, s, rfl, hn, hs, hat, inj⟩ | ⟨hx, hy⟩
  · refine xa_slot (by omega) hs hat.2.1 inj (br_t (nI_pos' (by omega)) ⟨pk_in s 12 hs, ?_⟩)
    unfold wpY_parent
    refine ym_yes hn hat.2.2.1 (br_t rfl ⟨pk_in n 40 hn, ?_, R0⟩)
    rw [nI_clamp (by omega), nI_clamp (by omega)]
    exact hat.2.2.2.1.symm
  · refine xa_slotNo hx (br_f (by decide) ?_)
    unfold wpY_parent
    exact ym_no hy (br_f (by decide) ⟨rfl, R0⟩)
theorem xo_l {post : Int32 → SX → Prop} {w : Nat} (hw : w ≤ 10) (K : post (nI w) (nI w, gv, pr, nI w, la, lb, wk_cp wk bu w, nu, pa, st, en, sc, bu, sp, wy, ta, tb, re, tr, bk)) : ∀ d i, i + d = w → wX_checkout_19 post wl gv pr (nI w) la lb (d + 1) (nI i) (wk_cp wk bu i) nu pa st en sc bu sp wy ta tb re tr bk := by
  intro d
  induction d with
  | zero =>
    intro i hi
    have e : i = w := by omega
    subst e
    exact pk_le i i (fun _ => K) (fun z => by omega)
  | succ d ih =>
    intro i hi
    exact pk_le w i (fun z => by omega) (fun _ => ⟨pk_in i 10 (by omega), pk_in i 10 (by omega), nm_r (wk_cpc (by omega)) (nm_r (nI_1 i) (ih (i + 1) (by omega)))⟩)
theorem zm_checkout {k : Nat} (R : rl_R wl gv pr wk nu pa st en sc ln nx tx he pt le ts) (v1 : Int32) : wpX_checkout (fun r u' => wpY_checkout (fun r' v' => r' = r ∧ i_Rel (k + 3) u' v') (ln, nx, ll, rl, tx, he, pt, le, ts, lf, rt) v1) (wl, gv, pr, bl, la, lb, wk, nu, pa, st, en, sc, bu, sp, wy, ta, tb, re, tr, bk) v1 := by
  have R0 := R
  obtain ⟨w, g, p, L, T, rk, ⟨rfl, rfl, hw, hb, rfl⟩, hN, hC, hO⟩ := R
  have hg := hN.2.2.1
  unfold wpX_checkout
  rcases rl_look hC hg v1 with ⟨n, s, rfl, hn, hs, hat, inj⟩ | ⟨hx, hy⟩
  · have hP := rl_at_P hg hs hat
    obtain ⟨-, hT, -⟩ := hO s hP
    refine xa_slot (by omega) hs hat.2.1 inj (br_t (nI_pos' (by omega)) ?_)
    refine xr_rebuild hO hP (fun bu' sp' wy' hbu => ?_)
    have hx := xo_l (post := fun r u' => wpY_checkout (fun r' v' => r' = r ∧ i_Rel (k + 3) u' v') (nI w, nx, ll, rl, tx, he, pt, le, ts, lf, rt) (nI n)) (wl := nI w) (wk := tx) (bu := bu') (sp := sp') (wy := wy') (gv := gv) (pr := pr) (la := la) (lb := lb) (nu := nu) (pa := pa) (st := st) (en := en) (sc := sc) (ta := ta) (tb := tb) (re := re) (tr := tr) (bk := bk) hT.1 ?_ (L s) 0 (by omega)
    · rw [wk_cp_0] at hx
      exact Exists.intro (L s + 1) hx
    · unfold wpY_checkout
      refine ym_yes hn hat.2.2.1 (br_t rfl ⟨pk_in n 40 hn, nm_r (e' := nI (L s)) (by rw [nI_clamp (by omega)]; exact hat.2.2.2.2.1) ⟨L s + 1, ?_⟩⟩)
      have hy := yl_out_l (post := fun r' v' => r' = nI (L s) ∧ i_Rel (k + 3) (nI (L s), gv, pr, nI (L s), la, lb, wk_cp tx bu' (L s), nu, pa, st, en, sc, bu', sp', wy', ta, tb, re, tr, bk) v') (nx := nx) (ll := ll) (rl := rl) (tx := tx) (he := he) (pt := pt) (le := le) (ts := ts) (lf := lf) (rt := rt) hT.1 hn ⟨rfl, ?_⟩ (L s) 0 (by omega)
      · rw [wk_cp_0] at hy
        exact hy
      · refine (⟨L s, g, p, L, T, rk, ⟨rfl, rfl, hT.1, fun i hi => ?_, ?_⟩, hN, hC, hO⟩ : rl_R (nI (L s)) gv pr (wk_cp tx bu' (L s)) nu pa st en sc (nI (L s)) nx (wk_cp tx (fun i => ts (10 * n + i)) (L s)) he pt le ts)
        · rw [wk_cp_lt hi, hbu i hi]
          exact hT.2 i hi
        · exact wk_cp_eq (fun i hi => by rw [hbu i hi]; exact hat.2.2.2.2.2 i hi)
  · refine xa_slotNo hx (br_f (by decide) ?_)
    unfold wpY_checkout
    exact ym_no hy (br_f (by decide) ⟨rfl, R0⟩)
end
end
section
section
variable {wl gv pr bl la lb : Int32} {wk nu pa st en sc bu sp wy ta tb re tr bk : Nat → Int32} {ln nx ll rl : Int32} {tx he pt le ts lf rt : Nat → Int32}
theorem zm_distance {k : Nat} (R : rl_R wl gv pr wk nu pa st en sc ln nx tx he pt le ts) (v1 v2 : Int32) : wpX_distance (fun r u' => wpY_distance (fun r' v' => r' = r ∧ i_Rel (k + 3) u' v') (ln, nx, ll, rl, tx, he, pt, le, ts, lf, rt) v1 v2) (wl, gv, pr, bl, la, lb, wk, nu, pa, st, en, sc, bu, sp, wy, ta, tb, re, tr, bk) v1 v2 := by
  have R0 := R
  obtain ⟨w, g, p, L, T, rk, hW, hN, hC, hO⟩ := R
  have hg := hN.2.2.1
  unfold wpX_distance
  rcases rl_look hC hg v1 with ⟨n, s, rfl, hn, hs, hat, inj⟩ | ⟨hx, hy⟩
  · refine xa_slot (by omega) hs hat.2.1 inj ?_
    rcases rl_look hC hg v2 with ⟨n2, s2, rfl, hn2, hs2, hat2, inj2⟩ | ⟨hx2, hy2⟩
    · refine xa_slot (by omega) hs2 hat2.2.1 inj2 (br_f (nI_pos (by omega)) (br_t (nI_pos' (by omega)) ?_))
      have hP := rl_at_P hg hs hat
      have hP2 := rl_at_P hg hs2 hat2
      obtain ⟨-, hT, -⟩ := hO s hP
      obtain ⟨-, hT2, -⟩ := hO s2 hP2
      refine xr_rebuild hO hP (fun bu1 sp1 wy1 hb1 => ?_)
      refine xa_takeBuiltAsA hT.1 (fun ta1 ht1 => ?_)
      refine xr_rebuild hO hP2 (fun bu2 sp2 wy2 hb2 => ?_)
      refine xa_takeBuiltAsB hT2.1 (fun tb1 ht2 => ?_)
      refine xe_edit hT.1 hT2.1 (fun re1 tr1 _ => ?_)
      show wpY_distance _ _ _ _
      unfold wpY_distance
      refine ym_yes hn hat.2.2.1 (br_t rfl ?_)
      refine ym_yes hn2 hat2.2.2.1 (br_t rfl ⟨pk_in n 40 hn, nm_r (e' := nI (L s)) (by rw [nI_clamp (by omega)]; exact hat.2.2.2.2.1) ⟨L s + 1, ?_⟩⟩)
      have h := yl_dist_l (post := fun r' v' => r' = nI (md_dp (md_g ta1 tb1 (L s) (L s2)) (L s) (L s2)) ∧ i_Rel (k + 3) (wl, gv, pr, nI (L s2), nI (L s), nI (L s2), wk, nu, pa, st, en, sc, bu2, sp2, wy2, ta1, tb1, re1, tr1, bk) v') (n := n) (x2 := nI n2) (ln := ln) (nx := nx) (rl := rl) (tx := tx) (he := he) (pt := pt) (le := le) (ts := ts) (lf := lf) (rt := rt) hT.1 hn ?_ (L s) 0 (by omega)
      · rw [wk_cp_0] at h
        exact h
      · refine yl_right hT2.1 hn2 hat2.2.2.2.2.1 (fun b hb => ?_)
        refine ys_least hT.1 hT2.1 ⟨?_, R0⟩
        rw [md_g_congr (A' := ta1) (B' := tb1) (fun i hi => ?_) (fun i hi => ?_)]
        · rw [wk_cp_lt hi, hat.2.2.2.2.2 i hi, ht1 i hi, hb1 i hi]
        · rw [hb i hi, hat2.2.2.2.2.2 i hi, ht2 i hi, hb2 i hi]
    · refine xa_slotNo hx2 (br_f (nI_pos (by omega)) (br_f (by decide) ?_))
      show wpY_distance _ _ _ _
      unfold wpY_distance
      refine ym_yes hn hat.2.2.1 (br_t rfl ?_)
      exact ym_no hy2 (br_f (by decide) ⟨rfl, R0⟩)
  · refine xa_slotNo hx ?_
    have hY : wpY_distance (fun r' v' => r' = -1 ∧ i_Rel (k + 3) (wl, gv, pr, bl, la, lb, wk, nu, pa, st, en, sc, bu, sp, wy, ta, tb, re, tr, bk) v') (ln, nx, ll, rl, tx, he, pt, le, ts, lf, rt) v1 v2 := by
      unfold wpY_distance
      exact ym_no hy (br_f (by decide) ⟨rfl, R0⟩)
    rcases rl_look hC hg v2 with ⟨n2, s2, rfl, hn2, hs2, hat2, inj2⟩ | ⟨hx2, hy2⟩
    · exact xa_slot (by omega) hs2 hat2.2.1 inj2 (br_t (by decide) hY)
    · exact xa_slotNo hx2 (br_t (by decide) hY)
theorem zm_changed {k : Nat} (R : rl_R wl gv pr wk nu pa st en sc ln nx tx he pt le ts) (v1 : Int32) : wpX_changed (fun r u' => wpY_changed (fun r' v' => r' = r ∧ i_Rel (k + 3) u' v') (ln, nx, ll, rl, tx, he, pt, le, ts, lf, rt) v1) (wl, gv, pr, bl, la, lb, wk, nu, pa, st, en, sc, bu, sp, wy, ta, tb, re, tr, bk) v1 := by
  have R0 := R
  obtain ⟨w, g, p, L, T, rk, ⟨rfl, rfl, hw, hb, rfl⟩, hN, hC, hO⟩ := R
  have hg := hN.2.2.1
  unfold wpX_changed
  rcases rl_look hC hg v1 with ⟨n, s, rfl, hn, hs, hat, inj⟩ | ⟨hx, hy⟩
  · refine xa_slot (by omega) hs hat.2.1 inj (br_t (nI_pos' (by omega)) ?_)
    have hP := rl_at_P hg hs hat
    obtain ⟨-, hT, -⟩ := hO s hP
    refine xr_rebuild hO hP (fun bu1 sp1 wy1 hb1 => ?_)
    refine xa_takeBuiltAsA hT.1 (fun ta1 ht1 => ?_)
    refine xa_takeWorkAsB hw (fun tb1 ht2 => ?_)
    refine xe_edit hT.1 hw (fun re1 tr1 _ => ?_)
    show wpY_changed _ _ _
    unfold wpY_changed
    refine ym_yes hn hat.2.2.1 (br_t rfl ⟨w + 1, ?_⟩)
    have h := yl_chg_l (post := fun r' v' => r' = nI (md_dp (md_g ta1 tb1 (L s) w) (L s) w) ∧ i_Rel (k + 3) (nI w, gv, pr, nI (L s), nI (L s), nI w, tx, nu, pa, st, en, sc, bu1, sp1, wy1, ta1, tb1, re1, tr1, bk) v') (ll := nI w) (x1 := nI n) (nx := nx) (rl := rl) (tx := tx) (he := he) (pt := pt) (le := le) (ts := ts) (lf := lf) (rt := rt) hw ?_ w 0 (by omega)
    · rw [wk_cp_0] at h
      exact h
    · refine yl_right hT.1 hn hat.2.2.2.2.1 (fun b hb2 => ?_)
      refine ys_least hw hT.1 ⟨?_, R0⟩
      rw [md_sym, md_g_congr (A' := ta1) (B' := tb1) (fun i hi => ?_) (fun i hi => ?_)]
      · rw [hb2 i hi, hat.2.2.2.2.2 i hi, ht1 i hi, hb1 i hi]
      · rw [wk_cp_lt hi, ht2 i hi]
  · refine xa_slotNo hx (br_f (by decide) ?_)
    unfold wpY_changed
    exact ym_no hy (br_f (by decide) ⟨rfl, R0⟩)
/-! base -/
theorem zf_l {m a : Nat} {q c : Nat → Nat} (inj : ∀ s t n, s < 12 → t < 12 → n < 40 → nu s = nI n → nu t = nI n → s = t) (ha : a < 40) (hm : m ≤ 12) (hq : ∀ i, i < m → q i < 40 ∧ ¬ he (q i) = 0 ∧ c i < 12 ∧ nu (c i) = nI (q i) ∧ pa (c i) = pt (q i)) (hc : ∀ i, i + 1 < m → pt (q i) = nI (q (i + 1))) (hz : pt (q (m - 1)) = -2) :
    ∀ d i (x : Int32), i + d = m → (i < m → x = nI (q i)) → (i = m → x = -2) → ∃ r : Int32, (r = 0 ∨ r = 1) ∧ (∀ post : Int32 → Prop, post r → wX_isForebear_5 post (nI a) wl gv pr bl la lb wk nu pa st en sc bu sp wy ta tb re tr bk (d + 1) x (nI i)) ∧ (∀ post : Int32 → Prop, post r → wY_forebear_5 post (nI a) ln nx ll rl tx he pt le ts lf rt (d + 1) x (nI i)) := by
  intro d
  induction d with
  | zero =>
    intro i x hi h1 h2
    have e := h2 (by omega)
    subst e
    exact ⟨0, Or.inl rfl, fun post hp => br_c (fun _ => hp) (fun _ => br_t (by decide) hp), fun post hp => br_c (fun _ => hp) (fun _ => br_t (by decide) hp)⟩
  | succ d ih =>
    intro i x hi h1 h2
    have e := h1 (by omega)
    subst e
    obtain ⟨q1, q2, q3, q4, q5⟩ := hq i (by omega)
    by_cases z : q i = a
    · have hz : nI (q i) = nI a := by rw [z]
      exact ⟨1, Or.inr rfl, fun post hp => pk_le 12 i (fun w => by omega) (fun _ => br_f (nI_pos (by omega)) (br_t hz hp)), fun post hp => pk_le 40 i (fun w => by omega) (fun _ => br_f (nI_pos (by omega)) (br_t hz hp))⟩
    · have hne : ¬ nI (q i) = nI a := by rw [nI_eq (by omega) (by omega)]; exact z
      obtain ⟨r, hr, hX, hY⟩ := ih (i + 1) (pt (q i)) (by omega) (fun w => hc i w) (fun w => by
        have e : i = m - 1 := by omega
        rw [e]; exact hz)
      refine ⟨r, hr, fun post hp => pk_le 12 i (fun w => by omega) (fun _ => br_f (nI_pos (by omega)) (br_f hne (xa_slot (by omega) q3 q4 (fun t ht et => inj t (c i) (q i) ht q3 q1 et q4) ⟨pk_in (c i) 12 q3, nm_r (e' := pt (q i)) (by rw [nI_clamp (by omega)]; exact q5) (nm_r (nI_1 i) (hX post hp))⟩))), fun post hp => pk_le 40 i (fun w => by omega) (fun _ => br_f (nI_pos (by omega)) (br_f hne ⟨pk_in (q i) 40 q1, nm_r (e' := pt (q i)) (by rw [nI_clamp (by omega)]) (nm_r (nI_1 i) (hY post hp))⟩))⟩
theorem zb_l {m b : Nat} {q c : Nat → Nat} (inj : ∀ s t n, s < 12 → t < 12 → n < 40 → nu s = nI n → nu t = nI n → s = t) (hm : m ≤ 12) (hq : ∀ i, i < m → q i < 40 ∧ ¬ he (q i) = 0 ∧ c i < 12 ∧ nu (c i) = nI (q i) ∧ pa (c i) = pt (q i)) (hc : ∀ i, i + 1 < m → pt (q i) = nI (q (i + 1))) (hz : pt (q (m - 1)) = -2)
    (hF : ∀ a, a < 40 → ∃ r : Int32, (r = 0 ∨ r = 1) ∧ (∀ post : Int32 → Prop, post r → wpX_isForebear post (wl, gv, pr, bl, la, lb, wk, nu, pa, st, en, sc, bu, sp, wy, ta, tb, re, tr, bk) (nI a) (nI b)) ∧ (∀ post : Int32 → Prop, post r → wpY_forebear post (ln, nx, ll, rl, tx, he, pt, le, ts, lf, rt) (nI a) (nI b))) :
    ∀ d i (x : Int32), i + d = m → (i < m → x = nI (q i)) → (i = m → x = -2) → ∃ r : Int32, (∀ post : Int32 → Prop, post r → wX_base_30 post (nI b) wl gv pr bl la lb wk nu pa st en sc bu sp wy ta tb re tr bk (d + 1) x (nI i)) ∧ (∀ post : Int32 → Prop, post r → wY_base_23 post (nI b) ln nx ll rl tx he pt le ts lf rt (d + 1) x (nI i)) := by
  intro d
  induction d with
  | zero =>
    intro i x hi h1 h2
    have e := h2 (by omega)
    subst e
    exact ⟨-2, fun post hp => br_c (fun _ => hp) (fun _ => br_t (by decide) hp), fun post hp => br_c (fun _ => hp) (fun _ => br_t (by decide) hp)⟩
  | succ d ih =>
    intro i x hi h1 h2
    have e := h1 (by omega)
    subst e
    obtain ⟨q1, q2, q3, q4, q5⟩ := hq i (by omega)
    obtain ⟨r0, h0, fX, fY⟩ := hF (q i) q1
    rcases h0 with rfl | rfl
    · obtain ⟨r, hX, hY⟩ := ih (i + 1) (pt (q i)) (by omega) (fun w => hc i w) (fun w => by
        have e : i = m - 1 := by omega
        rw [e]; exact hz)
      refine ⟨r, fun post hp => pk_le 12 i (fun w => by omega) (fun _ => br_f (nI_pos (by omega)) (fX _ (br_t rfl (xa_slot (by omega) q3 q4 (fun t ht et => inj t (c i) (q i) ht q3 q1 et q4) ⟨pk_in (c i) 12 q3, nm_r (e' := pt (q i)) (by rw [nI_clamp (by omega)]; exact q5) (nm_r (nI_1 i) (hX post hp))⟩)))), fun post hp => pk_le 40 i (fun w => by omega) (fun _ => br_f (nI_pos (by omega)) (fY _ (br_t rfl ⟨pk_in (q i) 40 q1, nm_r (e' := pt (q i)) (by rw [nI_clamp (by omega)]) (nm_r (nI_1 i) (hY post hp))⟩)))⟩
    · exact ⟨nI (q i), fun post hp => pk_le 12 i (fun w => by omega) (fun _ => br_f (nI_pos (by omega)) (fX _ (br_f (by decide) hp))), fun post hp => pk_le 40 i (fun w => by omega) (fun _ => br_f (nI_pos (by omega)) (fY _ (br_f (by decide) hp)))⟩
theorem zm_base {k : Nat} (R : rl_R wl gv pr wk nu pa st en sc ln nx tx he pt le ts) (v1 v2 : Int32) : wpX_base (fun r => wpY_base (fun r' => r' = r ∧ i_Rel (k + 3) (wl, gv, pr, bl, la, lb, wk, nu, pa, st, en, sc, bu, sp, wy, ta, tb, re, tr, bk) (ln, nx, ll, rl, tx, he, pt, le, ts, lf, rt)) (ln, nx, ll, rl, tx, he, pt, le, ts, lf, rt) v1 v2) (wl, gv, pr, bl, la, lb, wk, nu, pa, st, en, sc, bu, sp, wy, ta, tb, re, tr, bk) v1 v2 := by
  have R0 := R
  obtain ⟨w, g, p, L, T, rk, hW, hN, hC, hO⟩ := R
  have hg := hN.2.2.1
  unfold wpX_base
  rcases rl_look hC hg v1 with ⟨n, s, rfl, hn, hs, hat, inj⟩ | ⟨hx, hy⟩
  · refine xa_slot (by omega) hs hat.2.1 inj ?_
    rcases rl_look hC hg v2 with ⟨n2, s2, rfl, hn2, hs2, hat2, inj2⟩ | ⟨hx2, hy2⟩
    · refine xa_slot (by omega) hs2 hat2.2.1 inj2 (br_f (nI_pos (by omega)) (br_t (nI_pos' (by omega)) ?_))
      obtain ⟨m, q, c, q0, hm0, hm, hq, hc, hz⟩ := rl_chain hC n hn hat.2.2.1
      obtain ⟨m2, q2, c2, q02, hm02, hm2, hq2, hc2, hz2⟩ := rl_chain hC n2 hn2 hat2.2.2.1
      have hF : ∀ a, a < 40 → ∃ r : Int32, (r = 0 ∨ r = 1) ∧ (∀ post : Int32 → Prop, post r → wpX_isForebear post (wl, gv, pr, bl, la, lb, wk, nu, pa, st, en, sc, bu, sp, wy, ta, tb, re, tr, bk) (nI a) (nI n2)) ∧ (∀ post : Int32 → Prop, post r → wpY_forebear post (ln, nx, ll, rl, tx, he, pt, le, ts, lf, rt) (nI a) (nI n2)) := fun a ha => by
        obtain ⟨r, hr, hX, hY⟩ := zf_l (wl := wl) (gv := gv) (pr := pr) (bl := bl) (la := la) (lb := lb) (wk := wk) (nu := nu) (pa := pa) (st := st) (en := en) (sc := sc) (bu := bu) (sp := sp) (wy := wy) (ta := ta) (tb := tb) (re := re) (tr := tr) (bk := bk) (ln := ln) (nx := nx) (ll := ll) (rl := rl) (tx := tx) (he := he) (pt := pt) (le := le) (ts := ts) (lf := lf) (rt := rt) hC.2.2 ha hm2 hq2 hc2 hz2 m2 0 (nI n2) (by omega) (fun _ => by rw [q02]) (fun z => by omega)
        exact ⟨r, hr, fun post hp => Exists.intro (m2 + 1) (hX post hp), fun post hp => Exists.intro (m2 + 1) (hY post hp)⟩
      obtain ⟨r, hX, hY⟩ := zb_l (wl := wl) (gv := gv) (pr := pr) (bl := bl) (la := la) (lb := lb) (wk := wk) (nu := nu) (pa := pa) (st := st) (en := en) (sc := sc) (bu := bu) (sp := sp) (wy := wy) (ta := ta) (tb := tb) (re := re) (tr := tr) (bk := bk) (ln := ln) (nx := nx) (ll := ll) (rl := rl) (tx := tx) (he := he) (pt := pt) (le := le) (ts := ts) (lf := lf) (rt := rt) hC.2.2 hm hq hc hz hF m 0 (nI n) (by omega) (fun _ => by rw [q0]) (fun z => by omega)
      refine Exists.intro (m + 1) (hX _ ?_)
      show wpY_base _ _ _ _
      unfold wpY_base
      refine ym_yes hn hat.2.2.1 (br_t rfl ?_)
      refine ym_yes hn2 hat2.2.2.1 (br_t rfl ?_)
      exact Exists.intro (m + 1) (hY _ ⟨rfl, R0⟩)
    · refine xa_slotNo hx2 (br_f (nI_pos (by omega)) (br_f (by decide) ?_))
      show wpY_base _ _ _ _
      unfold wpY_base
      refine ym_yes hn hat.2.2.1 (br_t rfl ?_)
      exact ym_no hy2 (br_f (by decide) ⟨rfl, R0⟩)
  · refine xa_slotNo hx ?_
    have hY : wpY_base (fun r' => r' = -1 ∧ i_Rel (k + 3) (wl, gv, pr, bl, la, lb, wk, nu, pa, st, en, sc, bu, sp, wy, ta, tb, re, tr, bk) (ln, nx, ll, rl, tx, he, pt, le, ts, lf, rt)) (ln, nx, ll, rl, tx, he, pt, le, ts, lf, rt) v1 v2 := by
      unfold wpY_base
      exact ym_no hy (br_f (by decide) ⟨rfl, R0⟩)
    rcases rl_look hC hg v2 with ⟨n2, s2, rfl, hn2, hs2, hat2, inj2⟩ | ⟨hx2, hy2⟩
    · exact xa_slot (by omega) hs2 hat2.2.1 inj2 (br_t (by decide) hY)
    · exact xa_slotNo hx2 (br_t (by decide) hY)
/-! find -/
theorem xs_15 {post : Int32 → Prop} {w : Nat} {t : Nat → Int32} (hw : w ≤ 10) (hb : ∀ i, i < w → bu i = t i) (K1 : (∀ i, i < w → t i = wk i) → post 1) (K0 : ¬ (∀ i, i < w → t i = wk i) → post 0) : ∀ d i, i + d = w → (∀ j, j < i → t j = wk j) → wX_builtIsWork_15 post (nI w) gv pr bl la lb wk nu pa st en sc bu sp wy ta tb re tr bk (d + 1) (nI i) := by
  intro d
  induction d with
  | zero =>
    intro i hi h
    have e : i = w := by omega
    subst e
    exact pk_le i i (fun _ => K1 h) (fun z => by omega)
  | succ d ih =>
    intro i hi h
    refine pk_le w i (fun z => by omega) (fun _ => ⟨pk_in i 10 (by omega), pk_in i 10 (by omega), ?_⟩)
    rw [nI_clamp (by omega), hb i (by omega)]
    refine br_c (fun z => nm_r (nI_1 i) (ih (i + 1) (by omega) (fun j hj => ?_))) (fun z => K0 (fun a => z (a i (by omega))))
    rcases Nat.lt_or_ge j i with w1 | w1
    · exact h j w1
    · have e : j = i := by omega
      rw [e]; exact z
theorem xs_same {post : Int32 → Prop} {w l : Nat} {t : Nat → Int32} (hw : w ≤ 10) (hl : l ≤ 10) (hb : ∀ i, i < l → bu i = t i) (K1 : (l = w ∧ ∀ i, i < w → t i = wk i) → post 1) (K0 : ¬ (l = w ∧ ∀ i, i < w → t i = wk i) → post 0) : wpX_builtIsWork post (nI w, gv, pr, nI l, la, lb, wk, nu, pa, st, en, sc, bu, sp, wy, ta, tb, re, tr, bk) := by
  refine pk_eq l w (fun e => ?_) (fun e => K0 (fun z => e z.1))
  subst e
  exact ⟨l + 1, xs_15 hw hb (fun a => K1 ⟨rfl, a⟩) (fun a => K0 (fun z => a z.2)) l 0 (by omega) (fun j hj => by omega)⟩
theorem ys_17 {post : Int32 → Prop} {w n : Nat} {t : Nat → Int32} (hw : w ≤ 10) (hn : n < 40) (hb : ∀ i, i < w → ts (10 * n + i) = t i) (K1 : (∀ i, i < w → t i = tx i) → post 1) (K0 : ¬ (∀ i, i < w → t i = tx i) → post 0) : ∀ d i, i + d = w → (∀ j, j < i → t j = tx j) → wY_same_17 post (nI n) (nI w) nx ll rl tx he pt le ts lf rt (d + 1) (nI i) := by
  intro d
  induction d with
  | zero =>
    intro i hi h
    have e : i = w := by omega
    subst e
    exact pk_le i i (fun _ => K1 h) (fun z => by omega)
  | succ d ih =>
    intro i hi h
    refine pk_le w i (fun z => by omega) (fun _ => ⟨pk_in (10 * n + i) 400 (by omega) (wk_10 n i), pk_in i 10 (by omega), ?_⟩)
    rw [wk_10, nI_clamp (by omega), nI_clamp (by omega), hb i (by omega)]
    refine br_c (fun z => nm_r (nI_1 i) (ih (i + 1) (by omega) (fun j hj => ?_))) (fun z => K0 (fun a => z (a i (by omega))))
    rcases Nat.lt_or_ge j i with w1 | w1
    · exact h j w1
    · have e : j = i := by omega
      rw [e]; exact z
theorem ys_same {post : Int32 → Prop} {w l n : Nat} {t : Nat → Int32} (hw : w ≤ 10) (hl : l ≤ 10) (hn : n < 40) (hle : le n = nI l) (hb : ∀ i, i < l → ts (10 * n + i) = t i) (K1 : (l = w ∧ ∀ i, i < w → t i = tx i) → post 1) (K0 : ¬ (l = w ∧ ∀ i, i < w → t i = tx i) → post 0) : wpY_same post (nI w, nx, ll, rl, tx, he, pt, le, ts, lf, rt) (nI n) := by
  refine And.intro (pk_in n 40 hn) (pk_eq l w (fun e => ?_) (fun e => K0 (fun z => e z.1)) (by rw [nI_clamp (by omega)]; exact hle))
  subst e
  exact ⟨l + 1, ys_17 hw hn hb (fun a => K1 ⟨rfl, a⟩) (fun a => K0 (fun z => a z.2)) l 0 (by omega) (fun j hj => by omega)⟩
theorem yf_end {post : Int32 → Prop} {g : Nat} (h : ∀ i, g ≤ i → i < 40 → he i = 0) (K : post (-1)) : ∀ d i, i + d = 40 → g ≤ i → wY_find_2 post ln nx ll rl tx he pt le ts lf rt (d + 1) (nI i) := by
  intro d
  induction d with
  | zero =>
    intro i hi _
    exact pk_le 40 i (fun _ => K) (fun z => by omega)
  | succ d ih =>
    intro i hi hg
    exact pk_le 40 i (fun z => by omega) (fun _ => ⟨pk_in i 40 (by omega), br_t (by rw [nI_clamp (by omega)]; exact h i hg (by omega)) (nm_r (nI_1 i) (ih (i + 1) (by omega) (by omega)))⟩)
theorem zn_l {w g : Nat} {L : Nat → Nat} {T : Nat → Nat → Int32} {rk : Nat → Nat} (hw : w ≤ 10) (hg : g ≤ 40) (hC : rl_C g nu pa he pt le ts L T) (hO : rs_OK (rl_P nu) st en sc L T rk) :
    ∀ d i, i + d = g → ∃ r : Int32, (∀ (post : Int32 → SX → Prop) (bl : Int32) (bu sp wy : Nat → Int32), (∀ (bl : Int32) (bu sp wy : Nat → Int32), post r (nI w, nI g, pr, bl, la, lb, wk, nu, pa, st, en, sc, bu, sp, wy, ta, tb, re, tr, bk)) → wX_find_2 post (d + 1) (nI i) (nI w) (nI g) pr bl la lb wk nu pa st en sc bu sp wy ta tb re tr bk) ∧
      (∀ post : Int32 → Prop, post r → wY_find_2 post (nI w) nx ll rl wk he pt le ts lf rt (d + (40 - g) + 1) (nI i)) := by
  intro d
  induction d with
  | zero =>
    intro i hi
    have e : i = g := by omega
    subst e
    refine ⟨-1, fun post bl bu sp wy K => pk_le i i (fun _ => K bl bu sp wy) (fun z => by omega), fun post hp => ?_⟩
    refine yf_end (g := i) (fun j h1 h2 => ?_) hp (0 + (40 - i)) i (by omega) (Nat.le_refl _)
    rcases Classical.em (he j = 0) with z | z
    · exact z
    · obtain ⟨⟨s, -, hat⟩, -⟩ := hC.2.1 j h2 z
      have := hat.1
      omega
  | succ d ih =>
    intro i hi
    obtain ⟨r, hX, hY⟩ := ih (i + 1) (by omega)
    have e : d + 1 + (40 - g) = d + (40 - g) + 1 := by omega
    rw [e]
    rcases rl_look hC hg (nI i) with ⟨n, s, en, hn, hs, hat, inj⟩ | ⟨hx, hy⟩
    · rw [nI_eq (by omega) (by omega)] at en
      subst en
      have hP := rl_at_P hg hs hat
      obtain ⟨-, hT, -⟩ := hO s hP
      have hh : ¬ he (nI i).toNatClampNeg = 0 := by rw [nI_clamp (by omega)]; exact hat.2.2.1
      by_cases E : L s = w ∧ ∀ j, j < w → T s j = wk j
      · refine ⟨nI i, fun post bl bu sp wy K => pk_le g i (fun z => by omega) (fun _ => xa_slot (by omega) hs hat.2.1 inj (br_f (nI_pos (by omega)) (xr_rebuild hO hP (fun bu' sp' wy' hb => ?_)))), fun post hp => pk_le 40 i (fun z => by omega) (fun _ => ⟨pk_in i 40 (by omega), br_f hh ?_⟩)⟩
        · exact xs_same hw hT.1 hb (fun _ => br_f (by decide) (K _ _ _ _)) (fun z => absurd E z)
        · exact ys_same hw hT.1 (by omega) hat.2.2.2.2.1 hat.2.2.2.2.2 (fun _ => br_f (by decide) hp) (fun z => absurd E z)
      · refine ⟨r, fun post bl bu sp wy K => pk_le g i (fun z => by omega) (fun _ => xa_slot (by omega) hs hat.2.1 inj (br_f (nI_pos (by omega)) (xr_rebuild hO hP (fun bu' sp' wy' hb => ?_)))), fun post hp => pk_le 40 i (fun z => by omega) (fun _ => ⟨pk_in i 40 (by omega), br_f hh ?_⟩)⟩
        · exact xs_same hw hT.1 hb (fun z => absurd z E) (fun _ => br_t rfl (nm_r (nI_1 i) (hX post _ bu' sp' wy' K)))
        · exact ys_same hw hT.1 (by omega) hat.2.2.2.2.1 hat.2.2.2.2.2 (fun z => absurd z E) (fun _ => br_t rfl (nm_r (nI_1 i) (hY post hp)))
    · have hh : he (nI i).toNatClampNeg = 0 := by rw [nI_clamp (by omega)]; exact hy i (by omega) rfl
      exact ⟨r, fun post bl bu sp wy K => pk_le g i (fun z => by omega) (fun _ => xa_slotNo hx (br_t (by decide) (nm_r (nI_1 i) (hX post bl bu sp wy K)))), fun post hp => pk_le 40 i (fun z => by omega) (fun _ => ⟨pk_in i 40 (by omega), br_t hh (nm_r (nI_1 i) (hY post hp))⟩)⟩
theorem zm_find {k : Nat} (R : rl_R wl gv pr wk nu pa st en sc ln nx tx he pt le ts) : wpX_find (fun r u' => wpY_find (fun r' => r' = r ∧ i_Rel (k + 3) u' (ln, nx, ll, rl, tx, he, pt, le, ts, lf, rt)) (ln, nx, ll, rl, tx, he, pt, le, ts, lf, rt)) (wl, gv, pr, bl, la, lb, wk, nu, pa, st, en, sc, bu, sp, wy, ta, tb, re, tr, bk) := by
  have R0 := R
  obtain ⟨w, g, p, L, T, rk, ⟨rfl, rfl, hw, hb, rfl⟩, hN, hC, hO⟩ := R
  have hg := hN.2.2.1
  have egv := hN.1
  subst egv
  obtain ⟨r, hX, hY⟩ := zn_l (wk := tx) (pr := pr) (la := la) (lb := lb) (nu := nu) (pa := pa) (st := st) (en := en) (sc := sc) (ta := ta) (tb := tb) (re := re) (tr := tr) (bk := bk) (nx := nx) (ll := ll) (rl := rl) (he := he) (pt := pt) (le := le) (ts := ts) (lf := lf) (rt := rt) hw hg hC hO g 0 (by omega)
  refine Exists.intro (g + 1) (hX _ bl bu sp wy (fun bl' bu' sp' wy' => ?_))
  exact Exists.intro (g + (40 - g) + 1) (hY _ ⟨rfl, R0⟩)
end
end
section
theorem rs_lt {P : Nat → Prop} {st en sc : Nat → Int32} {L : Nat → Nat} {T : Nat → Nat → Int32} {rk : Nat → Nat} (ok : rs_OK P st en sc L T rk) {r t : Nat} (hr : P r) (ht : t < 2 ^ 31) (e : st r = nI t) : P t ∧ rk t < rk r := by
  obtain ⟨-, -, m, hm, hen, ⟨a, -⟩ | ⟨t1, ht1, a, b, -⟩⟩ := ok r hr
  · rw [e] at a
    exact absurd a (wk_neg t ht)
  · have h12 := (ok t1 ht1).1
    rw [e, nI_eq ht (by omega)] at a
    subst a
    exact ⟨ht1, b⟩
/-! the pure side of commit -/
section
variable {g w s : Nat} {nu pa he pt le ts tx : Nat → Int32} {L L' : Nat → Nat} {T T' : Nat → Nat → Int32} {z b : Int32}
theorem rl_keep {n r : Nat} (h : rl_At g nu pa he pt le ts L T n r) (hr : r ≠ s) (hL : L r ≤ 10) (h' : L' r = L r ∧ T' r = T r) :
    rl_At (g + 1) (upd nu s (nI g)) (upd pa s z) (upd he g b) (upd pt g z) (upd le g (nI w)) (wk_bl ts (10 * g) tx w) L' T' n r := by
  obtain ⟨h1, h2, h3, h4, h5, h6⟩ := h
  refine ⟨by omega, by rw [pk_un hr]; exact h2, by rw [pk_un (by omega)]; exact h3, by rw [pk_un hr, pk_un (by omega)]; exact h4, by rw [pk_un (by omega), h'.1]; exact h5, fun i hi => ?_⟩
  rw [h'.1] at hi
  rw [wk_bl_out (Or.inl (by omega)), h'.2]
  exact h6 i hi
theorem rl_new (C : rl_C g nu pa he pt le ts L T) (hg : g < 40) (hs : s < 12) (hns : nu s = -1) (hL : ∀ r, rl_P nu r → L r ≤ 10) (hz : z = -2 ∨ ∃ q, q < g ∧ z = nI q ∧ ¬ he q = 0) (hb : ¬ b = 0) (hLs : L' s = w) (hTs : ∀ i, i < w → T' s i = tx i) (hL' : ∀ r, r ≠ s → L' r = L r ∧ T' r = T r) :
    rl_C (g + 1) (upd nu s (nI g)) (upd pa s z) (upd he g b) (upd pt g z) (upd le g (nI w)) (wk_bl ts (10 * g) tx w) L' T' := by
  have hnew : rl_At (g + 1) (upd nu s (nI g)) (upd pa s z) (upd he g b) (upd pt g z) (upd le g (nI w)) (wk_bl ts (10 * g) tx w) L' T' g s := by
    refine ⟨by omega, pk_us, by rw [pk_us]; exact hb, by rw [pk_us, pk_us], by rw [pk_us, hLs], fun i hi => ?_⟩
    rw [hLs] at hi
    rw [wk_bl_in hi, hTs i hi]
  have hold : ∀ r, r < 12 → r ≠ s → upd nu s (nI g) r = -1 ∨ ∃ n, n < g ∧ nu r = nI n ∧ rl_At (g + 1) (upd nu s (nI g)) (upd pa s z) (upd he g b) (upd pt g z) (upd le g (nI w)) (wk_bl ts (10 * g) tx w) L' T' n r := fun r hr hne => by
    rcases C.1 r hr with e | ⟨n, hat⟩
    · exact Or.inl (by rw [pk_un hne]; exact e)
    · exact Or.inr ⟨n, hat.1, hat.2.1, rl_keep hat hne (hL r (rl_at_P (by omega) hr hat)) (hL' r hne)⟩
  refine ⟨fun r hr => ?_, fun n hn hh => ?_, fun a c n ha hc hn ea ec => ?_⟩
  · by_cases e : r = s
    · rw [e]; exact Or.inr ⟨g, hnew⟩
    · rcases hold r hr e with h | ⟨n, -, -, h⟩
      · exact Or.inl h
      · exact Or.inr ⟨n, h⟩
  · by_cases e : n = g
    · subst e
      refine ⟨⟨s, hs, hnew⟩, ?_⟩
      rw [pk_us]
      rcases hz with h | ⟨q, h1, h2, h3⟩
      · exact Or.inl h
      · exact Or.inr ⟨q, h1, h2, by rw [pk_un (by omega)]; exact h3⟩
    · rw [pk_un e] at hh
      obtain ⟨⟨t, ht, hat⟩, hp⟩ := C.2.1 n hn hh
      have hne : t ≠ s := fun z => by
        have a := hat.2.1
        rw [z, hns] at a
        exact wk_neg n (by omega) a.symm
      refine ⟨⟨t, ht, rl_keep hat hne (hL t (rl_at_P (by omega) ht hat)) (hL' t hne)⟩, ?_⟩
      rw [pk_un e]
      rcases hp with h | ⟨q, h1, h2, h3⟩
      · exact Or.inl h
      · have hng := hat.1
        exact Or.inr ⟨q, h1, h2, by rw [pk_un (by omega)]; exact h3⟩
  · have fresh : ∀ r, r < 12 → r ≠ s → upd nu s (nI g) r = nI n → n < g := fun r hr hne er => by
      rcases hold r hr hne with h | ⟨n', h1, h2, -⟩
      · rw [h] at er
        exact absurd er.symm (wk_neg n (by omega))
      · rw [pk_un hne, h2, nI_eq (by omega) (by omega)] at er
        omega
    by_cases e1 : a = s
    · by_cases e2 : c = s
      · omega
      · have f := fresh c hc e2 ec
        rw [e1, pk_us, nI_eq (by omega) (by omega)] at ea
        omega
    · by_cases e2 : c = s
      · have f := fresh a ha e1 ea
        rw [e2, pk_us, nI_eq (by omega) (by omega)] at ec
        omega
      · rw [pk_un e1] at ea
        rw [pk_un e2] at ec
        exact C.2.2 a c n ha hc hn ea ec
theorem rl_nowt (C : rl_C g nu pa he pt le ts L T) (hg : g < 40) : he g = 0 := by
  rcases Classical.em (he g = 0) with z | z
  · exact z
  · obtain ⟨⟨s, -, hat⟩, -⟩ := C.2.1 g hg z
    have := hat.1
    omega
theorem rl_cnt (C : rl_C g nu pa he pt le ts L T) (hg : g < 40) (hs : s < 12) (hns : nu s = -1) (hb : ¬ b = 0) {p : Nat} (h1 : yc_ct (yc_h he) 40 = p) (h2 : yc_ct (yc_n nu) 12 = p) :
    yc_ct (yc_h (upd he g b)) 40 = p + 1 ∧ yc_ct (yc_n (upd nu s (nI g))) 12 = p + 1 := by
  constructor
  · rw [yc_set (f := yc_h he) (k := g) (fun z => yc_h_i.mp z (rl_nowt C hg)) (yc_h_i.mpr (by rw [pk_us]; exact hb)) 40 hg (fun i hi => ?_), h1]
    unfold yc_h
    rw [pk_un hi]
  · rw [yc_set (f := yc_n nu) (k := s) (fun z => yc_n_i.mp z (by rw [hns]; decide)) (yc_n_i.mpr (by rw [pk_us]; exact nI_pos (by omega))) 12 hs (fun i hi => ?_), h2]
    unfold yc_n
    rw [pk_un hi]
end
section
variable {wl gv pr bl la lb : Int32} {wk nu pa st en sc bu sp wy ta tb re tr bk : Nat → Int32} {ln nx ll rl : Int32} {tx he pt le ts lf rt : Nat → Int32}
variable {P P' : Nat → Prop} {L : Nat → Nat} {T : Nat → Nat → Int32} {rk : Nat → Nat} {s : Nat}
theorem zc_full {post : Int32 → SX → Prop} {x x2 z0 : Int32} (ok : rs_OK P st en sc L T rk) (hs : s < 12) (hTs : rs_Tx L T s) (hb : ∀ i, i < L s → tb i = T s i) (h1 : ∀ r, P' r → P r ∨ r = s) (h2 : ∀ r, P r → P' r) (hnu : nu s = x) (hx2 : ¬ 0 ≤ x2)
    (K : ∀ (st en sc : Nat → Int32) (rk : Nat → Nat), rs_OK P' st en sc L T rk → post x (wl, gv, pr, bl, la, nI (L s), wk, nu, pa, st, en, sc, bu, sp, wy, ta, tb, re, tr, bk)) : wX_commit_117 post x2 (nI s) z0 wl gv pr bl la (nI (L s)) wk nu pa st en sc bu sp wy ta tb re tr bk := by
  unfold wX_commit_117
  refine br_f hx2 (xa_storeFull hTs.1 hs ?_)
  refine And.intro (pk_in s 12 hs) ?_
  rw [nI_clamp (by omega), hnu]
  exact K _ _ _ _ (rs_full ok hs hTs hb h1 h2)
theorem zc_diff {post : Int32 → SX → Prop} {x : Int32} {p : Nat} (ok : rs_OK P st en sc L T rk) (hs : s < 12) (hPs : ¬ P s) (hp : P p) (hTs : rs_Tx L T s) (hb : ∀ i, i < L s → tb i = T s i) (h1 : ∀ r, P' r → P r ∨ r = s) (h2 : ∀ r, P r → P' r) (hnu : nu s = x)
    (K : ∀ (bl la lb : Int32) (st en sc bu sp wy ta re tr bk : Nat → Int32) (rk : Nat → Nat), rs_OK P' st en sc L T rk → post x (wl, gv, pr, bl, la, lb, wk, nu, pa, st, en, sc, bu, sp, wy, ta, tb, re, tr, bk)) : wX_commit_117 post (nI p) (nI s) 0 wl gv pr bl la (nI (L s)) wk nu pa st en sc bu sp wy ta tb re tr bk := by
  have hp12 := (ok p hp).1
  have hTp := (ok p hp).2.1
  have hne : p ≠ s := fun e => hPs (by rw [← e]; exact hp)
  unfold wX_commit_117
  refine br_t (nI_pos' (by omega)) (br_t rfl ?_)
  refine xr_rebuild ok hp (fun bu1 sp1 wy1 hb1 => ?_)
  refine xa_takeBuiltAsA hTp.1 (fun ta1 ht1 => ?_)
  refine xt_diff hTp.1 hTs.1 hs (fun i hi => by rw [hb i hi]; exact hTs.2 i hi) (fun re1 tr1 bk1 sc1 m hm hsc hap => ?_)
  refine And.intro (pk_in s 12 hs) ?_
  rw [nI_clamp (by omega), hnu]
  refine K _ _ _ _ _ _ _ _ _ _ _ _ _ (fun r => if r = s then rk p + 1 else rk r) (rs_diff ok h1 h2 hs hTs hp (fun r hr hrs => if_neg hrs) ?_ (fun r hr hrs e => absurd (rs_lt ok hr (by omega) e).1 hPs) hm hsc (fun i hi => by rw [ht1 i hi, hb1 i hi]) hb hap)
  show (if p = s then rk p + 1 else rk p) < (if s = s then rk p + 1 else rk s)
  rw [if_neg hne, if_pos rfl]
  omega
theorem zc_on {post : Int32 → SX → Prop} {x : Int32} {p : Nat} (ok : rs_OK P st en sc L T rk) (hs : s < 12) (hPs : ¬ P s) (hp : P p) (hTs : rs_Tx L T s) (hwk : ∀ i, i < L s → wk i = T s i) (hb : ∀ i, i < L s → tb i = T s i) (hP's : P' s) (h1 : ∀ r, P' r → P r ∨ r = s) (h2 : ∀ r, P r → P' r) (hnu : nu s = x)
    (K : ∀ (bl la lb : Int32) (st en sc bu sp wy ta tb re tr bk : Nat → Int32) (rk : Nat → Nat), rs_OK P' st en sc L T rk → post x (nI (L s), gv, pr, bl, la, lb, wk, nu, pa, st, en, sc, bu, sp, wy, ta, tb, re, tr, bk)) : wX_commit_117 post (nI p) (nI s) 1 (nI (L s)) gv pr bl la (nI (L s)) wk nu pa st en sc bu sp wy ta tb re tr bk := by
  have hp12 := (ok p hp).1
  have hTp := (ok p hp).2.1
  have hne : p ≠ s := fun e => hPs (by rw [← e]; exact hp)
  have ok1 := rs_full ok hs hTs hb h1 h2
  unfold wX_commit_117
  refine br_t (nI_pos' (by omega)) (br_f (by decide) ?_)
  refine xa_storeFull hTs.1 hs ?_
  refine xr_rebuild ok1 (h2 p hp) (fun bu1 sp1 wy1 hb1 => ?_)
  refine xa_takeBuiltAsB hTp.1 (fun tb1 ht1 => ?_)
  refine xa_takeWorkAsA hTs.1 (fun ta1 ht2 => ?_)
  refine xt_diff hTs.1 hTp.1 hp12 (fun i hi => by rw [ht1 i hi, hb1 i hi]; exact hTp.2 i hi) (fun re1 tr1 bk1 sc1 m hm hsc hap => ?_)
  refine And.intro (pk_in s 12 hs) ?_
  rw [nI_clamp (by omega), hnu]
  refine K _ _ _ _ _ _ _ _ _ _ _ _ _ _ _ (rs_diff ok1 (fun r hr => Or.inl hr) (fun r hr => hr) hp12 hTp hP's (fun r hr hrs => rfl) ?_ (fun r hr hrs e => (rs_lt ok1 hr (by omega) e).2) hm hsc (fun i hi => by rw [ht2 i hi, hwk i hi]) (fun i hi => by rw [ht1 i hi, hb1 i hi]) hap)
  show (if s = s then 0 else rk s + 1) < (if p = s then 0 else rk p + 1)
  rw [if_neg hne, if_pos rfl]
  omega
theorem zc_65 {post : Int32 → SX → Prop} {x1 x2 z : Int32} {g p : Nat} (ok : rs_OK P st en sc L T rk) (hs : s < 12) (hPs : ¬ P s) (hTs : rs_Tx L T s) (hwk : ∀ i, i < L s → wk i = T s i) (hP's : P' s) (h1 : ∀ r, P' r → P r ∨ r = s) (h2 : ∀ r, P r → P' r) (hnu : nu s = nI g) (hx2 : x2 = -1 ∨ ∃ q, P q ∧ x2 = nI q)
    (K : ∀ (bl la lb : Int32) (st en sc bu sp wy ta tb re tr bk : Nat → Int32) (rk : Nat → Nat), rs_OK P' st en sc L T rk → post (nI g) (nI (L s), nI (g + 1), nI (p + 1), bl, la, lb, wk, nu, upd pa s z, st, en, sc, bu, sp, wy, ta, tb, re, tr, bk)) : wX_commit_65 post x1 x2 (nI s) z (nI s) (nI (L s)) (nI g) (nI p) bl la lb wk nu pa st en sc bu sp wy ta tb re tr bk := by
  unfold wX_commit_65
  refine And.intro (pk_in s 12 hs) (nm_r (e' := upd pa s z) (by rw [nI_clamp (by omega)]) (nm_r (nI_1 g) (nm_r (nI_1 p) ?_)))
  refine xa_takeWorkAsB hTs.1 (fun tb1 ht => ?_)
  have hb : ∀ i, i < L s → tb1 i = T s i := fun i hi => by rw [ht i hi, hwk i hi]
  rcases hx2 with rfl | ⟨q, hq, rfl⟩
  · refine br_t (by decide) ?_
    unfold wX_commit_116
    exact zc_full ok hs hTs hb h1 h2 hnu (by decide) (fun st en sc rk ok' => K _ _ _ _ _ _ _ _ _ _ _ _ _ _ rk ok')
  · have hq12 := (ok q hq).1
    have hD := zc_diff (post := post) (wl := nI (L s)) (gv := nI (g + 1)) (pr := nI (p + 1)) (pa := upd pa s z) (tb := tb1) (bl := bl) (la := la) (wk := wk) (nu := nu) (st := st) (en := en) (sc := sc) (bu := bu) (sp := sp) (wy := wy) (ta := ta) (re := re) (tr := tr) (bk := bk) ok hs hPs hq hTs hb h1 h2 hnu (fun bl la lb st en sc bu sp wy ta re tr bk rk ok' => K bl la lb st en sc bu sp wy ta tb1 re tr bk rk ok')
    refine br_f (nI_pos (by omega)) ⟨pk_in q 12 hq12, br_c (fun _ => ?_) (fun _ => xa_other (br_t rfl ?_) (br_f (by decide) ?_))⟩
    · unfold wX_commit_116
      exact hD
    · exact zc_on ok hs hPs hq hTs hwk hb hP's h1 h2 hnu (fun bl la lb st en sc bu sp wy ta tb re tr bk rk ok' => K bl la lb st en sc bu sp wy ta tb re tr bk rk ok')
    · unfold wX_commit_116
      exact hD
theorem zy_62 {post : Int32 → SY → Prop} {z : Int32} {g w : Nat} (hw : w ≤ 10) (hg : g < 40) (K : post (nI g) (nI w, nI (g + 1), ll, rl, tx, he, upd pt g z, upd le g (nI w), wk_bl ts (10 * g) tx w, lf, rt)) : wY_commit_62 post z (nI g) (nI w) (nI g) ll rl tx he pt le ts lf rt := by
  unfold wY_commit_62
  have h := yl_com_l (post := post) (pt := upd pt g z) (le := upd le g (nI w)) (ll := ll) (rl := rl) (tx := tx) (he := he) (ts := ts) (lf := lf) (rt := rt) hw hg K w 0 (by omega)
  rw [wk_bl_0] at h
  exact And.intro (pk_in g 40 hg) (nm_r (e' := upd pt g z) (by rw [nI_clamp (by omega)]) ⟨pk_in g 40 hg, nm_r (e' := upd le g (nI w)) (by rw [nI_clamp (by omega)]) ⟨w + 1, h⟩⟩)
theorem zy_13 {post : Int32 → SY → Prop} {x z : Int32} {g w p : Nat} (hw : w ≤ 10) (hg : g < 40) (hp : yc_ct (yc_h he) 40 = p) (hp12 : p < 12) (hx : (x = -1 ∧ z = -2) ∨ (¬ x = -1 ∧ z = x)) (K : post (nI g) (nI w, nI (g + 1), ll, rl, tx, upd he g (vp_nar .boolean 1), upd pt g z, upd le g (nI w), wk_bl ts (10 * g) tx w, lf, rt)) : wY_commit_13 post x (nI w) (nI g) ll rl tx he pt le ts lf rt := by
  unfold wY_commit_13
  refine ym_count ?_
  rw [hp]
  refine pk_eq p 12 (fun e => by omega) (fun _ => pk_eq g 40 (fun e => by omega) (fun _ => ⟨pk_in g 40 hg, nm_r (e' := upd he g (vp_nar .boolean 1)) (by rw [nI_clamp (by omega)]) ?_⟩))
  rcases hx with ⟨h1, rfl⟩ | ⟨h1, rfl⟩
  · exact br_t h1 (zy_62 hw hg K)
  · exact br_f h1 (zy_62 hw hg K)
end
section
variable {wl gv pr bl la lb : Int32} {wk nu pa st en sc bu sp wy ta tb re tr bk : Nat → Int32} {ln nx ll rl : Int32} {tx he pt le ts lf rt : Nat → Int32}
theorem zc_main {k : Nat} {x x2 z : Int32} (R : rl_R wl gv pr wk nu pa st en sc ln nx tx he pt le ts) (hx : (x = -1 ∧ x2 = -1 ∧ z = -2) ∨ (∃ n q, x = nI n ∧ n < 40 ∧ x2 = nI q ∧ z = nI n ∧ rl_P nu q ∧ ¬ he n = 0)) :
    wX_commit_15 (fun r u' => wpY_commit (fun r' v' => r' = r ∧ i_Rel (k + 3) u' v') (ln, nx, ll, rl, tx, he, pt, le, ts, lf, rt) x) x x2 wl gv pr bl la lb wk nu pa st en sc bu sp wy ta tb re tr bk := by
  have R0 := R
  obtain ⟨w, g, p, L, T, rk, ⟨rfl, rfl, hw, hb, rfl⟩, ⟨rfl, rfl, hg, rfl, hc1, hc2⟩, hC, hO⟩ := R
  have hY : ∀ post : Int32 → SY → Prop, wY_commit_13 post x (nI w) (nI g) ll rl tx he pt le ts lf rt → wpY_commit post (nI w, nI g, ll, rl, tx, he, pt, le, ts, lf, rt) x := fun post h => by
    unfold wpY_commit
    rcases hx with ⟨e, -⟩ | ⟨n, q, e, hn, -, -, -, hh⟩
    · exact br_t e h
    · subst e
      exact br_f (wk_neg n (by omega)) (ym_yes hn hh (br_t rfl h))
  have h12 := yc_le (yc_n nu) 12
  unfold wX_commit_15
  by_cases c1 : 12 ≤ p
  · refine br_t (nI_le (a := 12) c1 (by omega)) (hY _ ?_)
    unfold wY_commit_13
    refine ym_count ?_
    have ep : p = 12 := by omega
    rw [hc1, ep]
    rw [ep] at R0
    exact br_t rfl ⟨rfl, R0⟩
  · refine br_f (nI_ge (b := 12) (by omega) (by decide)) ?_
    by_cases c2 : g < 40
    · refine br_t (nI_lt (b := 40) c2 (by decide)) ?_
      have hfree : ∃ s, s < 12 ∧ nu s < 0 := by
        obtain ⟨s, hs, h⟩ := yc_free (f := yc_n nu) 12 (by omega)
        refine ⟨s, hs, ?_⟩
        rcases Classical.em (nu s < 0) with z | z
        · exact z
        · exact absurd (yc_n_i.mpr z) h
      refine xa_free hfree (fun s hs hneg => ?_)
      have hns := rl_free hC hg hs hneg
      have hPs : ¬ rl_P nu s := fun h => h.2 hneg
      have hb1 : ¬ vp_nar .boolean 1 = 0 := by decide
      have hz : z = -2 ∨ ∃ q, q < g ∧ z = nI q ∧ ¬ he q = 0 := by
        rcases hx with ⟨-, -, h⟩ | ⟨n, q, -, hn, -, h, -, hh⟩
        · exact Or.inl h
        · obtain ⟨⟨t, -, hat⟩, -⟩ := hC.2.1 n hn hh
          exact Or.inr ⟨n, hat.1, h, hh⟩
      obtain ⟨L', T', eL, eT, hL'⟩ : ∃ (L' : Nat → Nat) (T' : Nat → Nat → Int32), L' s = w ∧ T' s = tx ∧ ∀ r, r ≠ s → L' r = L r ∧ T' r = T r := ⟨fun r => if r = s then w else L r, fun r => if r = s then tx else T r, if_pos rfl, if_pos rfl, fun r hr => ⟨if_neg hr, if_neg hr⟩⟩
      have ok' : rs_OK (rl_P nu) st en sc L' T' rk := rs_LT hO (fun r hr => hL' r (fun e => hPs (by rw [← e]; exact hr)))
      have hTs : rs_Tx L' T' s := by
        unfold rs_Tx
        rw [eL, eT]
        exact ⟨hw, hb⟩
      obtain ⟨n1, n2⟩ := rl_cnt hC c2 hs hns hb1 hc1 hc2
      have hC' := rl_new (tx := tx) (w := w) (z := z) hC c2 hs hns (fun r hr => (hO r hr).2.1.1) hz hb1 eL (fun i hi => by rw [eT]) hL'
      have hP1 : ∀ r, rl_P (upd nu s (nI g)) r → rl_P nu r ∨ r = s := fun r hr => by
        by_cases e : r = s
        · exact Or.inr e
        · refine Or.inl ⟨hr.1, ?_⟩
          have h := hr.2
          rw [pk_un e] at h
          exact h
      have hP2 : ∀ r, rl_P nu r → rl_P (upd nu s (nI g)) r := fun r hr => by
        have e : r ≠ s := fun e => hPs (by rw [← e]; exact hr)
        refine ⟨hr.1, ?_⟩
        rw [pk_un e]
        exact hr.2
      have hP3 : rl_P (upd nu s (nI g)) s := ⟨hs, by rw [pk_us]; exact nI_pos (by omega)⟩
      have main : ∀ x1 : Int32, wX_commit_65 (fun r u' => wpY_commit (fun r' v' => r' = r ∧ i_Rel (k + 3) u' v') (nI w, nI g, ll, rl, tx, he, pt, le, ts, lf, rt) x) x1 x2 (nI s) z (nI s) (nI w) (nI g) (nI p) bl la lb tx (upd nu s (nI g)) pa st en sc bu sp wy ta tb re tr bk := fun x1 => by
        have h := zc_65 (post := fun r u' => wpY_commit (fun r' v' => r' = r ∧ i_Rel (k + 3) u' v') (nI w, nI g, ll, rl, tx, he, pt, le, ts, lf, rt) x) (x1 := x1) (x2 := x2) (z := z) (g := g) (p := p) (wk := tx) (nu := upd nu s (nI g)) (P' := rl_P (upd nu s (nI g))) (bl := bl) (la := la) (lb := lb) (pa := pa) (st := st) (en := en) (sc := sc) (bu := bu) (sp := sp) (wy := wy) (ta := ta) (tb := tb) (re := re) (tr := tr) (bk := bk) ok' hs hPs hTs (fun i hi => by rw [eT]) hP3 hP1 hP2 pk_us ?_ ?_
        · rw [eL] at h
          exact h
        · rcases hx with ⟨-, h, -⟩ | ⟨n, q, -, -, h, -, hq, -⟩
          · exact Or.inl h
          · exact Or.inr ⟨q, hq, h⟩
        · intro bl la lb st en sc bu sp wy ta tb re tr bk rk1 ok1
          refine hY _ (zy_13 hw c2 hc1 (by omega) (z := z) ?_ ⟨rfl, ?_⟩)
          · rcases hx with ⟨h1, -, h2⟩ | ⟨n, q, h1, hn, -, h2, -⟩
            · exact Or.inl ⟨h1, h2⟩
            · exact Or.inr ⟨by rw [h1]; exact wk_neg n (by omega), by rw [h1]; exact h2⟩
          · rw [eL]
            exact (⟨w, g + 1, p + 1, _, _, rk1, ⟨rfl, rfl, hw, hb, rfl⟩, ⟨rfl, rfl, by omega, rfl, n1, n2⟩, hC', ok1⟩ : rl_R (nI w) (nI (g + 1)) (nI (p + 1)) tx (upd nu s (nI g)) (upd pa s z) st en sc (nI w) (nI (g + 1)) tx (upd he g (vp_nar .boolean 1)) (upd pt g z) (upd le g (nI w)) (wk_bl ts (10 * g) tx w))
      refine And.intro (pk_in s 12 hs) (nm_r (e' := upd nu s (nI g)) (by rw [nI_clamp (by omega)]) ?_)
      rcases hx with ⟨h1, h2, h3⟩ | ⟨n, q, h1, hn, h2, h3, hq, -⟩
      · refine br_f (by rw [h2]; decide) ?_
        have m := main x
        rw [h3] at m
        exact m
      · refine br_t (by rw [h2]; exact nI_pos' (by have := hq.1; omega)) ?_
        have m := main x
        rw [h3, ← h1] at m
        exact m
    · have eg : g = 40 := by omega
      refine br_f (nI_nlt (b := 40) (by omega) (by omega)) (hY _ ?_)
      unfold wY_commit_13
      refine ym_count ?_
      rw [hc1, eg]
      rw [eg] at R0
      exact pk_eq p 12 (fun e => by omega) (fun _ => br_t rfl ⟨rfl, R0⟩)
theorem zm_commit {k : Nat} (R : rl_R wl gv pr wk nu pa st en sc ln nx tx he pt le ts) (v1 : Int32) : wpX_commit (fun r u' => wpY_commit (fun r' v' => r' = r ∧ i_Rel (k + 3) u' v') (ln, nx, ll, rl, tx, he, pt, le, ts, lf, rt) v1) (wl, gv, pr, bl, la, lb, wk, nu, pa, st, en, sc, bu, sp, wy, ta, tb, re, tr, bk) v1 := by
  have R0 := R
  obtain ⟨w, g, p, L, T, rk, hW, hN, hC, hO⟩ := R
  have hg := hN.2.2.1
  unfold wpX_commit
  rcases rl_look hC hg v1 with ⟨n, s, rfl, hn, hs, hat, inj⟩ | ⟨hx, hy⟩
  · refine xa_slot (by omega) hs hat.2.1 inj (br_f (wk_neg n (by omega)) (br_f (nI_pos (by omega)) ?_))
    exact zc_main R0 (Or.inr ⟨n, s, rfl, hn, rfl, rfl, rl_at_P hg hs hat, hat.2.2.1⟩)
  · refine xa_slotNo hx ?_
    by_cases e : v1 = -1
    · exact br_t e (zc_main R0 (Or.inl ⟨e, rfl, rfl⟩))
    · refine br_f e (br_t (by decide) ?_)
      show wpY_commit _ _ _
      unfold wpY_commit
      exact br_f e (ym_no hy (br_f (by decide) ⟨rfl, R0⟩))
end
end
section
/-- pa' is pa with y for x at the places below i that H allows -/
def zr_Q (H : Nat → Prop) (pa : Nat → Int32) (x y : Int32) (i : Nat) (pa' : Nat → Int32) : Prop := ∀ j, (j < i → H j → pa j = x → pa' j = y) ∧ (¬ (j < i ∧ H j ∧ pa j = x) → pa' j = pa j)
theorem zr_Q0 {H : Nat → Prop} {pa : Nat → Int32} {x y : Int32} : zr_Q H pa x y 0 pa := fun j => ⟨fun h => absurd h (Nat.not_lt_zero _), fun _ => rfl⟩
theorem zr_Qn {H : Nat → Prop} {pa pa' : Nat → Int32} {x y : Int32} {i : Nat} (h : zr_Q H pa x y i pa') (hn : ¬ (H i ∧ pa i = x)) : zr_Q H pa x y (i + 1) pa' := by
  intro j
  refine ⟨fun h1 h2 h3 => ?_, fun h1 => ?_⟩
  · by_cases e : j = i
    · subst e
      exact absurd ⟨h2, h3⟩ hn
    · exact (h j).1 (by omega) h2 h3
  · exact (h j).2 (fun z => h1 ⟨by omega, z.2⟩)
theorem zr_Qs {H : Nat → Prop} {pa pa' : Nat → Int32} {x y : Int32} {i : Nat} (h : zr_Q H pa x y i pa') (h1 : H i) (h2 : pa i = x) : zr_Q H pa x y (i + 1) (upd pa' i y) := by
  intro j
  by_cases e : j = i
  · subst e
    exact ⟨fun _ _ _ => pk_us, fun z => absurd ⟨by omega, h1, h2⟩ z⟩
  · rw [pk_un e]
    exact ⟨fun a b c => (h j).1 (by omega) b c, fun a => (h j).2 (fun z => a ⟨by omega, z.2⟩)⟩
section
variable {g n s p : Nat} {nu pa pa' he pt pt' le ts : Nat → Int32} {L : Nat → Nat} {T : Nat → Nat → Int32} {b : Int32}
theorem rl_gone (C : rl_C g nu pa he pt le ts L T) (hg : g ≤ 40) (hs : s < 12) (hat : rl_At g nu pa he pt le ts L T n s) (hb : b = 0) (hX : zr_Q (fun j => ¬ nu j < 0) pa (nI n) (pa s) 12 pa') (hY : zr_Q (fun j => ¬ upd he n b j = 0) pt (nI n) (pt n) 40 pt') :
    rl_C g (upd nu s (-1)) pa' (upd he n b) pt' le ts L T := by
  have hng := hat.1
  have keep : ∀ r n', r < 12 → r ≠ s → rl_At g nu pa he pt le ts L T n' r → n' ≠ n ∧ rl_At g (upd nu s (-1)) pa' (upd he n b) pt' le ts L T n' r := fun r n' hr hne h => by
    obtain ⟨h1, h2, h3, h4, h5, h6⟩ := h
    have hn' : n' ≠ n := fun e => hne (C.2.2 r s n hr hs (by omega) (by rw [← e]; exact h2) hat.2.1)
    have hh : ¬ upd he n b n' = 0 := by rw [pk_un hn']; exact h3
    refine ⟨hn', h1, by rw [pk_un hne]; exact h2, hh, ?_, h5, h6⟩
    have hnu : ¬ nu r < 0 := by rw [h2]; exact nI_pos (by omega)
    by_cases e : pa r = nI n
    · rw [(hX r).1 hr hnu e, (hY n').1 (by omega) hh (by rw [← h4]; exact e)]
      exact hat.2.2.2.1
    · rw [(hX r).2 (fun z => e z.2.2), (hY n').2 (fun z => e (by rw [h4]; exact z.2.2))]
      exact h4
  refine ⟨fun r hr => ?_, fun n' hn' hh => ?_, fun a c m ha hc hm ea ec => ?_⟩
  · by_cases e : r = s
    · rw [e]; exact Or.inl pk_us
    · rcases C.1 r hr with h | ⟨n', h⟩
      · exact Or.inl (by rw [pk_un e]; exact h)
      · exact Or.inr ⟨n', (keep r n' hr e h).2⟩
  · have hne : n' ≠ n := fun e => hh (by rw [e, pk_us]; exact hb)
    have hh' : ¬ he n' = 0 := by
      rw [pk_un hne] at hh
      exact hh
    obtain ⟨⟨t, ht, hat'⟩, hp⟩ := C.2.1 n' hn' hh'
    have hts : t ≠ s := fun e => by
      have a := hat'.2.1
      have c := hat.2.1
      rw [e, c, nI_eq (by omega) (by omega)] at a
      exact hne a.symm
    refine ⟨⟨t, ht, (keep t n' ht hts hat').2⟩, ?_⟩
    by_cases e : pt n' = nI n
    · rw [(hY n').1 hn' hh e]
      have lt : n < n' := by
        rcases hp with h | ⟨q, h1, h2, -⟩
        · rw [e] at h
          exact absurd h (wk_neg2 n (by omega))
        · rw [e, nI_eq (by omega) (by omega)] at h2
          omega
      rcases (C.2.1 n (by omega) hat.2.2.1).2 with h | ⟨q, h1, h2, h3⟩
      · exact Or.inl h
      · exact Or.inr ⟨q, by omega, h2, by rw [pk_un (by omega)]; exact h3⟩
    · rw [(hY n').2 (fun z => e z.2.2)]
      rcases hp with h | ⟨q, h1, h2, h3⟩
      · exact Or.inl h
      · have hq : q ≠ n := fun z => e (by rw [← z]; exact h2)
        exact Or.inr ⟨q, h1, h2, by rw [pk_un hq]; exact h3⟩
  · have off : ∀ r, upd nu s (-1) r = nI m → r ≠ s ∧ nu r = nI m := fun r er => by
      have e : r ≠ s := fun e => by
        rw [e, pk_us] at er
        exact wk_neg m (by omega) er.symm
      refine ⟨e, ?_⟩
      rw [pk_un e] at er
      exact er
    exact C.2.2 a c m ha hc hm (off a ea).2 (off c ec).2
theorem rl_cnt0 (hn : n < 40) (hs : s < 12) (hh : ¬ he n = 0) (hnu : ¬ nu s < 0) (hb : b = 0) (h1 : yc_ct (yc_h he) 40 = p) (h2 : yc_ct (yc_n nu) 12 = p) :
    ∃ p', p = p' + 1 ∧ yc_ct (yc_h (upd he n b)) 40 = p' ∧ yc_ct (yc_n (upd nu s (-1))) 12 = p' := by
  have a := yc_set (f := yc_h (upd he n b)) (f' := yc_h he) (k := n) (fun z => yc_h_i.mp z (by rw [pk_us]; exact hb)) (yc_h_i.mpr hh) 40 hn (fun i hi => by
    unfold yc_h
    rw [pk_un hi])
  have c := yc_set (f := yc_n (upd nu s (-1))) (f' := yc_n nu) (k := s) (fun z => yc_n_i.mp z (by rw [pk_us]; decide)) (yc_n_i.mpr hnu) 12 hs (fun i hi => by
    unfold yc_n
    rw [pk_un hi])
  exact ⟨yc_ct (yc_h (upd he n b)) 40, by omega, rfl, by omega⟩
end
section
variable {wl gv pr bl la lb : Int32} {wk nu pa st en sc bu sp wy ta tb re tr bk : Nat → Int32} {ln nx ll rl : Int32} {tx he pt le ts lf rt : Nat → Int32}
variable {P : Nat → Prop} {L : Nat → Nat} {T : Nat → Nat → Int32} {rk : Nat → Nat}
theorem zr_move {post : SX → Prop} {r h : Nat} (ok : rs_OK P st en sc L T rk) (hr : P r) (hh : P h) (hlt : rk h < rk r)
    (K : ∀ (bl la lb : Int32) (st' en sc bu sp wy ta tb re tr bk : Nat → Int32), rs_OK P st' en sc L T rk → (∀ j, j ≠ r → st' j = st j) → st' r = nI h → post (wl, gv, pr, bl, la, lb, wk, nu, pa, st', en, sc, bu, sp, wy, ta, tb, re, tr, bk)) : wpX_moveStart post (wl, gv, pr, bl, la, lb, wk, nu, pa, st, en, sc, bu, sp, wy, ta, tb, re, tr, bk) (nI r) (nI h) := by
  obtain ⟨hr12, hTr, -⟩ := ok r hr
  obtain ⟨hh12, hTh, -⟩ := ok h hh
  unfold wpX_moveStart
  refine xr_rebuild ok hr (fun bu1 sp1 wy1 hb1 => ?_)
  refine xa_takeBuiltAsB hTr.1 (fun tb1 ht1 => ?_)
  refine xr_rebuild ok hh (fun bu2 sp2 wy2 hb2 => ?_)
  refine xa_takeBuiltAsA hTh.1 (fun ta1 ht2 => ?_)
  refine xt_diff hTh.1 hTr.1 hr12 (fun i hi => by rw [ht1 i hi, hb1 i hi]; exact hTr.2 i hi) (fun re1 tr1 bk1 sc1 m hm hsc hap => ?_)
  exact K _ _ _ _ _ _ _ _ _ _ _ _ _ _ (rs_diff ok (fun _ h => Or.inl h) (fun _ h => h) hr12 hTr hh (fun _ _ _ => rfl) hlt (fun j hj _ e => (rs_lt ok hj (by omega) e).2) hm hsc (fun i hi => by rw [ht2 i hi, hb2 i hi]) (fun i hi => by rw [ht1 i hi, hb1 i hi]) hap) (fun j hj => pk_un hj) pk_us
theorem zr_50 {post : Int32 → SX → Prop} {x1 h : Int32} {s : Nat} (hs : s < 12)
    (K : ∀ (bl la lb : Int32) (st en sc bu sp wy ta tb re tr bk : Nat → Int32), rs_OK (rl_P nu) st en sc L T rk → (∀ r, rl_P nu r → st r ≠ nI s) → ∃ f, wX_remove_100 post x1 (nI s) wl gv pr bl la lb f 0 wk nu pa st en sc bu sp wy ta tb re tr bk) :
    ∀ d i (bl la lb : Int32) (st en sc bu sp wy ta tb re tr bk : Nat → Int32), i + d = 12 → rs_OK (rl_P nu) st en sc L T rk → (∀ r, rl_P nu r → r < i → st r ≠ nI s) →
      (∀ r, rl_P nu r → st r = nI s → nI r ≠ h → ∃ q, h = nI q ∧ rl_P nu q ∧ q ≠ s ∧ rk q < rk r) → (∀ r, rl_P nu r → nI r = h → st r ≠ nI s) → wX_remove_50 post x1 (nI s) h (d + 1) (nI i) wl gv pr bl la lb wk nu pa st en sc bu sp wy ta tb re tr bk := by
  intro d
  induction d with
  | zero =>
    intro i bl la lb st en sc bu sp wy ta tb re tr bk hi ok hlo hA hB
    exact pk_le 12 i (fun _ => K bl la lb st en sc bu sp wy ta tb re tr bk ok (fun r hr => hlo r hr (by have := hr.1; omega))) (fun z => by omega)
  | succ d ih =>
    intro i bl la lb st en sc bu sp wy ta tb re tr bk hi ok hlo hA hB
    have next : (rl_P nu i → st i ≠ nI s) → wX_remove_50 post x1 (nI s) h (d + 1) (nI (i + 1)) wl gv pr bl la lb wk nu pa st en sc bu sp wy ta tb re tr bk := fun hno => by
      refine ih (i + 1) bl la lb st en sc bu sp wy ta tb re tr bk (by omega) ok (fun r hr hlt => ?_) hA hB
      rcases Nat.lt_or_ge r i with w | w
      · exact hlo r hr w
      · have e : r = i := by omega
        subst e
        exact hno hr
    refine pk_le 12 i (fun z => by omega) (fun _ => ⟨pk_in i 12 (by omega), ?_⟩)
    rw [nI_clamp (by omega)]
    by_cases c1 : nu i < 0
    · exact br_t c1 (nm_r (nI_1 i) (next (fun hp => absurd c1 hp.2)))
    · have hP : rl_P nu i := ⟨by omega, c1⟩
      refine br_f c1 ?_
      by_cases c2 : nI i = h
      · exact br_t c2 (nm_r (nI_1 i) (next (fun hp => hB i hp c2)))
      · refine br_f c2 ⟨pk_in i 12 (by omega), ?_⟩
        by_cases c3 : st i = nI s
        · obtain ⟨q, rfl, hq, hqs, hlt⟩ := hA i hP c3 c2
          have hq12 := hq.1
          have hqn : ¬ nI q = nI s := by rw [nI_eq (by omega) (by omega)]; exact hqs
          refine br_t c3 (zr_move ok hP hq hlt (fun bl la lb st' en sc bu sp wy ta tb re tr bk ok' ho hn => ?_))
          refine nm_r (nI_1 i) (ih (i + 1) bl la lb st' en sc bu sp wy ta tb re tr bk (by omega) ok' (fun r hr hlt => ?_) (fun r hr e hne => ?_) (fun r hr e => ?_))
          · by_cases e : r = i
            · rw [e, hn]; exact hqn
            · rw [ho r e]; exact hlo r hr (by omega)
          · by_cases e2 : r = i
            · rw [e2, hn] at e
              exact absurd e hqn
            · rw [ho r e2] at e
              exact hA r hr e hne
          · by_cases e2 : r = i
            · rw [e2, hn]; exact hqn
            · rw [ho r e2]; exact hB r hr e
        · exact br_f c3 (nm_r (nI_1 i) (next (fun _ => c3)))
theorem zr_100 {post : Int32 → SX → Prop} {x : Int32} {s p : Nat} (hs : s < 12) (hps : ¬ pa s = x) (K : ∀ pa' : Nat → Int32, zr_Q (fun j => ¬ nu j < 0) pa x (pa s) 12 pa' → post (nI p) (wl, gv, nI p, bl, la, lb, wk, upd nu s (-1), pa', st, en, sc, bu, sp, wy, ta, tb, re, tr, bk)) :
    ∀ d i (pa' : Nat → Int32), i + d = 12 → zr_Q (fun j => ¬ nu j < 0) pa x (pa s) i pa' → wX_remove_100 post x (nI s) wl gv (nI (p + 1)) bl la lb (d + 1) (nI i) wk nu pa' st en sc bu sp wy ta tb re tr bk := by
  intro d
  induction d with
  | zero =>
    intro i pa' hi hQ
    have e : i = 12 := by omega
    subst e
    exact pk_le 12 12 (fun _ => ⟨pk_in s 12 hs, nm_r (e' := upd nu s (-1)) (by rw [nI_clamp (by omega)]) (nm_r (nI_pred p) (K pa' hQ))⟩) (fun z => by omega)
  | succ d ih =>
    intro i pa' hi hQ
    have I := pk_in (x := nI i) i 12 (by omega)
    have ei : pa' i = pa i := (hQ i).2 (fun z => by omega)
    have es : pa' s = pa s := (hQ s).2 (fun z => hps z.2.2)
    refine pk_le 12 i (fun z => by omega) (fun _ => ⟨I, ?_⟩)
    rw [nI_clamp (by omega), nI_clamp (by omega), ei, es]
    by_cases c1 : nu i < 0
    · exact br_t c1 (nm_r (nI_1 i) (ih (i + 1) pa' (by omega) (zr_Qn hQ (fun z => z.1 c1))))
    · refine br_f c1 ⟨I, ?_⟩
      by_cases c2 : pa i = x
      · exact br_t c2 ⟨pk_in s 12 hs, I, nm_r (e' := upd pa' i (pa s)) rfl (nm_r (nI_1 i) (ih (i + 1) _ (by omega) (zr_Qs hQ c1 c2)))⟩
      · exact br_f c2 (nm_r (nI_1 i) (ih (i + 1) pa' (by omega) (zr_Qn hQ (fun z => c2 z.2))))
theorem zr_19 {post : Int32 → SY → Prop} {n : Nat} (hn : n < 40) (hps : ¬ pt n = nI n) (K : ∀ pt' : Nat → Int32, zr_Q (fun j => ¬ he j = 0) pt (nI n) (pt n) 40 pt' → post (nI (yc_ct (yc_h he) 40)) (ln, nx, ll, rl, tx, he, pt', le, ts, lf, rt)) :
    ∀ d i (pt' : Nat → Int32), i + d = 40 → zr_Q (fun j => ¬ he j = 0) pt (nI n) (pt n) i pt' → wY_remove_19 post (nI n) ln nx ll rl (d + 1) (nI i) tx he pt' le ts lf rt := by
  intro d
  induction d with
  | zero =>
    intro i pt' hi hQ
    have e : i = 40 := by omega
    subst e
    exact pk_le 40 40 (fun _ => ym_count (K pt' hQ)) (fun z => by omega)
  | succ d ih =>
    intro i pt' hi hQ
    have I := pk_in (x := nI i) i 40 (by omega)
    have ei : pt' i = pt i := (hQ i).2 (fun z => by omega)
    have es : pt' n = pt n := (hQ n).2 (fun z => hps z.2.2)
    refine pk_le 40 i (fun z => by omega) (fun _ => ⟨I, ?_⟩)
    rw [nI_clamp (by omega), nI_clamp (by omega), ei, es]
    by_cases c1 : he i = 0
    · exact br_t c1 (nm_r (nI_1 i) (ih (i + 1) pt' (by omega) (zr_Qn hQ (fun z => z.1 c1))))
    · refine br_f c1 ⟨I, ?_⟩
      by_cases c2 : pt i = nI n
      · exact br_t c2 ⟨pk_in n 40 hn, I, nm_r (e' := upd pt' i (pt n)) rfl (nm_r (nI_1 i) (ih (i + 1) _ (by omega) (zr_Qs hQ c1 c2)))⟩
      · exact br_f c2 (nm_r (nI_1 i) (ih (i + 1) pt' (by omega) (zr_Qn hQ (fun z => c2 z.2))))
theorem zm_remove {k : Nat} (R : rl_R wl gv pr wk nu pa st en sc ln nx tx he pt le ts) (v1 : Int32) : wpX_remove (fun r u' => wpY_remove (fun r' v' => r' = r ∧ i_Rel (k + 3) u' v') (ln, nx, ll, rl, tx, he, pt, le, ts, lf, rt) v1) (wl, gv, pr, bl, la, lb, wk, nu, pa, st, en, sc, bu, sp, wy, ta, tb, re, tr, bk) v1 := by
  have R0 := R
  obtain ⟨w, g, p, L, T, rk, hW, ⟨rfl, rfl, hg, rfl, hc1, hc2⟩, hC, hO⟩ := R
  unfold wpX_remove
  rcases rl_look hC hg v1 with ⟨n, s, rfl, hn, hs, hat, inj⟩ | ⟨hx, hy⟩
  · have hP := rl_at_P hg hs hat
    have hb0 : vp_nar .boolean 0 = 0 := by decide
    obtain ⟨p', rfl, n1, n2⟩ := rl_cnt0 hn hs hat.2.2.1 hP.2 hb0 hc1 hc2
    have hpn : ¬ pt n = nI n := by
      rcases (hC.2.1 n hn hat.2.2.1).2 with h | ⟨q, h1, h2, -⟩
      · rw [h]
        exact fun z => wk_neg2 n (by omega) z.symm
      · rw [h2, nI_eq (by omega) (by omega)]
        omega
    have hps : ¬ pa s = nI n := by rw [hat.2.2.2.1]; exact hpn
    have hP1 : ∀ r, rl_P (upd nu s (-1)) r → rl_P nu r ∧ r ≠ s := fun r hr => by
      have e : r ≠ s := fun e => by
        have a := hr.2
        rw [e, pk_us] at a
        exact a rl_neg
      refine ⟨⟨hr.1, ?_⟩, e⟩
      have a := hr.2
      rw [pk_un e] at a
      exact a
    have hP2 : ∀ r, rl_P nu r → r ≠ s → rl_P (upd nu s (-1)) r := fun r hr e => ⟨hr.1, by rw [pk_un e]; exact hr.2⟩
    have tail : ∀ (rk : Nat → Nat) (bl la lb : Int32) (st en sc bu sp wy ta tb re tr bk : Nat → Int32), rs_OK (rl_P nu) st en sc L T rk → (∀ r, rl_P nu r → st r ≠ nI s) → ∃ f, wX_remove_100 (fun r u' => wpY_remove (fun r' v' => r' = r ∧ i_Rel (k + 3) u' v') (ln, nI g, ll, rl, tx, he, pt, le, ts, lf, rt) (nI n)) (nI n) (nI s) wl (nI g) (nI (p' + 1)) bl la lb f 0 wk nu pa st en sc bu sp wy ta tb re tr bk := fun rk bl la lb st en sc bu sp wy ta tb re tr bk ok hno => by
      refine ⟨13, zr_100 hs hps (fun pa' hQ => ?_) 12 0 pa rfl zr_Q0⟩
      show wpY_remove _ _ _
      unfold wpY_remove
      refine ym_yes hn hat.2.2.1 (br_t rfl ⟨pk_in n 40 hn, nm_r (e' := upd he n (vp_nar .boolean 0)) (by rw [nI_clamp (by omega)]) ⟨41, zr_19 hn hpn (fun pt' hQY => ?_) 40 0 pt rfl zr_Q0⟩⟩)
      rw [n1]
      refine ⟨rfl, ?_⟩
      exact (⟨w, g, p', L, T, rk, hW, ⟨rfl, rfl, hg, rfl, n1, n2⟩, rl_gone hC hg hs hat hb0 hQ hQY, rs_drop ok hP1 hP2 (fun r hr _ => hno r hr)⟩ : rl_R wl (nI g) (nI p') wk (upd nu s (-1)) pa' st en sc ln (nI g) tx (upd he n (vp_nar .boolean 0)) pt' le ts)
    refine xa_slot (by omega) hs hat.2.1 inj (br_t (nI_pos' (by omega)) ⟨pk_in s 12 hs, nm_r (e' := st s) (by rw [nI_clamp (by omega)]) ?_⟩)
    obtain ⟨-, -, m, hm, hen, ⟨a, -⟩ | ⟨t, ht, a, hlt, -⟩⟩ := hO s hP
    · rw [a]
      refine br_f (by decide) ?_
      refine xa_newest (fun hno => ?_) (fun r hr hnr hst => ?_)
      · exact br_t (by decide) ⟨13, zr_50 hs (tail rk) 12 0 bl la lb st en sc bu sp wy ta tb re tr bk rfl hO (fun r _ h => by omega) (fun r hr e => absurd e (hno r hr.1 hr.2)) (fun r hr _ => hno r hr.1 hr.2)⟩
      · have hPr : rl_P nu r := ⟨hr, hnr⟩
        have hTr := (hO r hPr).2.1
        have hrs : r ≠ s := fun e => by
          rw [e, a] at hst
          exact wk_neg s (by omega) hst.symm
        refine br_f (nI_pos (by omega)) ?_
        refine xr_rebuild hO hPr (fun bu1 sp1 wy1 hb1 => ?_)
        refine xa_takeBuiltAsB hTr.1 (fun tb1 ht1 => ?_)
        refine xa_storeFull hTr.1 hr ?_
        have ok1 := rs_full (P' := rl_P nu) (tb := tb1) hO hr hTr (fun i hi => by rw [ht1 i hi, hb1 i hi]) (fun j hj => Or.inl hj) (fun j hj => hj)
        refine ⟨13, zr_50 hs (tail _) 12 0 _ _ _ _ _ _ _ _ _ _ _ _ _ _ rfl ok1 (fun j _ h => by omega) (fun j hj e hne => ⟨r, rfl, hPr, hrs, ?_⟩) (fun j hj e => ?_)⟩
        · have hjr : j ≠ r := fun z => hne (by rw [z])
          show (if r = r then 0 else rk r + 1) < (if j = r then 0 else rk j + 1)
          rw [if_pos rfl, if_neg hjr]
          omega
        · have hj12 := hj.1
          rw [nI_eq (by omega) (by omega)] at e
          rw [e, pk_us]
          exact fun z => wk_neg s (by omega) z.symm
    · have ht12 := ht.1
      have hts : t ≠ s := fun e => by
        rw [e] at hlt
        omega
      rw [a]
      refine br_t (nI_pos' (by omega)) ⟨13, zr_50 hs (tail rk) 12 0 bl la lb st en sc bu sp wy ta tb re tr bk rfl hO (fun r _ h => by omega) (fun r hr e _ => ⟨t, rfl, ht, hts, ?_⟩) (fun r hr e e2 => ?_)⟩
      · have b := (rs_lt hO hr (by omega) e).2
        omega
      · have hr12 := hr.1
        rw [nI_eq (by omega) (by omega)] at e
        subst e
        have b := (rs_lt hO hr (by omega) e2).2
        omega
  · refine xa_slotNo hx (br_f (by decide) ?_)
    show wpY_remove _ _ _
    unfold wpY_remove
    exact ym_no hy (br_f (by decide) ⟨rfl, R0⟩)
end
end
section
theorem i_vc_put {k : Nat} {u : SX} {v : SY} (I : i_Rel k u v) (hk : k + 3 ≤ 1536) (v1 : Int32) (v2 : Int32) : wpX_put (fun r u' => wpY_put (fun r' v' => r' = r ∧ i_Rel (k + 3) u' v') v v1 v2) u v1 v2 := match u, v, I with
  | (wl, gv, pr, bl, la, lb, wk, nu, pa, st, en, sc, bu, sp, wy, ta, tb, re, tr, bk), (ln, nx, ll, rl, tx, he, pt, le, ts, lf, rt), I => zm_put I v1 v2
theorem i_vc_take {k : Nat} {u : SX} {v : SY} (I : i_Rel k u v) (hk : k + 3 ≤ 1536) (v1 : Int32) : wpX_take (fun r u' => wpY_take (fun r' v' => r' = r ∧ i_Rel (k + 3) u' v') v v1) u v1 := match u, v, I with
  | (wl, gv, pr, bl, la, lb, wk, nu, pa, st, en, sc, bu, sp, wy, ta, tb, re, tr, bk), (ln, nx, ll, rl, tx, he, pt, le, ts, lf, rt), I => zm_take I v1
theorem i_vc_lines {k : Nat} {u : SX} {v : SY} (I : i_Rel k u v) (hk : k + 3 ≤ 1536) : wpX_lines (fun r => wpY_lines (fun r' => r' = r ∧ i_Rel (k + 3) u v) v) u := match u, v, I with
  | (wl, gv, pr, bl, la, lb, wk, nu, pa, st, en, sc, bu, sp, wy, ta, tb, re, tr, bk), (ln, nx, ll, rl, tx, he, pt, le, ts, lf, rt), I => zm_lines I
theorem i_vc_line {k : Nat} {u : SX} {v : SY} (I : i_Rel k u v) (hk : k + 3 ≤ 1536) (v1 : Int32) : wpX_line (fun r => wpY_line (fun r' => r' = r ∧ i_Rel (k + 3) u v) v v1) u v1 := match u, v, I with
  | (wl, gv, pr, bl, la, lb, wk, nu, pa, st, en, sc, bu, sp, wy, ta, tb, re, tr, bk), (ln, nx, ll, rl, tx, he, pt, le, ts, lf, rt), I => zm_line I v1
theorem i_vc_commit {k : Nat} {u : SX} {v : SY} (I : i_Rel k u v) (hk : k + 3 ≤ 1536) (v1 : Int32) : wpX_commit (fun r u' => wpY_commit (fun r' v' => r' = r ∧ i_Rel (k + 3) u' v') v v1) u v1 := match u, v, I with
  | (wl, gv, pr, bl, la, lb, wk, nu, pa, st, en, sc, bu, sp, wy, ta, tb, re, tr, bk), (ln, nx, ll, rl, tx, he, pt, le, ts, lf, rt), I => zm_commit I v1
theorem i_vc_checkout {k : Nat} {u : SX} {v : SY} (I : i_Rel k u v) (hk : k + 3 ≤ 1536) (v1 : Int32) : wpX_checkout (fun r u' => wpY_checkout (fun r' v' => r' = r ∧ i_Rel (k + 3) u' v') v v1) u v1 := match u, v, I with
  | (wl, gv, pr, bl, la, lb, wk, nu, pa, st, en, sc, bu, sp, wy, ta, tb, re, tr, bk), (ln, nx, ll, rl, tx, he, pt, le, ts, lf, rt), I => zm_checkout I v1
theorem i_vc_remove {k : Nat} {u : SX} {v : SY} (I : i_Rel k u v) (hk : k + 3 ≤ 1536) (v1 : Int32) : wpX_remove (fun r u' => wpY_remove (fun r' v' => r' = r ∧ i_Rel (k + 3) u' v') v v1) u v1 := match u, v, I with
  | (wl, gv, pr, bl, la, lb, wk, nu, pa, st, en, sc, bu, sp, wy, ta, tb, re, tr, bk), (ln, nx, ll, rl, tx, he, pt, le, ts, lf, rt), I => zm_remove I v1
theorem i_vc_parent {k : Nat} {u : SX} {v : SY} (I : i_Rel k u v) (hk : k + 3 ≤ 1536) (v1 : Int32) : wpX_parent (fun r => wpY_parent (fun r' => r' = r ∧ i_Rel (k + 3) u v) v v1) u v1 := match u, v, I with
  | (wl, gv, pr, bl, la, lb, wk, nu, pa, st, en, sc, bu, sp, wy, ta, tb, re, tr, bk), (ln, nx, ll, rl, tx, he, pt, le, ts, lf, rt), I => zm_parent I v1
theorem i_vc_distance {k : Nat} {u : SX} {v : SY} (I : i_Rel k u v) (hk : k + 3 ≤ 1536) (v1 : Int32) (v2 : Int32) : wpX_distance (fun r u' => wpY_distance (fun r' v' => r' = r ∧ i_Rel (k + 3) u' v') v v1 v2) u v1 v2 := match u, v, I with
  | (wl, gv, pr, bl, la, lb, wk, nu, pa, st, en, sc, bu, sp, wy, ta, tb, re, tr, bk), (ln, nx, ll, rl, tx, he, pt, le, ts, lf, rt), I => zm_distance I v1 v2
theorem i_vc_changed {k : Nat} {u : SX} {v : SY} (I : i_Rel k u v) (hk : k + 3 ≤ 1536) (v1 : Int32) : wpX_changed (fun r u' => wpY_changed (fun r' v' => r' = r ∧ i_Rel (k + 3) u' v') v v1) u v1 := match u, v, I with
  | (wl, gv, pr, bl, la, lb, wk, nu, pa, st, en, sc, bu, sp, wy, ta, tb, re, tr, bk), (ln, nx, ll, rl, tx, he, pt, le, ts, lf, rt), I => zm_changed I v1
theorem i_vc_base {k : Nat} {u : SX} {v : SY} (I : i_Rel k u v) (hk : k + 3 ≤ 1536) (v1 : Int32) (v2 : Int32) : wpX_base (fun r => wpY_base (fun r' => r' = r ∧ i_Rel (k + 3) u v) v v1 v2) u v1 v2 := match u, v, I with
  | (wl, gv, pr, bl, la, lb, wk, nu, pa, st, en, sc, bu, sp, wy, ta, tb, re, tr, bk), (ln, nx, ll, rl, tx, he, pt, le, ts, lf, rt), I => zm_base I v1 v2
theorem i_vc_find {k : Nat} {u : SX} {v : SY} (I : i_Rel k u v) (hk : k + 3 ≤ 1536) : wpX_find (fun r u' => wpY_find (fun r' => r' = r ∧ i_Rel (k + 3) u' v) v) u := match u, v, I with
  | (wl, gv, pr, bl, la, lb, wk, nu, pa, st, en, sc, bu, sp, wy, ta, tb, re, tr, bk), (ln, nx, ll, rl, tx, he, pt, le, ts, lf, rt), I => zm_find I
end
