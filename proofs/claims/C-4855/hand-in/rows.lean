section
/-! rows pasted from kit/rows (starting texts) -/
theorem pk_us {f : Nat → Int32} {k : Nat} {x : Int32} : upd f k x k = x := if_pos rfl
theorem pk_un {f : Nat → Int32} {k j : Nat} {x : Int32} (h : j ≠ k) : upd f k x j = f j := if_neg h
theorem pk_sub {a b : Nat} (h : b ≤ a) : nI a - nI b = nI (a - b) := by
  obtain ⟨c, rfl⟩ : ∃ c, a = c + b := ⟨a - b, by omega⟩
  rw [← nI_add, Int32.add_sub_cancel, Nat.add_sub_cancel]
theorem pk_m1 (n : Nat) : nI (n + 1) + (-1) = nI n := by
  rw [← nI_1, Int32.add_assoc, show (1 : Int32) + (-1) = 0 from rfl, Int32.add_zero]
theorem pk_mul (a b : Nat) : nI a * nI b = nI (a * b) := (Int32.ofNat_mul a b).symm
theorem pk_div {a d : Nat} (ha : a < 2 ^ 31) (h0 : 0 < d) (hd : d < 2 ^ 31) : nI a / nI d = nI (a / d) := by
  apply Int32.toInt_inj.mp
  rw [lg_idiv_nonneg (by rw [nI_toInt ha]; omega) (by rw [nI_toInt hd]; omega), nI_toInt ha, nI_toInt hd, nI_toInt (Nat.lt_of_le_of_lt (Nat.div_le_self a d) ha)]
  first | rfl | exact (Int.natCast_ediv _ _).symm
theorem pk_rem {a d : Nat} (ha : a < 2 ^ 31) (h0 : 0 < d) (hd : d < 2 ^ 31) : nI a - nI a / nI d * nI d = nI (a % d) := by
  rw [pk_div ha h0 hd, pk_mul, pk_sub (Nat.div_mul_le_self a d)]
  exact congrArg nI (by have := Nat.div_add_mod' a d; omega)
theorem pk_sub_toInt {a b : Nat} (ha : a < 2 ^ 30) (hb : b < 2 ^ 30) : (nI a - nI b).toInt = (a : Int) - b := by
  rw [Int32.toInt_sub, nI_toInt (by omega), nI_toInt (by omega)]
  exact Int.bmod_eq_of_le (by omega) (by omega)
theorem pk_sneg {a b : Nat} (hb : b < 2 ^ 30) (h : a < b) : nI a - nI b < 0 := by
  rw [Int32.lt_iff_toInt_lt, pk_sub_toInt (by omega) hb, show (0 : Int32).toInt = 0 from by decide]
  omega
theorem pk_le {x y : Int32} {A B : Prop} (a b : Nat) (f : a ≤ b → A) (g : b < a → B) (hx : x = nI a := by rfl) (hy : y = nI b := by rfl) (ha : a < 2 ^ 31 := by omega) (hb : b < 2 ^ 31 := by omega) : (x ≤ y → A) ∧ (¬ x ≤ y → B) := by
  subst hx hy
  rw [nI_leI ha hb]
  exact ⟨f, fun z => g (by omega)⟩
theorem pk_lt {x y : Int32} {A B : Prop} (a b : Nat) (f : a < b → A) (g : b ≤ a → B) (hx : x = nI a := by rfl) (hy : y = nI b := by rfl) (ha : a < 2 ^ 31 := by omega) (hb : b < 2 ^ 31 := by omega) : (x < y → A) ∧ (¬ x < y → B) := by
  subst hx hy
  rw [nI_ltI ha hb]
  exact ⟨f, fun z => g (by omega)⟩
theorem pk_eq {x y : Int32} {A B : Prop} (a b : Nat) (f : a = b → A) (g : a ≠ b → B) (hx : x = nI a := by rfl) (hy : y = nI b := by rfl) (ha : a < 2 ^ 31 := by omega) (hb : b < 2 ^ 31 := by omega) : (x = y → A) ∧ (¬ x = y → B) := by
  subst hx hy
  rw [nI_eq ha hb]
  exact ⟨f, g⟩
theorem pk_in {x : Int32} (n N : Nat) (h : n < N) (hx : x = nI n := by rfl) (hN : N < 2 ^ 31 := by omega) : vp_in x N := by
  subst hx
  exact vp_in_nI h hN
theorem pk_cl {x : Int32} (n : Nat) (hx : x = nI n := by rfl) (h : n < 2 ^ 31 := by omega) : x.toNatClampNeg = n := by
  subst hx
  exact nI_clamp h
theorem pk_tn {n : Nat} (h : n < 2 ^ 32) : (nI n).toBitVec.toNat = n := Nat.mod_eq_of_lt h
theorem pk_and (x : Int32) {m : Int32} (k : Nat) (hm : m.toBitVec.toNat = 2 ^ k - 1) : x &&& m = nI (x.toBitVec.toNat % 2 ^ k) := by
  apply Int32.toBitVec_inj.mp
  apply BitVec.eq_of_toNat_eq
  rw [Int32.toBitVec_and, BitVec.toNat_and, hm, Nat.and_two_pow_sub_one_eq_mod]
  show _ = (BitVec.ofNat 32 _).toNat
  rw [BitVec.toNat_ofNat]
  exact (Nat.mod_eq_of_lt (Nat.lt_of_le_of_lt (Nat.mod_le _ _) x.toBitVec.isLt)).symm
theorem pk_andN {n : Nat} (h : n < 2 ^ 32) {m : Int32} (k : Nat) (hm : m.toBitVec.toNat = 2 ^ k - 1) : nI n &&& m = nI (n % 2 ^ k) := by
  rw [pk_and _ k hm, pk_tn h]
theorem pk_shr (a s : Int32) (k : Nat) (hs : (s.toBitVec.smod 32).toNat = k) : (a >>> s).toInt = a.toInt >>> k := by
  show (a.toBitVec.sshiftRight (s.toBitVec.smod 32).toNat).toInt = _
  rw [hs, BitVec.toInt_sshiftRight]
  rfl
theorem pk_shrN {n : Nat} (h : n < 2 ^ 31) (s : Int32) (k : Nat) (hs : (s.toBitVec.smod 32).toNat = k) : nI n >>> s = nI (n / 2 ^ k) := by
  apply Int32.toInt_inj.mp
  have h2 : n / 2 ^ k ≤ n := Nat.div_le_self _ _
  rw [pk_shr _ _ k hs, nI_toInt h, nI_toInt (by omega), Int.shiftRight_eq_div_pow]
  rfl
theorem s_l : ∀ n, n < 32 → ((nI n &&& 31).toBitVec.smod 32).toNat = n := by decide +kernel
end
section
/-! numbers modulo 997, and sums -/
abbrev rt_F : Type := Fin 997
theorem rg_a4 (a b c d : rt_F) : (a + b) + (c + d) = (a + c) + (b + d) := by grind
theorem rg_0a (a : rt_F) : 0 + a = a := by grind
theorem rg_a0 (a : rt_F) : a + 0 = a := by grind
theorem rg_m0 (a : rt_F) : a * 0 = 0 := by grind
theorem rg_0m (a : rt_F) : 0 * a = 0 := by grind
theorem rg_m1 (a : rt_F) : a * 1 = a := by grind
theorem rg_1m (a : rt_F) : 1 * a = a := by grind
theorem rg_ma (a b c : rt_F) : a * (b + c) = a * b + a * c := by grind
theorem rg_am (a b c : rt_F) : (b + c) * a = b * a + c * a := by grind
theorem rg_mc (a b : rt_F) : a * b = b * a := by grind
theorem rg_ac (a b : rt_F) : a + b = b + a := by grind
theorem rg_aa (a b c : rt_F) : a + b + c = a + (b + c) := by grind
theorem rg_mm (a b c : rt_F) : a * b * c = a * (b * c) := by grind
theorem rg_ml (a b c : rt_F) : a * (b * c) = b * (a * c) := by grind
theorem rg_ar (a b c : rt_F) : a + b + c = a + c + b := by grind
theorem rg_ss (a : rt_F) : a - a = 0 := by grind
theorem rg_s0 {a b : rt_F} (h : a - b = 0) : a = b := by grind
theorem rg_se {a b c : rt_F} (h : a - b = c) : a = b + c := by grind
theorem rg_es {a b c : rt_F} (h : a = b + c) : a - b = c := by grind
theorem rg_up (a b c d x : rt_F) : a + (d + x) * c + b = a + d * c + b + x * c := by grind
def rt_S : Nat → (Nat → rt_F) → rt_F
  | 0, _ => 0
  | n + 1, f => rt_S n f + f n
theorem rt_S0 (f : Nat → rt_F) : rt_S 0 f = 0 := rfl
theorem rt_Ss (n : Nat) (f : Nat → rt_F) : rt_S (n + 1) f = rt_S n f + f n := rfl
theorem rt_Sc {n : Nat} {f g : Nat → rt_F} (h : ∀ i, i < n → f i = g i) : rt_S n f = rt_S n g := by
  induction n with
  | zero => rfl
  | succ n ih => rw [rt_Ss, rt_Ss, ih (fun i hi => h i (by omega)), h n (by omega)]
theorem rt_Sz {n : Nat} {f : Nat → rt_F} (h : ∀ i, i < n → f i = 0) : rt_S n f = 0 := by
  induction n with
  | zero => rfl
  | succ n ih => rw [rt_Ss, ih (fun i hi => h i (by omega)), h n (by omega), rg_0a]
theorem rt_Sadd (n : Nat) (f g : Nat → rt_F) : rt_S n (fun i => f i + g i) = rt_S n f + rt_S n g := by
  induction n with
  | zero => exact (rg_0a 0).symm
  | succ n ih => rw [rt_Ss, rt_Ss, rt_Ss, ih]; exact rg_a4 _ _ _ _
theorem rt_Smul (n : Nat) (a : rt_F) (f : Nat → rt_F) : rt_S n (fun i => a * f i) = a * rt_S n f := by
  induction n with
  | zero => exact (rg_m0 a).symm
  | succ n ih => rw [rt_Ss, rt_Ss, ih, rg_ma]
theorem rt_Smr (n : Nat) (a : rt_F) (f : Nat → rt_F) : rt_S n (fun i => f i * a) = rt_S n f * a := by
  induction n with
  | zero => exact (rg_0m a).symm
  | succ n ih => rw [rt_Ss, rt_Ss, ih, rg_am]
theorem rt_Sx (n m : Nat) (f : Nat → Nat → rt_F) : rt_S n (fun i => rt_S m (fun j => f i j)) = rt_S m (fun j => rt_S n (fun i => f i j)) := by
  induction n with
  | zero => exact (rt_Sz (fun i _ => rfl)).symm
  | succ n ih =>
    rw [rt_Ss, ih, ← rt_Sadd]
    exact rt_Sc (fun i _ => rfl)
theorem rt_Sf (n : Nat) (f : Nat → rt_F) : rt_S (n + 1) f = f 0 + rt_S n (fun i => f (i + 1)) := by
  induction n with
  | zero => rw [rt_Ss, rt_S0, rt_S0, rg_0a, rg_a0]
  | succ n ih => rw [rt_Ss, ih, rt_Ss, rg_aa]
theorem rt_Srev (n : Nat) (f : Nat → rt_F) : rt_S n f = rt_S n (fun i => f (n - 1 - i)) := by
  induction n with
  | zero => rfl
  | succ n ih =>
    rw [rt_Sf n (fun i => f (n + 1 - 1 - i)), rt_Ss, ih, rg_ac]
    have e : f (n + 1 - 1 - 0) = f n := congrArg f (by omega)
    rw [e]
    exact congrArg (f n + ·) (rt_Sc (fun i hi => congrArg f (by omega)))
theorem rt_Ssplit (a b : Nat) (f : Nat → rt_F) : rt_S (a + b) f = rt_S a f + rt_S b (fun i => f (a + i)) := by
  induction b with
  | zero => rw [Nat.add_zero, rt_S0, rg_a0]
  | succ b ih => rw [← Nat.add_assoc, rt_Ss, ih, rt_Ss, rg_aa]
theorem rt_Sext {n m : Nat} {f : Nat → rt_F} (h : n ≤ m) (hz : ∀ i, n ≤ i → i < m → f i = 0) : rt_S m f = rt_S n f := by
  obtain ⟨d, rfl⟩ : ∃ d, m = n + d := ⟨m - n, by omega⟩
  rw [rt_Ssplit, rt_Sz (fun i hi => hz (n + i) (by omega) (by omega)), rg_a0]
theorem rt_Sone {n p : Nat} {f : Nat → rt_F} (h : p < n) (hz : ∀ i, i < n → i ≠ p → f i = 0) : rt_S n f = f p := by
  rw [rt_Sext (n := p + 1) (by omega) (fun i hi hi' => hz i hi' (by omega)), rt_Ss, rt_Sz (fun i hi => hz i (by omega) (by omega)), rg_0a]
theorem rt_Stwo {n p q : Nat} {f : Nat → rt_F} (hp : p < q) (h : q < n) (hz : ∀ i, i < n → i ≠ p → i ≠ q → f i = 0) : rt_S n f = f p + f q := by
  rw [rt_Sext (n := q + 1) (by omega) (fun i hi hi' => hz i hi' (by omega) (by omega)), rt_Ss, rt_Sone hp (fun i hi hne => hz i (by omega) hne (by omega))]
theorem rt_Supd {n p : Nat} {D E g : Nat → rt_F} {x : rt_F} (h : p < n) (he : E p = D p + x) (hn : ∀ i, i < n → i ≠ p → E i = D i) :
    rt_S n (fun i => E i * g i) = rt_S n (fun i => D i * g i) + x * g p := by
  have e : rt_S n (fun i => E i * g i) = rt_S n (fun i => D i * g i + (if i = p then x * g p else 0)) := rt_Sc (fun i hi => by
    by_cases z : i = p
    · subst z
      rw [if_pos rfl, he, rg_am]
    · rw [if_neg z, hn i hi z, rg_a0])
  rw [e, rt_Sadd]
  congr 1
  rw [rt_Sone h (fun i _ hne => if_neg hne), if_pos rfl]
theorem rt_Sprod (a b : Nat) (hb : 0 < b) (f : Nat → Nat → rt_F) : rt_S (a * b) (fun p => f (p / b) (p % b)) = rt_S a (fun i => rt_S b (fun j => f i j)) := by
  induction a with
  | zero => rw [Nat.zero_mul]; rfl
  | succ a ih =>
    rw [Nat.succ_mul, rt_Ssplit, ih, rt_Ss]
    congr 1
    refine rt_Sc (fun j hj => ?_)
    have e1 : (a * b + j) / b = a := by
      rw [Nat.mul_comm, Nat.mul_add_div hb, Nat.div_eq_of_lt hj, Nat.add_zero]
    have e2 : (a * b + j) % b = j := by
      rw [Nat.mul_comm, Nat.mul_add_mod, Nat.mod_eq_of_lt hj]
    show f ((a * b + j) / b) ((a * b + j) % b) = f a j
    rw [e1, e2]
/-- the inverse, as the component reckons it: x to the power 995 -/
def rt_sq (x : rt_F) : rt_F := x * x
def rt_inv (x : rt_F) : rt_F :=
  let x1 := x * x
  let x2 := x1 * x1
  let x3 := x2 * x2
  let x4 := x3 * x3
  let x5 := x4 * x4
  let x6 := x5 * x5
  let x7 := x6 * x6
  let x8 := x7 * x7
  let x9 := x8 * x8
  1 * x * x1 * x5 * x6 * x7 * x8 * x9
theorem rt_invD : ∀ x : Fin 997, x = 0 ∨ x * rt_inv x = 1 := by decide +kernel
theorem rt_inv1 {x : rt_F} (h : x ≠ 0) : x * rt_inv x = 1 := (rt_invD x).resolve_left h
theorem rt_nz {a b : rt_F} (ha : a ≠ 0) (h : a * b = 0) : b = 0 := by
  have e : b = (a * rt_inv a) * b := by rw [rt_inv1 ha, rg_1m]
  rw [e, rg_mc a, rg_mm, h, rg_m0]
theorem rt_ne {a b : rt_F} (ha : a ≠ 0) (hb : b ≠ 0) : a * b ≠ 0 := fun h => hb (rt_nz ha h)
theorem rt_can {a b c : rt_F} (ha : a ≠ 0) (h : a * b = a * c) : b = c := by
  have e : a * (b - c) = 0 := by
    have : a * (b - c) = a * b - a * c := by grind
    rw [this, h, rg_ss]
  exact rg_s0 (rt_nz ha e)
end
section
/-! rules of sequences: Massey's lemma, the step of the mending, powers of X, dimension -/
/-- the rule c of order L holds on the terms t 0 .. t (N - 1) -/
def rt_Rul (L : Nat) (c t : Nat → rt_F) (N : Nat) : Prop := ∀ n, L ≤ n → n < N → t n = rt_S L (fun i => c i * t (n - 1 - i))
theorem rt_rmono {L N N' : Nat} {c t : Nat → rt_F} (h : rt_Rul L c t N) (hN : N' ≤ N) : rt_Rul L c t N' := fun n h1 h2 => h n h1 (by omega)
theorem rt_massey {L L' n : Nat} {c c' t : Nat → rt_F} (h : rt_Rul L c t n) (h' : rt_Rul L' c' t (n + 1)) (hL : L + L' ≤ n) :
    t n = rt_S L (fun i => c i * t (n - 1 - i)) := by
  have e1 : t n = rt_S L' (fun j => c' j * t (n - 1 - j)) := h' n (by omega) (by omega)
  have e2 : rt_S L' (fun j => c' j * t (n - 1 - j)) = rt_S L' (fun j => rt_S L (fun i => c' j * (c i * t (n - 1 - j - 1 - i)))) := rt_Sc (fun j hj => by
    show c' j * t (n - 1 - j) = _
    rw [h (n - 1 - j) (by omega) (by omega)]
    exact (rt_Smul L (c' j) (fun i => c i * t (n - 1 - j - 1 - i))).symm)
  have e3 := rt_Sx L' L (fun j i => c' j * (c i * t (n - 1 - j - 1 - i)))
  have e4 : rt_S L (fun i => rt_S L' (fun j => c' j * (c i * t (n - 1 - j - 1 - i)))) = rt_S L (fun i => c i * t (n - 1 - i)) := rt_Sc (fun i hi => by
    show rt_S L' (fun j => c' j * (c i * t (n - 1 - j - 1 - i))) = c i * t (n - 1 - i)
    rw [h' (n - 1 - i) (by omega) (by omega), ← rt_Smul]
    refine rt_Sc (fun j hj => ?_)
    have e : n - 1 - j - 1 - i = n - 1 - i - 1 - j := by omega
    rw [e]
    exact rg_ml _ _ _)
  rw [e1, e2, e3, e4]
/-- a rule of small order that holds long enough holds as long as another one does -/
theorem rt_rext {L l N N0 : Nat} {C a t : Nat → rt_F} (h : rt_Rul l a t N0) (hC : rt_Rul L C t N) (hl : l + L ≤ N0) : rt_Rul l a t N := by
  have key : ∀ d, N0 + d ≤ N → rt_Rul l a t (N0 + d) := by
    intro d
    induction d with
    | zero => exact fun _ => h
    | succ d ih =>
      intro hd n h1 h2
      by_cases z : n < N0 + d
      · exact ih (by omega) n h1 z
      · have e : n = N0 + d := by omega
        subst e
        exact rt_massey (ih (by omega)) (rt_rmono hC hd) (by omega)
  by_cases z : N0 ≤ N
  · have := key (N - N0) (by omega)
    rwa [show N0 + (N - N0) = N by omega] at this
  · exact rt_rmono h (by omega)
/-- the state of the mending after n terms -/
def rt_BM (t : Nat → rt_F) (n L oL sh : Nat) (b : rt_F) (C B : Nat → rt_F) : Prop :=
  1 ≤ sh ∧ sh + oL + L = n + 1 ∧ rt_Rul L C t n ∧ (∀ i, L ≤ i → i < 40 → C i = 0) ∧ (∀ L' c', rt_Rul L' c' t n → L ≤ L') ∧
  (L ≠ 0 → b ≠ 0 ∧ rt_Rul oL B t (n - sh) ∧ t (n - sh) = rt_S oL (fun i => B i * t (n - sh - 1 - i)) + b)
theorem rt_bm0 (t : Nat → rt_F) (b : rt_F) : rt_BM t 0 0 0 1 b (fun _ => 0) (fun _ => 0) :=
  ⟨by omega, by omega, fun n _ h => by omega, fun _ _ _ => rfl, fun _ _ _ => by omega, fun h => absurd rfl h⟩
theorem rt_bmN {t : Nat → rt_F} {n L oL sh : Nat} {b : rt_F} {C B : Nat → rt_F} (h : rt_BM t n L oL sh b C B)
    (hg : t n = rt_S L (fun i => C i * t (n - 1 - i))) : rt_BM t (n + 1) L oL (sh + 1) b C B := by
  obtain ⟨h1, h2, h3, h4, h5, h6⟩ := h
  refine ⟨by omega, by omega, fun m hm hm' => ?_, h4, fun L' c' hr => h5 L' c' (rt_rmono hr (by omega)), fun hL => ?_⟩
  · by_cases z : m < n
    · exact h3 m hm z
    · have e : m = n := by omega
      rw [e]; exact hg
  · rw [show n + 1 - (sh + 1) = n - sh by omega]
    exact h6 hL
theorem rt_bmR {t : Nat → rt_F} {n L oL sh N : Nat} {b g f : rt_F} {C B C' : Nat → rt_F} (h : rt_BM t n L oL sh b C B)
    (hg : t n = rt_S L (fun i => C i * t (n - 1 - i)) + g) (hf : f * b = g) (hN : L ≤ N) (hN2 : sh + oL ≤ N) (hN4 : N ≤ 40) (hL : L ≠ 0)
    (hC : ∀ q : Nat → rt_F, rt_S N (fun i => C' i * q i) = rt_S N (fun i => C i * q i) + f * (q (sh - 1) - rt_S oL (fun i => B i * q (sh + i)))) :
    rt_Rul N C' t (n + 1) := by
  obtain ⟨h1, h2, h3, h4, h5, h6⟩ := h
  obtain ⟨hb, h7, h8⟩ := h6 hL
  intro m hm hm'
  rw [hC (fun i => t (m - 1 - i)), rt_Sext (n := L) hN (fun i hi hi' => by rw [h4 i hi (by omega), rg_0m])]
  have e1 : t (m - 1 - (sh - 1)) = t (m - sh) := congrArg t (by omega)
  have e2 : rt_S oL (fun i => B i * t (m - 1 - (sh + i))) = rt_S oL (fun i => B i * t (m - sh - 1 - i)) := rt_Sc (fun i _ => by
    rw [show m - 1 - (sh + i) = m - sh - 1 - i by omega])
  show t m = rt_S L (fun i => C i * t (m - 1 - i)) + f * (t (m - 1 - (sh - 1)) - rt_S oL (fun i => B i * t (m - 1 - (sh + i))))
  rw [e1, e2]
  by_cases z : m < n
  · rw [← h3 m (by omega) z, ← h7 (m - sh) (by omega) (by omega), rg_ss, rg_m0, rg_a0]
  · have e : m = n := by omega
    subst e
    rw [h8, hg]
    have k : ∀ x y : rt_F, x + y - x = y := by intro x y; grind
    rw [k, hf]
theorem rt_bmG {t : Nat → rt_F} {n L oL sh N : Nat} {b g f : rt_F} {C B C' : Nat → rt_F} (h : rt_BM t n L oL sh b C B)
    (hg : t n = rt_S L (fun i => C i * t (n - 1 - i)) + g) (hg0 : g ≠ 0) (hf : f = g * rt_inv b) (h2n : 2 * L ≤ n) (hN : N = n + 1 - L) (hn : n < 40)
    (hz : ∀ i, N ≤ i → i < 40 → C' i = C i)
    (hC : ∀ q : Nat → rt_F, rt_S N (fun i => C' i * q i) = rt_S N (fun i => C i * q i) + f * (q (sh - 1) - rt_S oL (fun i => B i * q (sh + i)))) :
    rt_BM t (n + 1) N L 1 g C' C := by
  have h0 := h
  obtain ⟨h1, h2, h3, h4, h5, h6⟩ := h
  have hne : ¬ t n = rt_S L (fun i => C i * t (n - 1 - i)) := fun z => by
    rw [← z] at hg
    have k : ∀ x y : rt_F, x = x + y → y = 0 := by intro x y; grind
    exact hg0 (k _ _ hg)
  refine ⟨by omega, by omega, ?_, fun i hi hi' => ?_, fun L' c' hr => ?_, fun _ => ⟨hg0, ?_⟩⟩
  · by_cases hL : L = 0
    · intro m hm hm'
      omega
    · refine rt_bmR h0 hg ?_ (by omega) (by omega) (by omega) hL hC
      rw [hf, rg_mm, rg_mc (rt_inv b), rt_inv1 (h6 hL).1, rg_m1]
  · rw [hz i hi hi', h4 i (by omega) hi']
  · by_cases z : L + L' ≤ n
    · exact absurd (rt_massey h3 hr z) hne
    · omega
  · rw [show n + 1 - 1 = n by omega]
    exact ⟨h3, hg⟩
theorem rt_bmK {t : Nat → rt_F} {n L oL sh : Nat} {b g f : rt_F} {C B C' : Nat → rt_F} (h : rt_BM t n L oL sh b C B)
    (hg : t n = rt_S L (fun i => C i * t (n - 1 - i)) + g) (hf : f = g * rt_inv b) (h2n : n < 2 * L) (hn : n < 40)
    (hz : ∀ i, L ≤ i → i < 40 → C' i = C i)
    (hC : ∀ q : Nat → rt_F, rt_S L (fun i => C' i * q i) = rt_S L (fun i => C i * q i) + f * (q (sh - 1) - rt_S oL (fun i => B i * q (sh + i)))) :
    rt_BM t (n + 1) L oL (sh + 1) b C' B := by
  have h0 := h
  obtain ⟨h1, h2, h3, h4, h5, h6⟩ := h
  have hL : L ≠ 0 := by omega
  refine ⟨by omega, by omega, ?_, fun i hi hi' => ?_, fun L' c' hr => h5 L' c' (rt_rmono hr (by omega)), fun _ => ?_⟩
  · refine rt_bmR h0 hg ?_ (by omega) (by omega) (by omega) hL hC
    rw [hf, rg_mm, rg_mc (rt_inv b), rt_inv1 (h6 hL).1, rg_m1]
  · rw [hz i hi hi', h4 i hi hi']
  · rw [show n + 1 - (sh + 1) = n - sh by omega]
    exact h6 hL
/-! X to a power modulo a rule -/
/-- T keeps: the term z on is the sum of M j times the term j on -/
def rt_Keep (z : Nat) (M T : Nat → rt_F) : Prop := ∀ m, T (z + m) = rt_S z (fun j => M j * T (j + m))
def rt_Rep (z : Nat) (P T : Nat → rt_F) (n : Nat) : Prop := ∀ m, T (n + m) = rt_S z (fun i => P i * T (i + m))
def rt_tx (z : Nat) (M P : Nat → rt_F) : Nat → rt_F := fun i => (if i = 0 then 0 else P (i - 1)) + P (z - 1) * M i
theorem rt_rep0 {z : Nat} {P T : Nat → rt_F} (hz : 0 < z) (h0 : P 0 = 1) (h : ∀ i, 0 < i → i < z → P i = 0) : rt_Rep z P T 0 := fun m => by
  rw [rt_Sone (p := 0) hz (fun i hi hne => by rw [h i (by omega) hi, rg_0m]), h0, rg_1m]
theorem rt_repX {z n : Nat} {M P T : Nat → rt_F} (hz : 0 < z) (hK : rt_Keep z M T) (h : rt_Rep z P T n) : rt_Rep z (rt_tx z M P) T (n + 1) := by
  obtain ⟨y, rfl⟩ : ∃ y, z = y + 1 := ⟨z - 1, by omega⟩
  intro m
  have e0 : T (n + 1 + m) = T (n + (m + 1)) := congrArg T (by omega)
  rw [e0, h (m + 1), rt_Ss]
  have e1 : T (y + (m + 1)) = rt_S (y + 1) (fun j => M j * T (j + m)) := by
    rw [show y + (m + 1) = y + 1 + m by omega]; exact hK m
  have e2 : rt_S (y + 1) (fun i => rt_tx (y + 1) M P i * T (i + m)) = rt_S (y + 1) (fun i => (if i = 0 then 0 else P (i - 1)) * T (i + m) + P y * (M i * T (i + m))) := rt_Sc (fun i _ => by
    show ((if i = 0 then 0 else P (i - 1)) + P (y + 1 - 1) * M i) * T (i + m) = _
    rw [Nat.add_sub_cancel, rg_am, rg_mm])
  rw [e1, e2, rt_Sadd, rt_Smul, rt_Sf y (fun i => (if i = 0 then 0 else P (i - 1)) * T (i + m)), if_pos rfl, rg_0m, rg_0a]
  congr 1
  refine rt_Sc (fun i _ => ?_)
  show P i * T (i + (m + 1)) = (if i + 1 = 0 then 0 else P (i + 1 - 1)) * T (i + 1 + m)
  rw [if_neg (by omega), Nat.add_sub_cancel, show i + (m + 1) = i + 1 + m by omega]
theorem rt_repE {z n : Nat} {P P' T : Nat → rt_F} (h : rt_Rep z P T n) (e : ∀ i, i < z → P' i = P i) : rt_Rep z P' T n := fun m => by
  rw [h m]
  exact rt_Sc (fun i hi => by rw [e i hi])
/-- squaring, before the reduction -/
theorem rt_repS {z n : Nat} {P T : Nat → rt_F} (h : rt_Rep z P T n) (m : Nat) :
    T (2 * n + m) = rt_S z (fun i => P i * rt_S z (fun j => P j * T (i + j + m))) := by
  have e0 : T (2 * n + m) = T (n + (n + m)) := congrArg T (by omega)
  rw [e0, h (n + m)]
  refine rt_Sc (fun i _ => ?_)
  show P i * T (i + (n + m)) = _
  have e1 : T (i + (n + m)) = T (n + (i + m)) := congrArg T (by omega)
  rw [e1, h (i + m)]
  congr 1
  exact rt_Sc (fun j _ => by rw [show j + (i + m) = i + j + m by omega])
/-- X to the power n, as coefficients -/
def rt_pw (M : Nat → rt_F) : Nat → Nat → rt_F
  | 0 => fun i => if i = 0 then 1 else 0
  | n + 1 => rt_tx 4 M (rt_pw M n)
theorem rt_pwR {M T : Nat → rt_F} (hK : rt_Keep 4 M T) : ∀ n, rt_Rep 4 (rt_pw M n) T n
  | 0 => rt_rep0 (by omega) (show (if 0 = 0 then (1 : rt_F) else 0) = 1 from if_pos rfl) (fun i hi _ => show (if i = 0 then (1 : rt_F) else 0) = 0 from if_neg (by omega))
  | n + 1 => rt_repX (by omega) hK (rt_pwR hK n)
/-! dimension: d + 1 vectors of d coordinates, one of which is in the span of those before it -/
def rt_Sp (v : Nat → Nat → rt_F) (d n : Nat) (x : Nat → rt_F) : Prop := ∃ c : Nat → rt_F, ∀ p, p < d → x p = rt_S n (fun i => c i * v i p)
theorem rt_spM {v : Nat → Nat → rt_F} {d n i : Nat} (h : i < n) : rt_Sp v d n (v i) :=
  ⟨fun j => if j = i then 1 else 0, fun p _ => by
    show v i p = rt_S n (fun j => (if j = i then 1 else 0) * v j p)
    rw [rt_Sone h (fun j _ hne => by rw [if_neg hne, rg_0m]), if_pos rfl, rg_1m]⟩
theorem rt_spA {v : Nat → Nat → rt_F} {d n : Nat} {x y : Nat → rt_F} (hx : rt_Sp v d n x) (hy : rt_Sp v d n y) (a b : rt_F) : rt_Sp v d n (fun p => a * x p + b * y p) := by
  obtain ⟨c, hc⟩ := hx
  obtain ⟨c', hc'⟩ := hy
  refine ⟨fun i => a * c i + b * c' i, fun p hp => ?_⟩
  show a * x p + b * y p = _
  rw [hc p hp, hc' p hp, ← rt_Smul, ← rt_Smul, ← rt_Sadd]
  exact rt_Sc (fun i _ => by rw [rg_am, rg_mm, rg_mm])
theorem rt_spS {v : Nat → Nat → rt_F} {d n : Nat} (y : Nat → Nat → rt_F) (c : Nat → rt_F) : ∀ j, (∀ i, i < j → rt_Sp v d n (y i)) → rt_Sp v d n (fun p => rt_S j (fun i => c i * y i p))
  | 0, _ => ⟨fun _ => 0, fun p _ => (rt_Sz (fun i _ => rg_0m _)).symm⟩
  | j + 1, h => by
    obtain ⟨c', hc'⟩ := rt_spA (rt_spS y c j (fun i hi => h i (by omega))) (h j (by omega)) 1 (c j)
    refine ⟨c', fun p hp => ?_⟩
    rw [← hc' p hp]
    show rt_S (j + 1) (fun i => c i * y i p) = 1 * rt_S j (fun i => c i * y i p) + c j * y j p
    rw [rt_Ss, rg_1m]
theorem rt_least (P : Nat → Prop) : ∀ n, P n → ∃ k, P k ∧ ∀ j, j < k → ¬ P j := by
  intro n
  induction n using Nat.strongRecOn with
  | _ n ih =>
    intro h
    by_cases z : ∃ j, j < n ∧ P j
    · obtain ⟨j, hj, hp⟩ := z
      exact ih j hj hp
    · exact ⟨n, h, fun j hj hp => z ⟨j, hj, hp⟩⟩
theorem rt_dim : ∀ (d : Nat) (v : Nat → Nat → rt_F), ∃ j, j ≤ d ∧ rt_Sp v d j (v j) := by
  intro d
  induction d with
  | zero => exact fun v => ⟨0, Nat.le_refl 0, fun _ => 0, fun p hp => absurd hp (Nat.not_lt_zero p)⟩
  | succ d ih =>
    intro v
    by_cases H : ∃ m, m ≤ d ∧ v m d ≠ 0
    · obtain ⟨m1, hm1⟩ := H
      obtain ⟨m0, ⟨hm0, hv0⟩, hlt⟩ := rt_least (fun m => m ≤ d ∧ v m d ≠ 0) m1 hm1
      have hz : ∀ i, i < m0 → v i d = 0 := fun i hi => Classical.byContradiction fun z => hlt i hi ⟨by omega, z⟩
      let lam : Nat → rt_F := fun m => v m d * rt_inv (v m0 d)
      let v' : Nat → Nat → rt_F := fun m p => if m < m0 then v m p else v (m + 1) p - lam (m + 1) * v m0 p
      have v1 : ∀ m p, m < m0 → v' m p = v m p := fun m p h => if_pos h
      have v2 : ∀ m p, m0 ≤ m → v' m p = v (m + 1) p - lam (m + 1) * v m0 p := fun m p h => if_neg (by omega)
      have vd : ∀ m, v' m d = 0 := fun m => by
        by_cases z : m < m0
        · rw [v1 m d z, hz m z]
        · rw [v2 m d (by omega)]
          show v (m + 1) d - v (m + 1) d * rt_inv (v m0 d) * v m0 d = 0
          rw [rg_mm, rg_mc (rt_inv _), rt_inv1 hv0, rg_m1, rg_ss]
      obtain ⟨j, hj, c, hc⟩ := ih v'
      have hc' : ∀ p, p < d + 1 → v' j p = rt_S j (fun i => c i * v' i p) := fun p hp => by
        by_cases z : p < d
        · exact hc p z
        · have e : p = d := by omega
          rw [e, vd, rt_Sz (fun i _ => by rw [vd, rg_m0])]
      by_cases z : j < m0
      · refine ⟨j, by omega, c, fun p hp => ?_⟩
        rw [← v1 j p z, hc' p hp]
        exact rt_Sc (fun i hi => by rw [v1 i p (by omega)])
      · have hs : rt_Sp v (d + 1) (j + 1) (fun p => rt_S j (fun i => c i * v' i p)) := rt_spS v' c j (fun i hi => by
          by_cases y : i < m0
          · obtain ⟨c1, hc1⟩ := rt_spM (v := v) (d := d + 1) (n := j + 1) (i := i) (by omega)
            exact ⟨c1, fun p hp => by rw [v1 i p y]; exact hc1 p hp⟩
          · obtain ⟨c1, hc1⟩ := rt_spA (rt_spM (v := v) (d := d + 1) (n := j + 1) (i := i + 1) (by omega)) (rt_spM (v := v) (d := d + 1) (n := j + 1) (i := m0) (by omega)) 1 (0 - lam (i + 1))
            refine ⟨c1, fun p hp => ?_⟩
            rw [v2 i p (by omega), ← hc1 p hp]
            have k : ∀ a b x : rt_F, a - x * b = 1 * a + (0 - x) * b := by intro a b x; grind
            exact k _ _ _)
        obtain ⟨c2, hc2⟩ := rt_spA hs (rt_spM (v := v) (d := d + 1) (n := j + 1) (i := m0) (by omega)) 1 (lam (j + 1))
        refine ⟨j + 1, by omega, c2, fun p hp => ?_⟩
        rw [← hc2 p hp]
        show v (j + 1) p = 1 * rt_S j (fun i => c i * v' i p) + lam (j + 1) * v m0 p
        rw [← hc' p hp, v2 j p (by omega)]
        have k : ∀ a b x : rt_F, a = 1 * (a - x * b) + x * b := by intro a b x; grind
        exact k _ _ _
    · have hz : ∀ m, m ≤ d → v m d = 0 := fun m hm => Classical.byContradiction fun z => H ⟨m, hm, z⟩
      obtain ⟨j, hj, c, hc⟩ := ih v
      refine ⟨j, by omega, c, fun p hp => ?_⟩
      by_cases z : p < d
      · exact hc p z
      · have e : p = d := by omega
        rw [e, hz j hj, rt_Sz (fun i hi => by rw [hz i (by omega), rg_m0])]
/-- a sequence whose shifts are combinations of d others keeps a rule of order at most d -/
theorem rt_exr {t : Nat → rt_F} {d : Nat} (w g : Nat → Nat → rt_F) (h : ∀ m n, t (n + m) = rt_S d (fun p => w m p * g p n)) :
    ∃ j c, j ≤ d ∧ ∀ N, rt_Rul j c t N := by
  obtain ⟨j, hj, c, hc⟩ := rt_dim d w
  have h2 : ∀ n, t (n + j) = rt_S j (fun i => c i * t (n + i)) := fun n => by
    rw [h j n]
    have e1 : rt_S d (fun p => w j p * g p n) = rt_S d (fun p => rt_S j (fun i => c i * (w i p * g p n))) := rt_Sc (fun p hp => by
      show w j p * g p n = _
      rw [hc p hp, ← rt_Smr]
      exact rt_Sc (fun i _ => rg_mm _ _ _))
    rw [e1, rt_Sx d j (fun p i => c i * (w i p * g p n))]
    refine rt_Sc (fun i _ => ?_)
    show rt_S d (fun p => c i * (w i p * g p n)) = c i * t (n + i)
    rw [rt_Smul, ← h i n]
  refine ⟨j, fun i => c (j - 1 - i), hj, fun N n h1 _ => ?_⟩
  have e := h2 (n - j)
  rw [show n - j + j = n by omega] at e
  rw [e, rt_Srev]
  exact rt_Sc (fun i hi => by
    show c (j - 1 - i) * t (n - j + (j - 1 - i)) = c (j - 1 - i) * t (n - 1 - i)
    rw [show n - j + (j - 1 - i) = n - 1 - i by omega])
theorem rt_exSum {T U M M' : Nat → rt_F} (h : rt_Keep 4 M T) (h' : rt_Keep 4 M' U) : ∃ j c, j ≤ 8 ∧ ∀ N, rt_Rul j c (fun n => T n + U n) N := by
  refine rt_exr (fun m p => if p < 4 then rt_pw M m p else rt_pw M' m (p - 4)) (fun p n => if p < 4 then T (p + n) else U (p - 4 + n)) (fun m n => ?_)
  show T (n + m) + U (n + m) = _
  rw [Nat.add_comm n m, rt_pwR h m n, rt_pwR h' m n, rt_Ssplit 4 4]
  have e1 : rt_S 4 (fun i => rt_pw M m i * T (i + n)) = rt_S 4 (fun p => (if p < 4 then rt_pw M m p else rt_pw M' m (p - 4)) * (if p < 4 then T (p + n) else U (p - 4 + n))) := rt_Sc (fun i hi => by rw [if_pos hi, if_pos hi])
  have e2 : rt_S 4 (fun i => rt_pw M' m i * U (i + n)) = rt_S 4 (fun i => (if 4 + i < 4 then rt_pw M m (4 + i) else rt_pw M' m (4 + i - 4)) * (if 4 + i < 4 then T (4 + i + n) else U (4 + i - 4 + n))) := by
    refine rt_Sc (fun i hi => ?_)
    show _ = (if 4 + i < 4 then rt_pw M m (4 + i) else rt_pw M' m (4 + i - 4)) * (if 4 + i < 4 then T (4 + i + n) else U (4 + i - 4 + n))
    rw [if_neg (by omega), if_neg (by omega), show 4 + i - 4 = i by omega]
  rw [e1, e2]
theorem rt_exProd {T U M M' : Nat → rt_F} (h : rt_Keep 4 M T) (h' : rt_Keep 4 M' U) : ∃ j c, j ≤ 16 ∧ ∀ N, rt_Rul j c (fun n => T n * U n) N := by
  refine rt_exr (fun m p => rt_pw M m (p / 4) * rt_pw M' m (p % 4)) (fun p n => T (p / 4 + n) * U (p % 4 + n)) (fun m n => ?_)
  show T (n + m) * U (n + m) = _
  rw [Nat.add_comm n m, rt_pwR h m n, rt_pwR h' m n]
  have e := rt_Sprod 4 4 (by omega) (fun i j => rt_pw M m i * rt_pw M' m j * (T (i + n) * U (j + n)))
  rw [show 4 * 4 = 16 from rfl] at e
  rw [e, ← rt_Smr]
  refine rt_Sc (fun i _ => ?_)
  show rt_pw M m i * T (i + n) * rt_S 4 (fun j => rt_pw M' m j * U (j + n)) = _
  rw [← rt_Smul]
  refine rt_Sc (fun j _ => ?_)
  have k : ∀ a b c d : rt_F, a * b * (c * d) = a * c * (b * d) := by intro a b c d; grind
  exact k _ _ _ _
theorem rt_exStep {T M : Nat → rt_F} (st : Nat) (h : rt_Keep 4 M T) : ∃ j c, j ≤ 4 ∧ ∀ N, rt_Rul j c (fun n => T (n * st)) N := by
  refine rt_exr (fun m p => rt_pw M (m * st) p) (fun p n => T (p + n * st)) (fun m n => ?_)
  show T ((n + m) * st) = _
  rw [Nat.add_mul, Nat.add_comm (n * st), rt_pwR h (m * st) (n * st)]
end
section
/-! tables: what rows' changes keep, and the rank of a table of terms -/
/-- the combination a of the columns is 0 in each of the w rows -/
def rt_Ann (A : Nat → rt_F) (w wd : Nat) (a : Nat → rt_F) : Prop := ∀ i, i < w → rt_S wd (fun k => A (i * 16 + k) * a k) = 0
theorem rt_annX {A A' : Nat → rt_F} {w wd p r : Nat} (hp : p < w) (hr : r < w) (hwd : wd ≤ 16)
    (h1 : ∀ k, k < 16 → A' (p * 16 + k) = A (r * 16 + k)) (h2 : ∀ k, k < 16 → A' (r * 16 + k) = A (p * 16 + k))
    (h3 : ∀ i k, i ≠ p → i ≠ r → k < 16 → A' (i * 16 + k) = A (i * 16 + k)) (a : Nat → rt_F) : rt_Ann A w wd a ↔ rt_Ann A' w wd a := by
  have ep : rt_S wd (fun k => A' (p * 16 + k) * a k) = rt_S wd (fun k => A (r * 16 + k) * a k) := rt_Sc (fun k hk => by rw [h1 k (by omega)])
  have er : rt_S wd (fun k => A' (r * 16 + k) * a k) = rt_S wd (fun k => A (p * 16 + k) * a k) := rt_Sc (fun k hk => by rw [h2 k (by omega)])
  have ei : ∀ i, i ≠ p → i ≠ r → rt_S wd (fun k => A' (i * 16 + k) * a k) = rt_S wd (fun k => A (i * 16 + k) * a k) := fun i ip ir => rt_Sc (fun k hk => by rw [h3 i k ip ir (by omega)])
  constructor
  · intro h i hi
    by_cases z : i = p
    · rw [z, ep]; exact h r hr
    · by_cases y : i = r
      · rw [y, er]; exact h p hp
      · rw [ei i z y]; exact h i hi
  · intro h i hi
    by_cases z : i = p
    · rw [z, ← er]; exact h r hr
    · by_cases y : i = r
      · rw [y, ← ep]; exact h p hp
      · rw [← ei i z y]; exact h i hi
theorem rt_annR {A A' : Nat → rt_F} {w wd r c : Nat} (hr : r < w) (hu : A (r * 16 + c) ≠ 0)
    (h1 : ∀ k, k < wd → A' (r * 16 + k) = A (r * 16 + k))
    (h2 : ∀ i k, i < w → i ≠ r → k < wd → A' (i * 16 + k) = A (i * 16 + k) * A (r * 16 + c) - A (r * 16 + k) * A (i * 16 + c)) (a : Nat → rt_F) :
    rt_Ann A w wd a ↔ rt_Ann A' w wd a := by
  have er : rt_S wd (fun k => A' (r * 16 + k) * a k) = rt_S wd (fun k => A (r * 16 + k) * a k) := rt_Sc (fun k hk => by rw [h1 k hk])
  have ei : ∀ i, i < w → i ≠ r → rt_S wd (fun k => A' (i * 16 + k) * a k) = A (r * 16 + c) * rt_S wd (fun k => A (i * 16 + k) * a k) + (0 - A (i * 16 + c)) * rt_S wd (fun k => A (r * 16 + k) * a k) := fun i hi ir => by
    rw [← rt_Smul, ← rt_Smul, ← rt_Sadd]
    refine rt_Sc (fun k hk => ?_)
    rw [h2 i k hi ir hk]
    have q : ∀ x u y v z : rt_F, (x * u - y * v) * z = u * (x * z) + (0 - v) * (y * z) := by intro x u y v z; grind
    exact q _ _ _ _ _
  constructor
  · intro h i hi
    by_cases z : i = r
    · rw [z, er]; exact h r hr
    · rw [ei i hi z, h i hi, h r hr, rg_m0, rg_m0, rg_a0]
  · intro h i hi
    by_cases z : i = r
    · rw [z, ← er]; exact h r hr
    · have e := h i hi
      have e2 := h r hr
      rw [er] at e2
      rw [ei i hi z, e2, rg_m0, rg_a0] at e
      exact rt_nz hu e
/-- the table when r rows are settled and the columns below c are done -/
def rt_EL (A : Nat → rt_F) (w c r : Nat) : Prop := (∀ i k, r ≤ i → i < w → k < c → A (i * 16 + k) = 0) ∧ (∀ i, i < r → A (i * 16 + i) ≠ 0) ∧
  (∀ i k, i < r → k < r → k ≠ i → A (i * 16 + k) = 0)
theorem rt_elX {A A' : Nat → rt_F} {w p r : Nat} (hp : p < w) (hrp : r ≤ p) (hw : w ≤ 16)
    (h1 : ∀ k, k < 16 → A' (p * 16 + k) = A (r * 16 + k)) (h2 : ∀ k, k < 16 → A' (r * 16 + k) = A (p * 16 + k))
    (h3 : ∀ i k, i ≠ p → i ≠ r → k < 16 → A' (i * 16 + k) = A (i * 16 + k)) (h : rt_EL A w r r) : rt_EL A' w r r := by
  obtain ⟨a, b, c⟩ := h
  refine ⟨fun i k hi hw' hk => ?_, fun i hi => ?_, fun i k hi hk hne => ?_⟩
  · by_cases z : i = p
    · rw [z, h1 k (by omega)]; exact a r k (by omega) (by omega) hk
    · by_cases y : i = r
      · rw [y, h2 k (by omega)]; exact a p k (by omega) hp hk
      · rw [h3 i k z y (by omega)]; exact a i k hi hw' hk
  · rw [h3 i i (by omega) (by omega) (by omega)]; exact b i hi
  · rw [h3 i k (by omega) (by omega) (by omega)]; exact c i k hi hk hne
theorem rt_elR {A A' : Nat → rt_F} {w wd r : Nat} (hr : r < w) (hwd : w ≤ wd) (hu : A (r * 16 + r) ≠ 0)
    (h1 : ∀ k, k < wd → A' (r * 16 + k) = A (r * 16 + k))
    (h2 : ∀ i k, i < w → i ≠ r → k < wd → A' (i * 16 + k) = A (i * 16 + k) * A (r * 16 + r) - A (r * 16 + k) * A (i * 16 + r))
    (h : rt_EL A w r r) : rt_EL A' w (r + 1) (r + 1) := by
  obtain ⟨a, b, c⟩ := h
  have q0 : ∀ x y : rt_F, x * y - y * x = 0 := by intro x y; grind
  have q1 : ∀ x y z : rt_F, y = 0 → x * z - y * 0 = x * z := by intro x y z h; grind
  have q2 : ∀ x y z : rt_F, y = 0 → x * z - y * x = x * z := by intro x y z h; grind
  have q3 : ∀ x y v z : rt_F, y = 0 → x * z - y * v = x * z := by intro x y v z h; grind
  refine ⟨fun i k hi hw' hk => ?_, fun i hi => ?_, fun i k hi hk hne => ?_⟩
  · rw [h2 i k hw' (by omega) (by omega)]
    by_cases z : k = r
    · rw [z]; exact q0 _ _
    · rw [q3 _ _ _ _ (a r k (by omega) hr (by omega)), a i k (by omega) hw' (by omega), rg_0m]
  · by_cases z : i = r
    · rw [z, h1 r (by omega)]; exact hu
    · rw [h2 i i (by omega) z (by omega), q3 _ _ _ _ (a r i (by omega) hr (by omega))]
      exact rt_ne (b i (by omega)) hu
  · by_cases z : i = r
    · rw [z, h1 k (by omega)]
      exact a r k (by omega) hr (by omega)
    · rw [h2 i k (by omega) z (by omega)]
      by_cases y : k = r
      · rw [y]; exact q0 _ _
      · rw [q3 _ _ _ _ (a r k (by omega) hr (by omega)), c i k (by omega) (by omega) hne, rg_0m]
/-- what the walk of tableRank asks of the table: the columns below L are free of those before them, the others aren't -/
def rt_HK (A : Nat → rt_F) (w wd L : Nat) : Prop :=
  (∀ c, c < L → ∀ a : Nat → rt_F, a c = 1 → (∀ k, c < k → a k = 0) → ¬ rt_Ann A w wd a) ∧
  (∀ c, L ≤ c → c < w → ∃ a : Nat → rt_F, a c = 1 ∧ (∀ k, c < k → a k = 0) ∧ rt_Ann A w wd a)
theorem rt_piv {A A0 : Nat → rt_F} {w wd L c : Nat} (hK : rt_HK A0 w wd L) (hA : ∀ a, rt_Ann A0 w wd a ↔ rt_Ann A w wd a) (hc : c < L) (hL : L ≤ w) (hwd : w ≤ wd)
    (hE : rt_EL A w c c) : ∃ p, c ≤ p ∧ p < w ∧ A (p * 16 + c) ≠ 0 := by
  refine Classical.byContradiction fun hn => ?_
  have hz : ∀ i, c ≤ i → i < w → A (i * 16 + c) = 0 := fun i h1 h2 => Classical.byContradiction fun z => hn ⟨i, h1, h2, z⟩
  obtain ⟨e1, e2, e3⟩ := hE
  let a : Nat → rt_F := fun k => if k < c then 0 - A (k * 16 + c) * rt_inv (A (k * 16 + k)) else if k = c then 1 else 0
  have a1 : ∀ k, k < c → a k = 0 - A (k * 16 + c) * rt_inv (A (k * 16 + k)) := fun k hk => if_pos hk
  have a2 : a c = 1 := by show (if c < c then _ else if c = c then (1 : rt_F) else 0) = 1; rw [if_neg (by omega), if_pos rfl]
  have a3 : ∀ k, c < k → a k = 0 := fun k hk => by show (if k < c then _ else if k = c then (1 : rt_F) else 0) = 0; rw [if_neg (by omega), if_neg (by omega)]
  refine hK.1 c hc a a2 a3 ((hA a).mpr (fun i hi => ?_))
  by_cases z : i < c
  · rw [rt_Stwo (p := i) (q := c) z (by omega) (fun k hk k1 k2 => by
      by_cases y : k < c
      · rw [e3 i k z y k1, rg_0m]
      · rw [a3 k (by omega), rg_m0]), a1 i z, a2]
    have q : ∀ x y v : rt_F, x * (0 - y * v) + y * 1 = y * (1 - x * v) := by intro x y v; grind
    rw [q, rt_inv1 (e2 i z), rg_ss, rg_m0]
  · refine rt_Sz (fun k hk => ?_)
    by_cases y : k < c
    · rw [e1 i k (by omega) hi y, rg_0m]
    · by_cases x : k = c
      · rw [x, hz i (by omega) hi, rg_0m]
      · rw [a3 k (by omega), rg_m0]
theorem rt_npv {A A0 : Nat → rt_F} {w wd L c : Nat} (hK : rt_HK A0 w wd L) (hA : ∀ a, rt_Ann A0 w wd a ↔ rt_Ann A w wd a) (hc : L ≤ c) (hcw : c < w) (hwd : w ≤ wd)
    (hE : rt_EL A w c L) : ∀ i, L ≤ i → i < w → A (i * 16 + c) = 0 := by
  intro i h1 h2
  obtain ⟨a, a1, a2, a3⟩ := hK.2 c hc hcw
  have e := (hA a).mp a3 i h2
  rw [rt_Sone (p := c) (by omega) (fun k hk hne => by
    by_cases y : k < c
    · rw [hE.1 i k h1 h2 y, rg_0m]
    · rw [a2 k (by omega), rg_m0]), a1, rg_m1] at e
  exact e
theorem rt_elN {A : Nat → rt_F} {w c L : Nat} (hE : rt_EL A w c L) (h : ∀ i, L ≤ i → i < w → A (i * 16 + c) = 0) : rt_EL A w (c + 1) L :=
  ⟨fun i k h1 h2 h3 => by
    by_cases z : k = c
    · rw [z]; exact h i h1 h2
    · exact hE.1 i k h1 h2 (by omega), hE.2⟩
/-- the rule as a combination of columns -/
def rt_ra (C : Nat → rt_F) (L c : Nat) : Nat → rt_F := fun k => if k = c then 1 else if k < c ∧ c ≤ k + L then 0 - C (c - 1 - k) else 0
theorem rt_raA {A t C : Nat → rt_F} {w wd L c N : Nat} (hA : ∀ i k, i < w → k < wd → A (i * 16 + k) = t (i + k)) (hR : rt_Rul L C t N) (hc : L ≤ c) (hcw : c < wd) (hN : w + c ≤ N) :
    rt_Ann A w wd (rt_ra C L c) := by
  intro i hi
  have e0 : rt_S wd (fun k => A (i * 16 + k) * rt_ra C L c k) = rt_S wd (fun k => t (i + k) * rt_ra C L c k) := rt_Sc (fun k hk => by rw [hA i k hi hk])
  rw [e0, rt_Sext (n := c + 1) (by omega) (fun k h1 h2 => by
    show t (i + k) * (if k = c then 1 else if k < c ∧ c ≤ k + L then 0 - C (c - 1 - k) else 0) = 0
    rw [if_neg (by omega), if_neg (by omega), rg_m0]), rt_Ss]
  have e1 : rt_ra C L c c = 1 := if_pos rfl
  obtain ⟨d, rfl⟩ : ∃ d, c = d + L := ⟨c - L, by omega⟩
  rw [e1, rg_m1, rt_Ssplit d L, rt_Sz (fun k hk => by
    show t (i + k) * (if k = d + L then 1 else if k < d + L ∧ d + L ≤ k + L then 0 - C (d + L - 1 - k) else 0) = 0
    rw [if_neg (by omega), if_neg (by omega), rg_m0]), rg_0a, hR (i + (d + L)) (by omega) (by omega), rt_Srev L (fun k => C k * t (i + (d + L) - 1 - k)), ← rt_Sadd]
  refine rt_Sz (fun k hk => ?_)
  show t (i + (d + k)) * (if d + k = d + L then 1 else if d + k < d + L ∧ d + L ≤ d + k + L then 0 - C (d + L - 1 - (d + k)) else 0) + C (L - 1 - k) * t (i + (d + L) - 1 - (L - 1 - k)) = 0
  rw [if_neg (by omega), if_pos (by omega), show d + L - 1 - (d + k) = L - 1 - k by omega, show i + (d + L) - 1 - (L - 1 - k) = i + (d + k) by omega]
  have q : ∀ x y : rt_F, x * (0 - y) + y * x = 0 := by intro x y; grind
  exact q _ _
/-- a table of terms: its free columns are those below the order of the shortest rule -/
theorem rt_hk {A t C : Nat → rt_F} {w wd L N : Nat} (hA : ∀ i k, i < w → k < wd → A (i * 16 + k) = t (i + k)) (hR : rt_Rul L C t N) (hm : ∀ L' c', rt_Rul L' c' t N → L ≤ L')
    (hL : L ≤ w) (hwd : w ≤ wd) (hN : w + w ≤ N) : rt_HK A w wd L := by
  constructor
  · intro c hc a a1 a2 hn
    have hr : rt_Rul c (fun i => 0 - a (c - 1 - i)) t (c + w) := by
      intro n h1 h2
      have e := hn (n - c) (by omega)
      have e0 : rt_S wd (fun k => A ((n - c) * 16 + k) * a k) = rt_S wd (fun k => t (n - c + k) * a k) := rt_Sc (fun k hk => by rw [hA (n - c) k (by omega) hk])
      rw [e0, rt_Sext (n := c + 1) (by omega) (fun k h3 h4 => by rw [a2 k (by omega), rg_m0]), rt_Ss, a1, rg_m1, show n - c + c = n by omega] at e
      have e2 : rt_S c (fun i => (0 - a (c - 1 - i)) * t (n - 1 - i)) = rt_S c (fun k => (0 - a k) * t (n - c + k)) := by
        rw [rt_Srev c (fun k => (0 - a k) * t (n - c + k))]
        exact rt_Sc (fun i hi => by
          show (0 - a (c - 1 - i)) * t (n - 1 - i) = (0 - a (c - 1 - i)) * t (n - c + (c - 1 - i))
          rw [show n - c + (c - 1 - i) = n - 1 - i by omega])
      have e3 : rt_S c (fun k => (0 - a k) * t (n - c + k)) + rt_S c (fun k => t (n - c + k) * a k) = 0 := by
        rw [← rt_Sadd]
        refine rt_Sz (fun k _ => ?_)
        have q : ∀ x y : rt_F, (0 - y) * x + x * y = 0 := by intro x y; grind
        exact q _ _
      rw [e2]
      have q : ∀ x y z : rt_F, x + y = 0 → z + x = 0 → y = z := by intro x y z h h'; grind
      exact q _ _ _ e e3
    have := hm c _ (rt_rext hr hR (by omega))
    omega
  · intro c h1 h2
    exact ⟨rt_ra C L c, if_pos rfl, fun k hk => by
      show (if k = c then 1 else if k < c ∧ c ≤ k + L then 0 - C (c - 1 - k) else 0) = 0
      rw [if_neg (by omega), if_neg (by omega)], rt_raA hA hR h1 (by omega) (by omega)⟩
/-- the settled table of w = L rows and one more column holds the rule -/
theorem rt_sol {A A0 t C : Nat → rt_F} {L N row : Nat} (hA0 : ∀ i k, i < L → k < L + 1 → A0 (i * 16 + k) = t (i + k)) (hR : rt_Rul L C t N) (hN : L + L ≤ N)
    (hA : ∀ a, rt_Ann A0 L (L + 1) a → rt_Ann A L (L + 1) a) (h3 : ∀ i k, i < L → k < L → k ≠ i → A (i * 16 + k) = 0) (hr : row < L) :
    A (row * 16 + L) = A (row * 16 + row) * C (L - 1 - row) := by
  have e := hA _ (rt_raA hA0 hR (Nat.le_refl L) (by omega) hN) row hr
  rw [rt_Stwo (p := row) (q := L) hr (by omega) (fun k hk k1 k2 => by rw [h3 row k hr (by omega) k1, rg_0m])] at e
  have e1 : rt_ra C L L L = 1 := if_pos rfl
  have e2 : rt_ra C L L row = 0 - C (L - 1 - row) := by
    show (if row = L then 1 else if row < L ∧ L ≤ row + L then 0 - C (L - 1 - row) else 0) = _
    rw [if_neg (by omega), if_pos (by omega)]
  rw [e1, e2] at e
  have q : ∀ x y z : rt_F, x * (0 - y) + z * 1 = 0 → z = x * y := by intro x y z h; grind
  exact q _ _ _ e
/-- the shortest rule is one alone, where twice its order is known -/
theorem rt_min0 {t : Nat → rt_F} {N : Nat} (h : ∃ j c, rt_Rul j c t N) : ∃ L C, rt_Rul L C t N ∧ ∀ L' c', rt_Rul L' c' t N → L ≤ L' := by
  obtain ⟨j, c, hc⟩ := h
  obtain ⟨L, ⟨C, hC⟩, hl⟩ := rt_least (fun L => ∃ C, rt_Rul L C t N) j ⟨c, hc⟩
  exact ⟨L, C, hC, fun L' c' h' => Classical.byContradiction fun z => hl L' (by omega) ⟨c', h'⟩⟩
end
section
/-! ints that hold numbers modulo 997; reads, writes; the terms of a sequence; the picture of both states -/
def rt_e (x : rt_F) : Int32 := nI x.val
theorem rt_lt (x : rt_F) : x.val < 997 := x.isLt
theorem rt_mb (b c : rt_F) : b.val * c.val ≤ 992016 := by
  have h1 := rt_lt b
  have h2 := rt_lt c
  exact Nat.mul_le_mul (show b.val ≤ 996 by omega) (show c.val ≤ 996 by omega)
theorem rt_e0 : rt_e 0 = 0 := rfl
theorem rt_e1 : rt_e 1 = 1 := rfl
theorem rt_einj {a b : rt_F} : rt_e a = rt_e b ↔ a = b := by
  have h1 := rt_lt a
  have h2 := rt_lt b
  unfold rt_e
  rw [nI_eq (by omega) (by omega)]
  exact ⟨fun h => Fin.ext h, fun h => by rw [h]⟩
theorem rt_ez {a : rt_F} : rt_e a = 0 ↔ a = 0 := rt_einj (a := a) (b := 0)
theorem rt_fa (m n : Nat) : (Fin.ofNat 997 (m + n) : rt_F) = Fin.ofNat 997 m + Fin.ofNat 997 n := by
  apply Fin.ext
  show (m + n) % 997 = (m % 997 + n % 997) % 997
  omega
theorem rt_fm (m n : Nat) : (Fin.ofNat 997 (m * n) : rt_F) = Fin.ofNat 997 m * Fin.ofNat 997 n := by
  apply Fin.ext
  show (m * n) % 997 = (m % 997 * (n % 997)) % 997
  exact Nat.mul_mod _ _ _
theorem rt_fv (a : rt_F) : (Fin.ofNat 997 a.val : rt_F) = a := by
  apply Fin.ext
  exact Nat.mod_eq_of_lt (rt_lt a)
theorem rt_fs (b : rt_F) : (Fin.ofNat 997 (997 - b.val) : rt_F) = 0 - b := by
  apply Fin.ext
  have h := rt_lt b
  show (997 - b.val) % 997 = ((997 - b.val) + 0) % 997
  omega
theorem rt_rem {m : Nat} (h : m < 2 ^ 31) : nI m - nI m / 997 * 997 = rt_e (Fin.ofNat 997 m) := pk_rem (d := 997) h (by omega) (by omega)
theorem rt_aE {x y : Int32} {a b : rt_F} (hx : x = rt_e a) (hy : y = rt_e b) : (x + y) - (x + y) / 997 * 997 = rt_e (a + b) := by
  subst hx hy
  have h1 := rt_lt a
  have h2 := rt_lt b
  have e : rt_e a + rt_e b = nI (a.val + b.val) := nI_add _ _
  rw [e, rt_rem (by omega), rt_fa, rt_fv, rt_fv]
theorem rt_mE {x y : Int32} {a b : rt_F} (hx : x = rt_e a) (hy : y = rt_e b) : (x * y) - (x * y) / 997 * 997 = rt_e (a * b) := by
  subst hx hy
  have h1 := rt_mb a b
  have e : rt_e a * rt_e b = nI (a.val * b.val) := pk_mul _ _
  rw [e, rt_rem (by omega), rt_fm, rt_fv, rt_fv]
theorem rt_amE {x y w : Int32} {a b c : rt_F} (hx : x = rt_e a) (hy : y = rt_e b) (hw : w = rt_e c) : (x + y * w) - (x + y * w) / 997 * 997 = rt_e (a + b * c) := by
  subst hx hy hw
  have h1 := rt_mb b c
  have h2 := rt_lt a
  have e : rt_e a + rt_e b * rt_e c = nI (a.val + b.val * c.val) := by
    show nI a.val + nI b.val * nI c.val = _
    rw [pk_mul, nI_add]
  rw [e, rt_rem (by omega), rt_fa, rt_fm, rt_fv, rt_fv, rt_fv]
theorem rt_smE {x y w : Int32} {a b c : rt_F} (hx : x = rt_e a) (hy : y = rt_e b) (hw : w = rt_e c) : (x + (997 - y) * w) - (x + (997 - y) * w) / 997 * 997 = rt_e (a - b * c) := by
  subst hx hy hw
  have h1 := rt_lt b
  have h2 := rt_lt a
  have h3 := rt_lt c
  have h4 : (997 - b.val) * c.val ≤ 997 * 997 := Nat.mul_le_mul (by omega) (by omega)
  have e0 : 997 - rt_e b = nI (997 - b.val) := pk_sub (a := 997) (by omega)
  have e : rt_e a + (997 - rt_e b) * rt_e c = nI (a.val + (997 - b.val) * c.val) := by
    rw [e0]
    show nI a.val + nI (997 - b.val) * nI c.val = _
    rw [pk_mul, nI_add]
  rw [e, rt_rem (by omega), rt_fa, rt_fm, rt_fv, rt_fv, rt_fs]
  exact congrArg rt_e (by grind)
theorem rt_tlE {x y w : Int32} {a b c : rt_F} (hx : x = rt_e a) (hy : y = rt_e b) (hw : w = rt_e c) : (((x + 997) - y) + w) - (((x + 997) - y) + w) / 997 * 997 = rt_e (a - b + c) := by
  subst hx hy hw
  have h1 := rt_lt b
  have h2 := rt_lt a
  have h3 := rt_lt c
  have e : ((rt_e a + 997) - rt_e b) + rt_e c = nI (a.val + (997 - b.val) + c.val) := by
    show ((nI a.val + nI 997) - nI b.val) + nI c.val = _
    rw [nI_add, pk_sub (by omega), nI_add]
    exact congrArg nI (by omega)
  rw [e, rt_rem (by omega), rt_fa, rt_fa, rt_fv, rt_fv, rt_fs]
  exact congrArg rt_e (by grind)
/-- the remainder that is never negative -/
def rt_nm (p : Int32) : rt_F := Fin.ofNat 997 (p.toInt % 997).toNat
theorem rt_nmL {p r : Int32} (hr : r = p - p / 997 * 997) : (0 ≤ r → r = rt_e (rt_nm p)) ∧ (¬ 0 ≤ r → r + 997 = rt_e (rt_nm p)) := by
  have h997 : (997 : Int32).toInt = 997 := by decide
  have h0 : (0 : Int32).toInt = 0 := by decide
  have e : r.toInt = p.toInt.tmod 997 := by rw [hr, rem_toInt, h997]
  have hv : (rt_e (rt_nm p)).toInt = p.toInt % 997 := by
    have a1 : 0 ≤ p.toInt % 997 := by omega
    have a2 : p.toInt % 997 < 997 := by omega
    show (nI ((p.toInt % 997).toNat % 997)).toInt = _
    rw [nI_toInt (by omega)]
    omega
  have ht : p.toInt.tmod 997 = p.toInt - 997 * p.toInt.tdiv 997 := by have := Int.mul_tdiv_add_tmod p.toInt 997; omega
  have tb := tmod_bounds (a := p.toInt) (M := 997) (by omega)
  constructor
  · intro h
    rw [Int32.le_iff_toInt_le, h0] at h
    apply Int32.toInt_inj.mp
    rw [hv, e]
    rw [e] at h
    omega
  · intro h
    rw [Int32.le_iff_toInt_le, h0] at h
    apply Int32.toInt_inj.mp
    rw [hv, Jvm.Kit.i32_add (by omega) (by omega), e, h997]
    rw [e] at h
    omega
theorem rt_nmE {x y u v : Int32} {a b c d : rt_F} (hx : x = rt_e a) (hu : u = rt_e b) (hy : y = rt_e c) (hv : v = rt_e d) : rt_nm (x * u - y * v) = a * b - c * d := by
  subst hx hu hy hv
  have h1 := rt_mb a b
  have h2 := rt_mb c d
  have e : (rt_e a * rt_e b - rt_e c * rt_e d).toInt = (a.val * b.val : Nat) - (c.val * d.val : Nat) := by
    show (nI a.val * nI b.val - nI c.val * nI d.val).toInt = _
    rw [pk_mul, pk_mul, pk_sub_toInt (by omega) (by omega)]
  apply Fin.ext
  show ((rt_e a * rt_e b - rt_e c * rt_e d).toInt % 997).toNat % 997 = ((997 - (c.val * d.val) % 997) + (a.val * b.val) % 997) % 997
  rw [e]
  generalize a.val * b.val = X
  generalize c.val * d.val = Y
  omega
/-- a sum that grows without remainders -/
def rt_Acc (x : Int32) (n : Nat) (y : rt_F) : Prop := ∃ v : Nat, x = nI v ∧ v ≤ 992016 * n ∧ Fin.ofNat 997 v = y
theorem rt_acc0 : rt_Acc 0 0 0 := ⟨0, rfl, by omega, rfl⟩
theorem rt_acc1 {x : Int32} {a : rt_F} (hx : x = rt_e a) : rt_Acc x 1 a := ⟨a.val, hx, by have := rt_lt a; omega, rt_fv a⟩
theorem rt_accS {x y w : Int32} {n : Nat} {s a b : rt_F} (h : rt_Acc x n s) (hy : y = rt_e a) (hw : w = rt_e b) : rt_Acc (x + y * w) (n + 1) (s + a * b) := by
  obtain ⟨v, hv, hb, he⟩ := h
  subst hv hy hw
  have h1 := rt_mb a b
  refine ⟨v + a.val * b.val, ?_, by omega, ?_⟩
  · show nI v + nI a.val * nI b.val = _
    rw [pk_mul, nI_add]
  · rw [rt_fa, rt_fm, rt_fv, rt_fv, he]
theorem rt_accE {x : Int32} {n : Nat} {y : rt_F} (h : rt_Acc x n y) (hn : n ≤ 2000) : x - x / 997 * 997 = rt_e y := by
  obtain ⟨v, hv, hb, he⟩ := h
  subst hv
  rw [rt_rem (by omega), he]
/-! reads and writes -/
theorem rt_rd {a : Nat → Int32} {x v : Int32} (i : Nat) (h : a i = v) (hx : x = nI i := by rfl) (hi : i < 2 ^ 31 := by omega) : a x.toNatClampNeg = v := by
  subst hx
  rw [nI_clamp hi, h]
theorem rt_up {a : Nat → Int32} {x v v' : Int32} (i : Nat) (hv : v = v') (hx : x = nI i := by rfl) (hi : i < 2 ^ 31 := by omega) : upd a x.toNatClampNeg v = upd a i v' := by
  subst hx
  subst hv
  rw [nI_clamp hi]
theorem rt_ux {m g : Nat → Int32} {j : Nat} {v : Int32} (hm : ∀ i, i < j → m i = g i) (hv : v = g j) : ∀ i, i < j + 1 → upd m j v i = g i := fun i hi => by
  by_cases z : i = j
  · subst z
    rw [pk_us, hv]
  · rw [pk_un z]
    exact hm i (by omega)
theorem rt_uF {m : Nat → Int32} {D : Nat → rt_F} {N j : Nat} {x : rt_F} (hm : ∀ q, q < N → m q = rt_e (D q)) : ∀ q, q < N → upd m j (rt_e x) q = rt_e (if q = j then x else D q) := fun q hq => by
  by_cases z : q = j
  · subst z
    rw [pk_us, if_pos rfl]
  · rw [pk_un z, if_neg z, hm q hq]
theorem rt_i4 (s i : Nat) : (4 * nI s) + nI i = nI (4 * s + i) := by
  show (nI 4 * nI s) + nI i = _
  rw [pk_mul, nI_add]
theorem rt_j4 (s i : Nat) : (nI s * 4) + nI i = nI (4 * s + i) := by
  show (nI s * nI 4) + nI i = _
  rw [pk_mul, nI_add, Nat.mul_comm]
theorem rt_bit {n c : Nat} (hn : n < 2 ^ 31) (hc : c < 32) : (nI n >>> (nI c &&& 31)) &&& 1 = nI (n / 2 ^ c % 2) := by
  have h2 : n / 2 ^ c ≤ n := Nat.div_le_self _ _
  rw [pk_shrN hn (nI c &&& 31) c (s_l c hc), pk_andN (by omega) 1 (by decide)]
theorem rt_half (n c : Nat) : n / 2 ^ c = 2 * (n / 2 ^ (c + 1)) + n / 2 ^ c % 2 := by
  rw [Nat.pow_succ, ← Nat.div_div_eq_div_mul]
  omega
/-! the terms -/
def rt_tb (k : Nat) (r f : Nat → rt_F) : Nat → Nat → rt_F
  | 0 => fun _ => 0
  | n + 1 => fun j => if j = n then (if n < k then f n else rt_S k (fun i => r i * rt_tb k r f n (n - 1 - i))) else rt_tb k r f n j
def rt_T (k : Nat) (r f : Nat → rt_F) (n : Nat) : rt_F := rt_tb k r f (n + 1) n
theorem rt_tbE {k : Nat} {r f : Nat → rt_F} {j : Nat} : ∀ n, j < n → rt_tb k r f n j = rt_T k r f j := by
  intro n
  induction n with
  | zero => exact fun h => absurd h (Nat.not_lt_zero j)
  | succ n ih =>
    intro h
    by_cases z : j = n
    · subst z
      rfl
    · show (if j = n then _ else rt_tb k r f n j) = _
      rw [if_neg z]
      exact ih (by omega)
theorem rt_Tlo {k : Nat} {r f : Nat → rt_F} {n : Nat} (h : n < k) : rt_T k r f n = f n := by
  show (if n = n then (if n < k then f n else _) else _) = f n
  rw [if_pos rfl, if_pos h]
theorem rt_Thi {k : Nat} {r f : Nat → rt_F} {n : Nat} (h : k ≤ n) : rt_T k r f n = rt_S k (fun i => r i * rt_T k r f (n - 1 - i)) := by
  show (if n = n then (if n < k then f n else rt_S k (fun i => r i * rt_tb k r f n (n - 1 - i))) else _) = _
  rw [if_pos rfl, if_neg (by omega)]
  exact rt_Sc (fun i hi => by rw [rt_tbE n (by omega)])
theorem rt_Trul {k : Nat} {r f : Nat → rt_F} (N : Nat) : rt_Rul k r (rt_T k r f) N := fun n h _ => rt_Thi h
theorem rt_Tkeep {k : Nat} {r f : Nat → rt_F} : rt_Keep k (fun j => r (k - 1 - j)) (rt_T k r f) := fun m => by
  rw [rt_Thi (by omega), rt_Srev]
  exact rt_Sc (fun i hi => by
    show r (k - 1 - i) * rt_T k r f (k + m - 1 - (k - 1 - i)) = r (k - 1 - i) * rt_T k r f (i + m)
    rw [show k + m - 1 - (k - 1 - i) = i + m by omega])
theorem rt_Tkeep4 {k : Nat} {r f : Nat → rt_F} (hk : k ≤ 4) (hr : ∀ i, k ≤ i → i < 4 → r i = 0) : rt_Keep 4 (fun j => r (3 - j)) (rt_T k r f) := fun m => by
  rw [rt_Thi (by omega), ← rt_Sext (n := k) (m := 4) hk (fun i h1 h2 => by rw [hr i h1 h2, rg_0m]), rt_Srev]
  exact rt_Sc (fun i hi => by
    show r (4 - 1 - i) * rt_T k r f (4 + m - 1 - (4 - 1 - i)) = r (3 - i) * rt_T k r f (i + m)
    rw [show 4 + m - 1 - (4 - 1 - i) = i + m by omega])
/-- the sums of the first terms keep the rule with one number more -/
def rt_tl (k : Nat) (M : Nat → rt_F) : Nat → rt_F := fun j => (if 0 < j then M (j - 1) else 0) - (if j < k then M j else 0) + (if j = k then 1 else 0)
theorem rt_Gkeep {k : Nat} {M T : Nat → rt_F} (h : rt_Keep k M T) : rt_Keep (k + 1) (rt_tl k M) (fun m => rt_S (m + 1) T) := fun m => by
  show rt_S (k + 1 + m + 1) T = rt_S (k + 1) (fun j => rt_tl k M j * rt_S (j + m + 1) T)
  have e0 : rt_S (k + 1) (fun j => rt_tl k M j * rt_S (j + m + 1) T) = rt_S (k + 1) (fun j => ((if 0 < j then M (j - 1) else 0) * rt_S (j + m + 1) T + (0 - (if j < k then M j else 0)) * rt_S (j + m + 1) T) + (if j = k then 1 else 0) * rt_S (j + m + 1) T) := rt_Sc (fun j _ => by
    show ((if 0 < j then M (j - 1) else 0) - (if j < k then M j else 0) + (if j = k then 1 else 0)) * rt_S (j + m + 1) T = _
    have q : ∀ a b c x : rt_F, (a - b + c) * x = (a * x + (0 - b) * x) + c * x := by intro a b c x; grind
    exact q _ _ _ _)
  rw [e0, rt_Sadd, rt_Sadd]
  have e1 : rt_S (k + 1) (fun j => (if 0 < j then M (j - 1) else 0) * rt_S (j + m + 1) T) = rt_S k (fun j => M j * rt_S (j + 1 + m + 1) T) := by
    rw [rt_Sf, if_neg (by omega), rg_0m, rg_0a]
    exact rt_Sc (fun j _ => by rw [if_pos (by omega), Nat.add_sub_cancel])
  have e2 : rt_S (k + 1) (fun j => (0 - (if j < k then M j else 0)) * rt_S (j + m + 1) T) = rt_S k (fun j => (0 - M j) * rt_S (j + m + 1) T) := by
    rw [rt_Ss, if_neg (by omega)]
    have q : ∀ a x : rt_F, a + (0 - 0) * x = a := by intro a x; grind
    rw [q]
    exact rt_Sc (fun j hj => by rw [if_pos hj])
  have e3 : rt_S (k + 1) (fun j => (if j = k then 1 else 0) * rt_S (j + m + 1) T) = rt_S (k + m + 1) T := by
    rw [rt_Sone (p := k) (by omega) (fun j _ hne => by rw [if_neg hne, rg_0m]), if_pos rfl, rg_1m]
  rw [e1, e2, e3, ← rt_Sadd]
  have e4 : rt_S k (fun j => M j * rt_S (j + 1 + m + 1) T + (0 - M j) * rt_S (j + m + 1) T) = rt_S k (fun j => M j * T (j + (m + 1))) := rt_Sc (fun j _ => by
    rw [show j + 1 + m + 1 = (j + m + 1) + 1 by omega, rt_Ss, show j + (m + 1) = j + m + 1 by omega]
    have q : ∀ a x y : rt_F, a * (x + y) + (0 - a) * x = a * y := by intro a x y; grind
    exact q _ _ _)
  rw [e4, ← h (m + 1), show k + 1 + m + 1 = (k + m + 1) + 1 by omega, rt_Ss, rg_ac, show k + (m + 1) = k + m + 1 by omega]
/-! the picture of both states -/
def rt_St (o : Nat → Nat) (R Q : Nat → rt_F) (a b c : Nat → Int32) : Prop :=
  (∀ s, s < 3 → a s = nI (o s)) ∧ (∀ i, i < 12 → b i = rt_e (R i)) ∧ (∀ i, i < 12 → c i = rt_e (Q i)) ∧ (∀ s, s < 3 → o s ≤ 4) ∧
  (∀ s i, s < 3 → o s ≤ i → i < 4 → R (4 * s + i) = 0 ∧ Q (4 * s + i) = 0)
/-- the terms of the sequence s -/
def rt_U (o : Nat → Nat) (R Q : Nat → rt_F) (s : Nat) : Nat → rt_F := rt_T (o s) (fun i => R (4 * s + i)) (fun i => Q (4 * s + i))
theorem rt_Ukeep4 {o : Nat → Nat} {R Q : Nat → rt_F} {a b c : Nat → Int32} {s : Nat} (h : rt_St o R Q a b c) (hs : s < 3) : rt_Keep 4 (fun j => R (4 * s + (3 - j))) (rt_U o R Q s) :=
  rt_Tkeep4 (r := fun i => R (4 * s + i)) (h.2.2.2.1 s hs) (fun i h1 h2 => (h.2.2.2.2 s i hs h1 h2).1)
theorem rt_Ulo {o : Nat → Nat} {R Q : Nat → rt_F} {s i : Nat} (h : i < o s) : rt_U o R Q s i = Q (4 * s + i) := rt_Tlo h
/-- the first place where something holds -/
def rt_first (P : Nat → Bool) : Nat → Nat → Int32
  | _, 0 => -2
  | n, d + 1 => if P n = true then nI n else rt_first P (n + 1) d
end
section
/-! the component: the rule, powers, one term -/
section
variable {f_size : Int32} {a_orders a_rules a_firsts a_modulus a_head a_power a_square a_product a_terms a_rule a_older a_kept a_fresh : Nat → Int32}
theorem rx_tr9 {post : SX → Prop} {s k : Nat} {R : Nat → rt_F} (hs : s < 3) (hk : k ≤ 4) (hR : ∀ i, i < 12 → a_rules i = rt_e (R i))
    (H : ∀ m : Nat → Int32, (∀ j, j < 6 → m j = rt_e (if j < k then R (4 * s + (k - 1 - j)) else 0)) → post (f_size, a_orders, a_rules, a_firsts, m, a_head, a_power, a_square, a_product, a_terms, a_rule, a_older, a_kept, a_fresh)) :
    ∀ (d j : Nat) (m : Nat → Int32), j + d = 6 → (∀ i, i < j → m i = rt_e (if i < k then R (4 * s + (k - 1 - i)) else 0)) →
      wX_takeRule_9 post (nI s) (nI k) f_size (d + 1) (nI j) a_orders a_rules a_firsts m a_head a_power a_square a_product a_terms a_rule a_older a_kept a_fresh := by
  intro d
  induction d with
  | zero =>
    intro j m hj hm
    exact pk_le 6 j (fun _ => H m (fun i hi => hm i (by omega))) (fun h => absurd h (by omega))
  | succ d ih =>
    intro j m hj hm
    refine pk_le 6 j (fun h => absurd h (by omega)) (fun _ => ?_)
    refine pk_le k j (fun h => ?_) (fun h => ?_)
    · refine ⟨vp_in_nI (by omega) (by omega), nm_r (rt_up (v' := rt_e 0) j rfl) (nm_r (nI_1 j) (ih (j + 1) _ (by omega) (rt_ux hm ?_)))⟩
      rw [if_neg (by omega)]
    · have ex : (((4 * nI s) + nI k) - 1) - nI j = nI (4 * s + (k - 1 - j)) := by
        rw [rt_i4]
        show nI (4 * s + k) - nI 1 - nI j = _
        rw [pk_sub (by omega), pk_sub (by omega)]
        exact congrArg nI (by omega)
      refine ⟨pk_in (4 * s + (k - 1 - j)) 12 (by omega) ex, vp_in_nI (by omega) (by omega), nm_r (rt_up j (rt_rd (4 * s + (k - 1 - j)) (hR _ (by omega)) ex)) (nm_r (nI_1 j) (ih (j + 1) _ (by omega) (rt_ux hm ?_)))⟩
      rw [if_pos h]
theorem rx_takeRule {post : SX → Prop} {s k : Nat} {R : Nat → rt_F} (hs : s < 3) (hk : k ≤ 4) (hO : a_orders s = nI k) (hR : ∀ i, i < 12 → a_rules i = rt_e (R i))
    (H : ∀ m : Nat → Int32, (∀ j, j < 6 → m j = rt_e (if j < k then R (4 * s + (k - 1 - j)) else 0)) → post (f_size, a_orders, a_rules, a_firsts, m, a_head, a_power, a_square, a_product, a_terms, a_rule, a_older, a_kept, a_fresh)) :
    wpX_takeRule post (f_size, a_orders, a_rules, a_firsts, a_modulus, a_head, a_power, a_square, a_product, a_terms, a_rule, a_older, a_kept, a_fresh) (nI s) :=
  And.intro (vp_in_nI hs (by omega)) (nm_r (rt_rd s hO) ⟨7, rx_tr9 hs hk hR H 6 0 _ rfl (fun i hi => absurd hi (Nat.not_lt_zero i))⟩)
/-! squaring -/
theorem rx_sq172 {post : SX → Prop} {z : Nat} {D : Nat → rt_F} (hz : z ≤ 5) (hD : ∀ q, q < 10 → a_product q = rt_e (D q))
    (H : ∀ p : Nat → Int32, (∀ i, i < z → p i = rt_e (D i)) → post ((nI z), a_orders, a_rules, a_firsts, a_modulus, a_head, p, a_square, a_product, a_terms, a_rule, a_older, a_kept, a_fresh)) :
    ∀ (d j : Nat) (p : Nat → Int32), j + d = z → (∀ i, i < j → p i = rt_e (D i)) → wX_squarePower_172 post (nI z) (d + 1) (nI j) a_orders a_rules a_firsts a_modulus a_head p a_square a_product a_terms a_rule a_older a_kept a_fresh := by
  intro d
  induction d with
  | zero =>
    intro j p hj hp
    exact pk_le z j (fun _ => H p (fun i hi => hp i (by omega))) (fun h => absurd h (by omega))
  | succ d ih =>
    intro j p hj hp
    exact pk_le z j (fun h => absurd h (by omega)) (fun _ => ⟨vp_in_nI (by omega) (by omega), vp_in_nI (by omega) (by omega),
      nm_r (rt_up j (rt_rd j (hD j (by omega)))) (nm_r (nI_1 j) (ih (j + 1) _ (by omega) (rt_ux hp rfl)))⟩)
theorem rt_is {i z j : Nat} (h : z ≤ i) : (nI i - nI z) + nI j = nI (i - z + j) := by rw [pk_sub h, nI_add]
theorem rx_sq106 {post : SX → Prop} {J : Int32 → (Nat → Int32) → (Nat → Int32) → (Nat → Int32) → (Nat → Int32) → (Nat → Int32) → (Nat → Int32) → (Nat → Int32) → (Nat → Int32) → (Nat → Int32) → (Nat → Int32) → (Nat → Int32) → (Nat → Int32) → (Nat → Int32) → Prop} {z i : Nat} {M T D : Nat → rt_F} (hz : z ≤ 5) (hi : z ≤ i + 1) (hi2 : i + 1 < 10) (hz0 : 1 ≤ z)
    (hM : ∀ j, j < z → a_modulus j = rt_e (M j))
    (H : ∀ (pr : Nat → Int32) (D' : Nat → rt_F), (∀ q, q < 10 → pr q = rt_e (D' q)) →
      (∀ m, rt_S (i + 1) (fun q => D' q * T (q + m)) = rt_S (i + 1) (fun q => D q * T (q + m)) + D (i + 1) * rt_S z (fun j => M j * T (i + 1 - z + j + m))) → J (nI i) a_orders a_rules a_firsts a_modulus a_head a_power a_square pr a_terms a_rule a_older a_kept a_fresh) :
    ∀ (d j : Nat) (pr : Nat → Int32) (D' : Nat → rt_F), j + d = z → (∀ q, q < 10 → pr q = rt_e (D' q)) → D' (i + 1) = D (i + 1) →
      (∀ m, rt_S (i + 1) (fun q => D' q * T (q + m)) = rt_S (i + 1) (fun q => D q * T (q + m)) + D (i + 1) * rt_S j (fun j => M j * T (i + 1 - z + j + m))) →
      wX_squarePower_106 post J (nI (i + 1)) (nI z) (d + 1) (nI j) a_orders a_rules a_firsts a_modulus a_head a_power a_square pr a_terms a_rule a_older a_kept a_fresh := by
  intro d
  induction d with
  | zero =>
    intro j pr D' hj hp hd hs
    have e : j = z := by omega
    subst e
    exact pk_le j j (fun _ => nm_r (pk_m1 i) (H pr D' hp hs)) (fun h => absurd h (by omega))
  | succ d ih =>
    intro j pr D' hj hp hd hs
    have hlt : i + 1 - z + j < i + 1 := by omega
    refine pk_le z j (fun h => absurd h (by omega)) (fun _ => ⟨pk_in (i + 1 - z + j) 10 (by omega) (rt_is hi), vp_in_nI hi2 (by omega), vp_in_nI (by omega) (by omega), by decide, pk_in (i + 1 - z + j) 10 (by omega) (rt_is hi), ?_⟩)
    refine nm_r (rt_up (i + 1 - z + j) (rt_amE (rt_rd (i + 1 - z + j) (hp _ (by omega)) (rt_is hi)) (rt_rd (i + 1) (hp _ hi2)) (rt_rd j (hM j (by omega)))) (rt_is hi)) (nm_r (nI_1 j) (ih (j + 1) _ (fun q => if q = i + 1 - z + j then D' (i + 1 - z + j) + D' (i + 1) * M j else D' q) (by omega) (rt_uF hp) ?_ ?_))
    · show (if i + 1 = i + 1 - z + j then _ else D' (i + 1)) = _
      rw [if_neg (by omega), hd]
    · intro m
      rw [rt_Supd (D := D') (x := D' (i + 1) * M j) hlt (if_pos rfl) (fun q _ hne => if_neg hne), hs m, rt_Ss, hd]
      have q : ∀ a b c x y : rt_F, a + b * c + b * x * y = a + b * (c + x * y) := by intro a b c x y; grind
      exact q _ _ _ _ _
theorem rx_sq96 {post : SX → Prop} {z : Nat} {M T V : Nat → rt_F} (hz : z ≤ 5) (hz0 : 1 ≤ z) (hM : ∀ j, j < z → a_modulus j = rt_e (M j)) (hK : rt_Keep z M T)
    (H : ∀ (p pr : Nat → Int32) (D : Nat → rt_F), (∀ i, i < z → p i = rt_e (D i)) → (∀ m, V m = rt_S z (fun q => D q * T (q + m))) → post ((nI z), a_orders, a_rules, a_firsts, a_modulus, a_head, p, a_square, pr, a_terms, a_rule, a_older, a_kept, a_fresh)) :
    ∀ (c : Nat) (pr : Nat → Int32) (D : Nat → rt_F), z - 1 + c ≤ 2 * z - 2 → (∀ q, q < 10 → pr q = rt_e (D q)) → (∀ m, V m = rt_S (z - 1 + c + 1) (fun q => D q * T (q + m))) →
      wX_squarePower_96 post (nI z) (c + 1) (nI (z - 1 + c)) a_orders a_rules a_firsts a_modulus a_head a_power a_square pr a_terms a_rule a_older a_kept a_fresh := by
  intro c
  induction c with
  | zero =>
    intro pr D hc hp hs
    refine br_t (nI_lt (by omega) (by omega)) ⟨z + 1, rx_sq172 (D := D) hz hp (fun p h => H p pr D h (fun m => ?_)) z 0 _ (by omega) (fun i hi => absurd hi (Nat.not_lt_zero i))⟩
    rw [hs m, show z - 1 + 0 + 1 = z by omega]
  | succ c ih =>
    intro pr D hc hp hs
    refine br_f (nI_nlt (by omega) (by omega)) ⟨z + 1, rx_sq106 (T := T) (D := D) (i := z - 1 + c) hz (by omega) (by omega) hz0 hM (fun pr' D' hp' hs' => ih pr' D' (by omega) hp' (fun m => ?_)) z 0 pr D (by omega) hp rfl (fun m => ?_)⟩
    · rw [hs' m, hs m, show z - 1 + (c + 1) + 1 = (z - 1 + c + 1) + 1 by omega, rt_Ss]
      congr 2
      have e := hK (z - 1 + c + 1 - z + m)
      rw [show z + (z - 1 + c + 1 - z + m) = z - 1 + c + 1 + m by omega] at e
      rw [e]
      exact rt_Sc (fun j _ => by rw [show z - 1 + c + 1 - z + j + m = j + (z - 1 + c + 1 - z + m) by omega])
    · rw [rt_S0, rg_m0, rg_a0]
theorem rx_sq33 {post : SX → Prop} {J : Int32 → (Nat → Int32) → (Nat → Int32) → (Nat → Int32) → (Nat → Int32) → (Nat → Int32) → (Nat → Int32) → (Nat → Int32) → (Nat → Int32) → (Nat → Int32) → (Nat → Int32) → (Nat → Int32) → (Nat → Int32) → (Nat → Int32) → Prop} {z i : Nat} {P T W : Nat → rt_F} (hz : z ≤ 5) (hi : i < z)
    (hP : ∀ j, j < z → a_power j = rt_e (P j))
    (H : ∀ (pr : Nat → Int32) (D : Nat → rt_F), (∀ q, q < 10 → pr q = rt_e (D q)) →
      (∀ m, rt_S (2 * z - 1) (fun q => D q * T (q + m)) = W m + P i * rt_S z (fun j => P j * T (i + j + m))) → J (nI (i + 1)) a_orders a_rules a_firsts a_modulus a_head a_power a_square pr a_terms a_rule a_older a_kept a_fresh) :
    ∀ (d j : Nat) (pr : Nat → Int32) (D : Nat → rt_F), j + d = z → (∀ q, q < 10 → pr q = rt_e (D q)) →
      (∀ m, rt_S (2 * z - 1) (fun q => D q * T (q + m)) = W m + P i * rt_S j (fun j => P j * T (i + j + m))) →
      wX_squarePower_33 post J (nI i) (nI z) (d + 1) (nI j) a_orders a_rules a_firsts a_modulus a_head a_power a_square pr a_terms a_rule a_older a_kept a_fresh := by
  intro d
  induction d with
  | zero =>
    intro j pr D hj hp hs
    have e : j = z := by omega
    subst e
    exact pk_le j j (fun _ => nm_r (nI_1 i) (H pr D hp hs)) (fun h => absurd h (by omega))
  | succ d ih =>
    intro j pr D hj hp hs
    refine pk_le z j (fun h => absurd h (by omega)) (fun _ => ⟨pk_in (i + j) 10 (by omega) (nI_add i j), vp_in_nI (by omega) (by omega), vp_in_nI (by omega) (by omega), by decide, pk_in (i + j) 10 (by omega) (nI_add i j), ?_⟩)
    refine nm_r (rt_up (i + j) (rt_amE (rt_rd (i + j) (hp _ (by omega)) (nI_add i j)) (rt_rd i (hP i hi)) (rt_rd j (hP j (by omega)))) (nI_add i j)) (nm_r (nI_1 j) (ih (j + 1) _ (fun q => if q = i + j then D (i + j) + P i * P j else D q) (by omega) (rt_uF hp) ?_))
    intro m
    rw [rt_Supd (D := D) (x := P i * P j) (p := i + j) (by omega) (if_pos rfl) (fun q _ hne => if_neg hne), hs m, rt_Ss]
    have q : ∀ a b c x y : rt_F, a + b * c + b * x * y = a + b * (c + x * y) := by intro a b c x y; grind
    exact q _ _ _ _ _
theorem rx_sq23 {post : SX → Prop} {z n : Nat} {M P T : Nat → rt_F} (hz : z ≤ 5) (hz0 : 1 ≤ z) (hM : ∀ j, j < z → a_modulus j = rt_e (M j)) (hP : ∀ j, j < z → a_power j = rt_e (P j)) (hK : rt_Keep z M T) (hR : rt_Rep z P T n)
    (H : ∀ (p pr : Nat → Int32) (P' : Nat → rt_F), (∀ i, i < z → p i = rt_e (P' i)) → rt_Rep z P' T (2 * n) → post ((nI z), a_orders, a_rules, a_firsts, a_modulus, a_head, p, a_square, pr, a_terms, a_rule, a_older, a_kept, a_fresh)) :
    ∀ (d i : Nat) (pr : Nat → Int32) (D : Nat → rt_F), i + d = z → (∀ q, q < 10 → pr q = rt_e (D q)) →
      (∀ m, rt_S (2 * z - 1) (fun q => D q * T (q + m)) = rt_S i (fun i => P i * rt_S z (fun j => P j * T (i + j + m)))) →
      wX_squarePower_23 post (nI z) (d + 1) (nI i) a_orders a_rules a_firsts a_modulus a_head a_power a_square pr a_terms a_rule a_older a_kept a_fresh := by
  intro d
  induction d with
  | zero =>
    intro i pr D hi hp hs
    have e : i = z := by omega
    subst e
    have ex : 2 * nI i - 2 = nI (i - 1 + (i - 1)) := by
      show nI 2 * nI i - nI 2 = _
      rw [pk_mul, pk_sub (by omega)]
      exact congrArg nI (by omega)
    refine pk_le i i (fun _ => nm_r ex ⟨i - 1 + 1, rx_sq96 (V := fun m => T (2 * n + m)) hz hz0 hM hK (fun p pr' D' h1 h2 => H p pr' D' h1 h2) (i - 1) pr D (by omega) hp (fun m => ?_)⟩) (fun h => absurd h (by omega))
    rw [show i - 1 + (i - 1) + 1 = 2 * i - 1 by omega, hs m]
    exact rt_repS hR m
  | succ d ih =>
    intro i pr D hi hp hs
    refine pk_le z i (fun h => absurd h (by omega)) (fun _ => ⟨z + 1, rx_sq33 (T := T) (W := fun m => rt_S i (fun i => P i * rt_S z (fun j => P j * T (i + j + m)))) hz (by omega) hP (fun pr' D' hp' hs' => ih (i + 1) pr' D' (by omega) hp' (fun m => ?_)) z 0 pr D (by omega) hp (fun m => ?_)⟩)
    · rw [hs' m, rt_Ss]
    · rw [hs m, rt_S0, rg_m0, rg_a0]
theorem rx_sq2 {post : SX → Prop} {z n : Nat} {M P T : Nat → rt_F} (hz : z ≤ 5) (hz0 : 1 ≤ z) (hM : ∀ j, j < z → a_modulus j = rt_e (M j)) (hP : ∀ j, j < z → a_power j = rt_e (P j)) (hK : rt_Keep z M T) (hR : rt_Rep z P T n)
    (H : ∀ (p pr : Nat → Int32) (P' : Nat → rt_F), (∀ i, i < z → p i = rt_e (P' i)) → rt_Rep z P' T (2 * n) → post ((nI z), a_orders, a_rules, a_firsts, a_modulus, a_head, p, a_square, pr, a_terms, a_rule, a_older, a_kept, a_fresh)) :
    ∀ (d i : Nat) (pr : Nat → Int32), i + d = 10 → (∀ q, q < i → pr q = rt_e 0) → wX_squarePower_2 post (nI z) (d + 1) (nI i) a_orders a_rules a_firsts a_modulus a_head a_power a_square pr a_terms a_rule a_older a_kept a_fresh := by
  intro d
  induction d with
  | zero =>
    intro i pr hi hp
    refine pk_le 10 i (fun _ => ⟨z + 1, rx_sq23 hz hz0 hM hP hK hR H z 0 pr (fun _ => 0) (by omega) (fun q hq => hp q (by omega)) (fun m => ?_)⟩) (fun h => absurd h (by omega))
    rw [rt_Sz (fun q _ => rg_0m _), rt_S0]
  | succ d ih =>
    intro i pr hi hp
    exact pk_le 10 i (fun h => absurd h (by omega)) (fun _ => ⟨vp_in_nI (by omega) (by omega), nm_r (rt_up (v' := rt_e 0) i rfl) (nm_r (nI_1 i) (ih (i + 1) _ (by omega) (rt_ux hp rfl)))⟩)
theorem rx_squarePower {post : SX → Prop} {z n : Nat} {M P T : Nat → rt_F} (hz : z ≤ 5) (hz0 : 1 ≤ z) (hM : ∀ j, j < z → a_modulus j = rt_e (M j)) (hP : ∀ j, j < z → a_power j = rt_e (P j)) (hK : rt_Keep z M T) (hR : rt_Rep z P T n)
    (H : ∀ (p pr : Nat → Int32) (P' : Nat → rt_F), (∀ i, i < z → p i = rt_e (P' i)) → rt_Rep z P' T (2 * n) → post ((nI z), a_orders, a_rules, a_firsts, a_modulus, a_head, p, a_square, pr, a_terms, a_rule, a_older, a_kept, a_fresh)) :
    wpX_squarePower post ((nI z), a_orders, a_rules, a_firsts, a_modulus, a_head, a_power, a_square, a_product, a_terms, a_rule, a_older, a_kept, a_fresh) :=
  Exists.intro 11 (rx_sq2 hz hz0 hM hP hK hR H 10 0 _ rfl (fun i hi => absurd hi (Nat.not_lt_zero i)))
/-! times X -/
theorem rx_tx19 {post : SX → Prop} {z : Nat} {M P : Nat → rt_F} (hz : z ≤ 5) (hM : ∀ j, j < z → a_modulus j = rt_e (M j))
    (H : ∀ p : Nat → Int32, (∀ i, i < z → p i = rt_e (rt_tx z M P i)) → post ((nI z), a_orders, a_rules, a_firsts, a_modulus, a_head, p, a_square, a_product, a_terms, a_rule, a_older, a_kept, a_fresh)) :
    ∀ (c : Nat) (x : Int32) (p : Nat → Int32), x = nI c + (-1) → c ≤ z → (∀ i, i < c → p i = rt_e (P i)) → (∀ i, c ≤ i → i < z → p i = rt_e (rt_tx z M P i)) →
      wX_timesX_19 post (rt_e (P (z - 1))) (nI z) (c + 1) x a_orders a_rules a_firsts a_modulus a_head p a_square a_product a_terms a_rule a_older a_kept a_fresh := by
  intro c
  induction c with
  | zero =>
    intro x p hx hc h1 h2
    subst hx
    exact br_t (by decide) (H p (fun i hi => h2 i (by omega) hi))
  | succ c ih =>
    intro x p hx hc h1 h2
    rw [pk_m1] at hx
    subst hx
    refine br_f (nI_pos (by omega)) ?_
    have key : ∀ v : Int32, v = rt_e (if c = 0 then 0 else P (c - 1)) → wX_timesX_39 post (wX_timesX_19 post (rt_e (P (z - 1))) (nI z) (c + 1)) (rt_e (P (z - 1))) (nI c) v (nI z) a_orders a_rules a_firsts a_modulus a_head p a_square a_product a_terms a_rule a_older a_kept a_fresh := by
      intro v hv
      refine And.intro (vp_in_nI (by omega) (by omega)) ⟨by decide, vp_in_nI (by omega) (by omega), nm_r (rt_up c (rt_amE hv rfl (rt_rd c (hM c (by omega))))) (nm_e (ih _ _ rfl (by omega) (fun i hi => ?_) (fun i hi hi' => ?_)))⟩
      · rw [pk_un (by omega)]
        exact h1 i (by omega)
      · by_cases y : i = c
        · subst y
          rw [pk_us]
          rfl
        · rw [pk_un y]
          exact h2 i (by omega) hi'
    refine pk_le c 0 (fun h => key 0 ?_) (fun h => ⟨pk_in (c - 1) 5 (by omega) (pk_sub (b := 1) (by omega)), key _ ?_⟩)
    · rw [if_pos (by omega)]; rfl
    · rw [if_neg (by omega)]
      exact rt_rd (c - 1) (h1 (c - 1) (by omega)) (pk_sub (b := 1) (by omega))
theorem rx_timesX {post : SX → Prop} {z n : Nat} {M P T : Nat → rt_F} (hz : z ≤ 5) (hz0 : 1 ≤ z) (hM : ∀ j, j < z → a_modulus j = rt_e (M j)) (hP : ∀ j, j < z → a_power j = rt_e (P j)) (hK : rt_Keep z M T) (hR : rt_Rep z P T n)
    (H : ∀ (p : Nat → Int32) (P' : Nat → rt_F), (∀ i, i < z → p i = rt_e (P' i)) → rt_Rep z P' T (n + 1) → post ((nI z), a_orders, a_rules, a_firsts, a_modulus, a_head, p, a_square, a_product, a_terms, a_rule, a_older, a_kept, a_fresh)) :
    wpX_timesX post ((nI z), a_orders, a_rules, a_firsts, a_modulus, a_head, a_power, a_square, a_product, a_terms, a_rule, a_older, a_kept, a_fresh) := by
  have ex : nI z - 1 = nI (z - 1) := pk_sub (b := 1) hz0
  refine And.intro (pk_in (z - 1) 5 (by omega) ex) (nm_r (rt_rd (z - 1) (hP (z - 1) (by omega)) ex) (nm_r ex ⟨z + 1, rx_tx19 hz hM (fun p hp => H p _ hp (rt_repX hz0 hK hR)) z _ _ ?_ (Nat.le_refl z) hP (fun i h1 h2 => absurd h2 (by omega))⟩))
  obtain ⟨y, rfl⟩ : ∃ y, z = y + 1 := ⟨z - 1, by omega⟩
  exact (pk_m1 y).symm
/-! X to the power n -/
theorem rx_ra38 {post : SX → Prop} {z n : Nat} {M T : Nat → rt_F} (hz : z ≤ 5) (hn : n < 2 ^ 31) (hM : ∀ j, j < z → a_modulus j = rt_e (M j)) (hK : rt_Keep z M T)
    (H : ∀ (p pr : Nat → Int32) (P : Nat → rt_F), (∀ i, i < z → p i = rt_e (P i)) → rt_Rep z P T n → post ((nI z), a_orders, a_rules, a_firsts, a_modulus, a_head, p, a_square, pr, a_terms, a_rule, a_older, a_kept, a_fresh)) :
    ∀ (c : Nat) (x : Int32) (p pr : Nat → Int32) (P : Nat → rt_F), x = nI c + (-1) → c ≤ 31 → (∀ i, i < z → p i = rt_e (P i)) → rt_Rep z P T (n / 2 ^ c) →
      wX_raise_38 post (nI n) (c + 1) x (nI z) a_orders a_rules a_firsts a_modulus a_head p a_square pr a_terms a_rule a_older a_kept a_fresh := by
  intro c
  induction c with
  | zero =>
    intro x p pr P hx hc hp hR
    subst hx
    exact br_t (by decide) (H p pr P hp (by rw [Nat.pow_zero, Nat.div_one] at hR; exact hR))
  | succ c ih =>
    intro x p pr P hx hc hp hR
    rw [pk_m1] at hx
    subst hx
    refine br_f (nI_pos (by omega)) (pk_le z 0 (fun h => H p pr P hp ?_) (fun h => ?_))
    · have e : z = 0 := by omega
      subst e
      intro m
      have := hK (n + m)
      rw [Nat.zero_add] at this
      exact this
    · refine rx_squarePower hz (by omega) hM hp hK hR (fun p' pr' P' hp' hR' => ?_)
      refine pk_eq (n / 2 ^ c % 2) 1 (fun hb => ?_) (fun hb => ?_) (rt_bit hn (by omega)) rfl (by omega) (by omega)
      · refine rx_timesX hz (by omega) hM hp' hK hR' (fun p2 P2 hp2 hR2 => nm_e (ih _ p2 pr' P2 rfl (by omega) hp2 ?_))
        rw [rt_half n c, hb]
        exact hR2
      · refine nm_e (ih _ p' pr' P' rfl (by omega) hp' ?_)
        rw [rt_half n c, show n / 2 ^ c % 2 = 0 by omega]
        exact hR'
theorem rx_ra2 {post : SX → Prop} {z n : Nat} {M T : Nat → rt_F} (hz : z ≤ 5) (hn : n < 2 ^ 31) (hM : ∀ j, j < z → a_modulus j = rt_e (M j)) (hK : rt_Keep z M T)
    (H : ∀ (p pr : Nat → Int32) (P : Nat → rt_F), (∀ i, i < z → p i = rt_e (P i)) → rt_Rep z P T n → post ((nI z), a_orders, a_rules, a_firsts, a_modulus, a_head, p, a_square, pr, a_terms, a_rule, a_older, a_kept, a_fresh)) :
    ∀ (d j : Nat) (p : Nat → Int32), j + d = 5 → (0 < z → ∀ i, i < j → p i = rt_e (if i = 0 then 1 else 0)) → wX_raise_2 post (nI n) (nI z) (d + 1) (nI j) a_orders a_rules a_firsts a_modulus a_head p a_square a_product a_terms a_rule a_older a_kept a_fresh := by
  intro d
  induction d with
  | zero =>
    intro j p hj hp
    refine pk_le 5 j (fun _ => ⟨32, ?_⟩) (fun h => absurd h (by omega))
    by_cases z0 : z = 0
    · subst z0
      refine rx_ra38 hz hn hM hK H 31 _ p _ (fun _ => 0) rfl (by omega) (fun i hi => absurd hi (Nat.not_lt_zero i)) (fun m => ?_)
      have := hK (n / 2 ^ 31 + m)
      rw [Nat.zero_add] at this
      exact this
    · refine rx_ra38 hz hn hM hK H 31 _ p _ (fun i => if i = 0 then 1 else 0) rfl (by omega) (fun i hi => hp (by omega) i (by omega)) ?_
      rw [Nat.div_eq_of_lt hn]
      exact rt_rep0 (by omega) (if_pos rfl) (fun i h1 _ => if_neg (by omega))
  | succ d ih =>
    intro j p hj hp
    refine pk_le 5 j (fun h => absurd h (by omega)) (fun _ => pk_eq j 0 (fun h => pk_le z 0 (fun h2 => ?_) (fun h2 => ?_)) (fun h => ?_))
    · exact ⟨vp_in_nI (by omega) (by omega), nm_r (rt_up (v' := rt_e 0) j rfl) (nm_r (nI_1 j) (ih (j + 1) _ (by omega) (fun h3 => absurd h3 (by omega))))⟩
    · exact ⟨vp_in_nI (by omega) (by omega), nm_r (rt_up (v' := rt_e 1) j rfl) (nm_r (nI_1 j) (ih (j + 1) _ (by omega) (fun h3 => rt_ux (hp h3) (by rw [if_pos h]))))⟩
    · exact ⟨vp_in_nI (by omega) (by omega), nm_r (rt_up (v' := rt_e 0) j rfl) (nm_r (nI_1 j) (ih (j + 1) _ (by omega) (fun h3 => rt_ux (hp h3) (by rw [if_neg h]))))⟩
theorem rx_raise {post : SX → Prop} {z n : Nat} {M T : Nat → rt_F} (hz : z ≤ 5) (hn : n < 2 ^ 31) (hM : ∀ j, j < z → a_modulus j = rt_e (M j)) (hK : rt_Keep z M T)
    (H : ∀ (p pr : Nat → Int32) (P : Nat → rt_F), (∀ i, i < z → p i = rt_e (P i)) → rt_Rep z P T n → post ((nI z), a_orders, a_rules, a_firsts, a_modulus, a_head, p, a_square, pr, a_terms, a_rule, a_older, a_kept, a_fresh)) :
    wpX_raise post ((nI z), a_orders, a_rules, a_firsts, a_modulus, a_head, a_power, a_square, a_product, a_terms, a_rule, a_older, a_kept, a_fresh) (nI n) :=
  Exists.intro 6 (rx_ra2 hz hn hM hK H 5 0 _ rfl (fun _ i hi => absurd hi (Nat.not_lt_zero i)))
/-! a term -/
theorem rx_ta44 {post : Int32 → SX → Prop} {s z : Nat} {P Q : Nat → rt_F} (hs : s < 3) (hz : z ≤ 4) (hP : ∀ j, j < z → a_power j = rt_e (P j)) (hQ : ∀ i, i < 12 → a_firsts i = rt_e (Q i))
    (H : post (rt_e (rt_S z (fun i => P i * Q (4 * s + i)))) ((nI z), a_orders, a_rules, a_firsts, a_modulus, a_head, a_power, a_square, a_product, a_terms, a_rule, a_older, a_kept, a_fresh)) :
    ∀ (d i : Nat) (x : Int32), i + d = z → x = rt_e (rt_S i (fun i => P i * Q (4 * s + i))) → wX_termAt_44 post (nI s) (nI z) a_orders a_rules a_firsts a_modulus a_head a_power a_square a_product a_terms a_rule a_older a_kept a_fresh (d + 1) x (nI i) := by
  intro d
  induction d with
  | zero =>
    intro i x hi hx
    have e : i = z := by omega
    subst e
    subst hx
    exact pk_le i i (fun _ => H) (fun h => absurd h (by omega))
  | succ d ih =>
    intro i x hi hx
    exact pk_le z i (fun h => absurd h (by omega)) (fun _ => ⟨vp_in_nI (by omega) (by omega), pk_in (4 * s + i) 12 (by omega) (rt_i4 s i), by decide,
      nm_e (nm_r (nI_1 i) (ih (i + 1) _ (by omega) (rt_amE hx (rt_rd i (hP i (by omega))) (rt_rd (4 * s + i) (hQ _ (by omega)) (rt_i4 s i)))))⟩)
theorem rx_termAt {post : Int32 → SX → Prop} {o : Nat → Nat} {R Q : Nat → rt_F} {s n : Nat} (hS : rt_St o R Q a_orders a_rules a_firsts) (hs : s < 3) (hn : n < 2 ^ 31)
    (H : ∀ (sz : Int32) (m p pr : Nat → Int32), post (rt_e (rt_U o R Q s n)) (sz, a_orders, a_rules, a_firsts, m, a_head, p, a_square, pr, a_terms, a_rule, a_older, a_kept, a_fresh)) :
    wpX_termAt post (f_size, a_orders, a_rules, a_firsts, a_modulus, a_head, a_power, a_square, a_product, a_terms, a_rule, a_older, a_kept, a_fresh) (nI s) (nI n) := by
  obtain ⟨h1, h2, h3, h4, h5⟩ := hS
  refine And.intro (vp_in_nI hs (by omega)) (nm_r (rt_rd s (h1 s hs)) ?_)
  have h4s := h4 s hs
  refine pk_le (o s) n (fun h => ?_) (fun h => ?_)
  · refine rx_takeRule hs h4s (h1 s hs) h2 (fun m hm => ?_)
    refine rx_raise (M := fun j => R (4 * s + (o s - 1 - j))) (T := rt_U o R Q s) (by omega) hn (fun j hj => by rw [hm j (by omega), if_pos hj]) rt_Tkeep (fun p pr P hp hR => ?_)
    refine ⟨o s + 1, rx_ta44 hs h4s hp h3 ?_ (o s) 0 0 (by omega) rfl⟩
    have e := hR 0
    rw [Nat.add_zero] at e
    have e2 : rt_S (o s) (fun i => P i * Q (4 * s + i)) = rt_U o R Q s n := by
      rw [e]
      exact rt_Sc (fun i hi => by rw [Nat.add_zero, rt_Ulo hi])
    rw [e2]
    exact H _ _ _ _
  · refine ⟨pk_in (4 * s + n) 12 (by omega) (rt_i4 s n), ?_⟩
    have e : a_firsts ((4 * nI s) + nI n).toNatClampNeg = rt_e (rt_U o R Q s n) := rt_rd (4 * s + n) (by rw [rt_Ulo h]; exact h3 _ (by omega)) (rt_i4 s n)
    rw [e]
    exact H _ _ _ _
end
end
section
/-! the component: sums -/
section
variable {f_size : Int32} {a_orders a_rules a_firsts a_modulus a_head a_power a_square a_product a_terms a_rule a_older a_kept a_fresh : Nat → Int32}
theorem rx_tl81 {post : SX → Prop} {k : Nat} {M : Nat → rt_F} (hk : k ≤ 4) (hq : ∀ j, j < k + 1 → a_square j = rt_e (M j))
    (H : ∀ m : Nat → Int32, (∀ j, j < k + 1 → m j = rt_e (M j)) → post (f_size, a_orders, a_rules, a_firsts, m, a_head, a_power, a_square, a_product, a_terms, a_rule, a_older, a_kept, a_fresh)) :
    ∀ (d j : Nat) (m : Nat → Int32), j + d = k + 1 → (∀ i, i < j → m i = rt_e (M i)) → wX_timesLess_81 post (nI k) f_size (d + 1) (nI j) a_orders a_rules a_firsts m a_head a_power a_square a_product a_terms a_rule a_older a_kept a_fresh := by
  intro d
  induction d with
  | zero =>
    intro j m hj hm
    exact pk_lt k j (fun _ => H m (fun i hi => hm i (by omega))) (fun h => absurd h (by omega))
  | succ d ih =>
    intro j m hj hm
    exact pk_lt k j (fun h => absurd h (by omega)) (fun _ => ⟨vp_in_nI (by omega) (by omega), vp_in_nI (by omega) (by omega), nm_r (rt_up j (rt_rd j (hq j (by omega)))) (nm_r (nI_1 j) (ih (j + 1) _ (by omega) (rt_ux hm rfl)))⟩)
theorem rx_tl2 {post : SX → Prop} {k : Nat} {M : Nat → rt_F} (hk : k ≤ 4) (hM : ∀ j, j < 6 → a_modulus j = rt_e (M j))
    (H : ∀ m q : Nat → Int32, (∀ j, j < k + 1 → m j = rt_e (rt_tl k M j)) → post (f_size, a_orders, a_rules, a_firsts, m, a_head, a_power, q, a_product, a_terms, a_rule, a_older, a_kept, a_fresh)) :
    ∀ (c : Nat) (x : Int32) (q : Nat → Int32), x = nI c + (-1) → c ≤ k + 1 → (∀ i, c ≤ i → i < k + 1 → q i = rt_e (rt_tl k M i)) →
      wX_timesLess_2 post (nI k) f_size (c + 1) x a_orders a_rules a_firsts a_modulus a_head a_power q a_product a_terms a_rule a_older a_kept a_fresh := by
  intro c
  induction c with
  | zero =>
    intro x q hx hc h2
    subst hx
    exact br_t (by decide) ⟨k + 2, rx_tl81 (M := rt_tl k M) hk (fun j hj => h2 j (by omega) hj) (fun m hm => H m q hm) (k + 1) 0 _ (by omega) (fun i hi => absurd hi (Nat.not_lt_zero i))⟩
  | succ c ih =>
    intro x q hx hc h2
    rw [pk_m1] at hx
    subst hx
    refine br_f (nI_pos (by omega)) ?_
    have k50 : ∀ (x3 x4 x5 : Int32), x3 = rt_e (if 0 < c then M (c - 1) else 0) → x4 = rt_e (if c < k then M c else 0) → x5 = rt_e (if c = k then 1 else 0) →
        wX_timesLess_50 post (wX_timesLess_2 post (nI k) f_size (c + 1)) (nI k) (nI c) x3 x4 x5 f_size a_orders a_rules a_firsts a_modulus a_head a_power q a_product a_terms a_rule a_older a_kept a_fresh := by
      intro x3 x4 x5 e3 e4 e5
      refine And.intro (by decide) ⟨vp_in_nI (by omega) (by omega), nm_r (rt_up c (rt_tlE e3 e4 e5)) (nm_e (ih _ _ rfl (by omega) (fun i hi hi' => ?_)))⟩
      by_cases y : i = c
      · subst y
        rw [pk_us]
        rfl
      · rw [pk_un y]
        exact h2 i (by omega) hi'
    have k38 : ∀ (x3 x4 : Int32), x3 = rt_e (if 0 < c then M (c - 1) else 0) → x4 = rt_e (if c < k then M c else 0) →
        wX_timesLess_38 post (wX_timesLess_2 post (nI k) f_size (c + 1)) (nI k) (nI c) x3 x4 f_size a_orders a_rules a_firsts a_modulus a_head a_power q a_product a_terms a_rule a_older a_kept a_fresh := by
      intro x3 x4 e3 e4
      exact pk_eq c k (fun h => k50 x3 x4 1 e3 e4 (by rw [if_pos h]; rfl)) (fun h => k50 x3 x4 0 e3 e4 (by rw [if_neg h]; rfl))
    have k22 : ∀ (x3 : Int32), x3 = rt_e (if 0 < c then M (c - 1) else 0) →
        wX_timesLess_22 post (wX_timesLess_2 post (nI k) f_size (c + 1)) (nI k) (nI c) x3 f_size a_orders a_rules a_firsts a_modulus a_head a_power q a_product a_terms a_rule a_older a_kept a_fresh := by
      intro x3 e3
      refine pk_le k c (fun h => k38 x3 0 e3 (by rw [if_neg (by omega)]; rfl)) (fun h => ⟨vp_in_nI (by omega) (by omega), k38 x3 _ e3 ?_⟩)
      rw [if_pos h]
      exact rt_rd c (hM c (by omega))
    refine pk_le c 0 (fun h => k22 0 (by rw [if_neg (by omega)]; rfl)) (fun h => ⟨pk_in (c - 1) 6 (by omega) (pk_sub (b := 1) (by omega)), k22 _ ?_⟩)
    rw [if_pos h]
    exact rt_rd (c - 1) (hM (c - 1) (by omega)) (pk_sub (b := 1) (by omega))
theorem rx_timesLess {post : SX → Prop} {k : Nat} {M : Nat → rt_F} (hk : k ≤ 4) (hM : ∀ j, j < 6 → a_modulus j = rt_e (M j))
    (H : ∀ m q : Nat → Int32, (∀ j, j < k + 1 → m j = rt_e (rt_tl k M j)) → post (f_size, a_orders, a_rules, a_firsts, m, a_head, a_power, q, a_product, a_terms, a_rule, a_older, a_kept, a_fresh)) : wpX_timesLess post (f_size, a_orders, a_rules, a_firsts, a_modulus, a_head, a_power, a_square, a_product, a_terms, a_rule, a_older, a_kept, a_fresh) (nI k) :=
  Exists.intro (k + 2) (rx_tl2 hk hM H (k + 1) (nI k) _ (pk_m1 k).symm (Nat.le_refl _) (fun i h1 h2 => absurd h2 (by omega)))
theorem rx_ft9 {post : Int32 → SX → Prop} {z : Nat} {P G : Nat → rt_F} (hz : z ≤ 5) (hP : ∀ j, j < z → a_power j = rt_e (P j)) (hG : ∀ i, i < z → a_head i = rt_e (G i))
    (H : post (rt_e (rt_S z (fun i => P i * G i))) ((nI z), a_orders, a_rules, a_firsts, a_modulus, a_head, a_power, a_square, a_product, a_terms, a_rule, a_older, a_kept, a_fresh)) :
    ∀ (d i : Nat) (x : Int32), i + d = z → x = rt_e (rt_S i (fun i => P i * G i)) → wX_farTerm_9 post (nI z) a_orders a_rules a_firsts a_modulus a_head a_power a_square a_product a_terms a_rule a_older a_kept a_fresh (d + 1) x (nI i) := by
  intro d
  induction d with
  | zero =>
    intro i x hi hx
    have e : i = z := by omega
    subst e
    subst hx
    exact pk_le i i (fun _ => H) (fun h => absurd h (by omega))
  | succ d ih =>
    intro i x hi hx
    exact pk_le z i (fun h => absurd h (by omega)) (fun _ => ⟨vp_in_nI (by omega) (by omega), vp_in_nI (by omega) (by omega), by decide,
      nm_e (nm_r (nI_1 i) (ih (i + 1) _ (by omega) (rt_amE hx (rt_rd i (hP i (by omega))) (rt_rd i (hG i (by omega))))))⟩)
theorem rx_farTerm {post : Int32 → SX → Prop} {z n : Nat} {M G : Nat → rt_F} (hz : z ≤ 5) (hn : n < 2 ^ 31) (hM : ∀ j, j < z → a_modulus j = rt_e (M j)) (hK : rt_Keep z M G) (hG : ∀ i, i < z → a_head i = rt_e (G i))
    (H : ∀ p pr : Nat → Int32, post (rt_e (G n)) ((nI z), a_orders, a_rules, a_firsts, a_modulus, a_head, p, a_square, pr, a_terms, a_rule, a_older, a_kept, a_fresh)) : wpX_farTerm post ((nI z), a_orders, a_rules, a_firsts, a_modulus, a_head, a_power, a_square, a_product, a_terms, a_rule, a_older, a_kept, a_fresh) (nI n) := by
  unfold wpX_farTerm
  refine rx_raise hz hn hM hK (fun p pr P hp hR => ?_)
  refine ⟨z + 1, rx_ft9 hz hp hG ?_ z 0 0 (by omega) rfl⟩
  have e := hR 0
  rw [Nat.add_zero] at e
  have e2 : rt_S z (fun i => P i * G i) = G n := by
    rw [e]
    exact rt_Sc (fun i _ => by rw [Nat.add_zero])
  rw [e2]
  exact H p pr
theorem rx_su35 {post : Int32 → SX → Prop} {o : Nat → Nat} {R Q : Nat → rt_F} {s n : Nat} (hS : rt_St o R Q a_orders a_rules a_firsts) (hs : s < 3) (hn : n < 2 ^ 31)
    (H : ∀ (sz : Int32) (m h p q pr : Nat → Int32), post (rt_e (rt_S (n + 1) (rt_U o R Q s))) (sz, a_orders, a_rules, a_firsts, m, h, p, q, pr, a_terms, a_rule, a_older, a_kept, a_fresh)) :
    ∀ (d i : Nat) (x sz : Int32) (m h p pr : Nat → Int32), i + d = o s + 1 → x = rt_e (rt_S i (rt_U o R Q s)) → (∀ j, j < i → h j = rt_e (rt_S (j + 1) (rt_U o R Q s))) →
      wX_sum_35 post (nI s) (nI n) (nI (o s)) (d + 1) x (nI i) sz a_orders a_rules a_firsts m h p a_square pr a_terms a_rule a_older a_kept a_fresh := by
  have h4s := hS.2.2.2.1 s hs
  intro d
  induction d with
  | zero =>
    intro i x sz m h p pr hi hx hh
    refine pk_lt (o s) i (fun _ => ?_) (fun h => absurd h (by omega))
    refine rx_takeRule hs h4s (hS.1 s hs) hS.2.1 (fun m' hm' => ?_)
    refine rx_timesLess h4s hm' (fun m2 q2 hm2 => nm_r (nI_1 (o s)) ?_)
    have hKeep : rt_Keep (o s) (fun j => if j < o s then R (4 * s + (o s - 1 - j)) else 0) (rt_U o R Q s) := by
      intro m3
      have e := rt_Tkeep (k := o s) (r := fun i => R (4 * s + i)) (f := fun i => Q (4 * s + i)) m3
      refine e.trans (rt_Sc (fun j hj => ?_))
      show R (4 * s + (o s - 1 - j)) * rt_U o R Q s (j + m3) = (if j < o s then R (4 * s + (o s - 1 - j)) else 0) * rt_U o R Q s (j + m3)
      rw [if_pos hj]
    exact rx_farTerm (G := fun j => rt_S (j + 1) (rt_U o R Q s)) (by omega) hn hm2 (rt_Gkeep hKeep) (fun j hj => hh j (by omega)) (fun p2 pr2 => H _ _ _ _ _ _)
  | succ d ih =>
    intro i x sz m h p pr hi hx hh
    refine pk_lt (o s) i (fun h => absurd h (by omega)) (fun _ => ?_)
    refine rx_termAt hS hs (by omega) (fun sz2 m2 p2 pr2 => ⟨by decide, nm_r (rt_aE hx rfl) ⟨vp_in_nI (by omega) (by omega), nm_r (rt_up i rfl) (nm_r (nI_1 i) (ih (i + 1) _ _ _ _ _ _ (by omega) rfl (rt_ux hh rfl)))⟩⟩)
theorem rx_sum {post : Int32 → SX → Prop} {o : Nat → Nat} {R Q : Nat → rt_F} {s n : Nat} (hS : rt_St o R Q a_orders a_rules a_firsts) (hs : s < 3) (hn : n ≤ 1000000)
    (H : ∀ (sz : Int32) (m h p q pr : Nat → Int32), post (rt_e (rt_S (n + 1) (rt_U o R Q s))) (sz, a_orders, a_rules, a_firsts, m, h, p, q, pr, a_terms, a_rule, a_older, a_kept, a_fresh)) :
    ∃ n35 : Nat, wX_sum_35 post (nI s) (nI n) (nI (o s)) n35 0 0 f_size a_orders a_rules a_firsts a_modulus a_head a_power a_square a_product a_terms a_rule a_older a_kept a_fresh :=
  ⟨o s + 2, rx_su35 hS hs (by omega) H (o s + 1) 0 0 _ _ _ _ _ (by omega) rfl (fun i hi => absurd hi (Nat.not_lt_zero i))⟩
end
end
section
/-! the component: the shortest rule -/
theorem rt_invX {post : Int32 → Prop} {a : rt_F} (H : post (rt_e (rt_inv a))) : wpX_inverse post (rt_e a) := by
  have stp : ∀ (n : Nat) (x b : rt_F) (c : Nat), c < 10 → wX_inverse_11 post 995 n (rt_e (if 995 / 2 ^ c % 2 = 1 then x * b else x)) (rt_e (b * b)) (nI (c + 1)) → wX_inverse_11 post 995 (n + 1) (rt_e x) (rt_e b) (nI c) := by
    intro n x b c hc h
    refine pk_le 10 c (fun h => absurd h (by omega)) (fun _ => ?_)
    refine pk_eq (995 / 2 ^ c % 2) 1 (fun hb => ?_) (fun hb => ?_) (rt_bit (n := 995) (by omega) (by omega)) rfl (by omega) (by omega)
    · rw [if_pos hb] at h
      exact ⟨by decide, nm_r (rt_mE rfl rfl) (And.intro (by decide) (nm_r (rt_mE rfl rfl) (nm_r (nI_1 c) h)))⟩
    · rw [if_neg hb] at h
      exact And.intro (by decide) (nm_r (rt_mE rfl rfl) (nm_r (nI_1 c) h))
  refine Exists.intro 11 (stp 10 1 a 0 (by omega) ?_)
  refine stp 9 _ _ 1 (by omega) ?_
  refine stp 8 _ _ 2 (by omega) ?_
  refine stp 7 _ _ 3 (by omega) ?_
  refine stp 6 _ _ 4 (by omega) ?_
  refine stp 5 _ _ 5 (by omega) ?_
  refine stp 4 _ _ 6 (by omega) ?_
  refine stp 3 _ _ 7 (by omega) ?_
  refine stp 2 _ _ 8 (by omega) ?_
  refine stp 1 _ _ 9 (by omega) ?_
  exact br_t (nI_le (a := 10) (by omega) (by omega)) H
section
variable {f_size : Int32} {a_orders a_rules a_firsts a_modulus a_head a_power a_square a_product a_terms a_rule a_older a_kept a_fresh : Nat → Int32}
theorem rx_rep25 {post : SX → Prop} {sh oL N : Nat} {f : rt_F} {C B : Nat → rt_F} (h1 : 1 ≤ sh) (hN : sh + oL ≤ N) (hN4 : N ≤ 40) (hB : ∀ i, i < 40 → a_older i = rt_e (B i))
    (H : ∀ (r : Nat → Int32) (C' : Nat → rt_F), (∀ i, i < 40 → r i = rt_e (C' i)) → (∀ i, N ≤ i → i < 40 → C' i = C i) →
      (∀ q : Nat → rt_F, rt_S N (fun i => C' i * q i) = rt_S N (fun i => C i * q i) + f * (q (sh - 1) - rt_S oL (fun i => B i * q (sh + i)))) → post (f_size, a_orders, a_rules, a_firsts, a_modulus, a_head, a_power, a_square, a_product, a_terms, r, a_older, a_kept, a_fresh)) :
    ∀ (d i : Nat) (r : Nat → Int32) (C' : Nat → rt_F), i + d = oL → (∀ i, i < 40 → r i = rt_e (C' i)) → (∀ i, N ≤ i → i < 40 → C' i = C i) →
      (∀ q : Nat → rt_F, rt_S N (fun i => C' i * q i) = rt_S N (fun i => C i * q i) + f * (q (sh - 1) - rt_S i (fun i => B i * q (sh + i)))) →
      wX_repair_25 post (rt_e f) (nI sh) (nI oL) f_size (d + 1) (nI (i + 1)) a_orders a_rules a_firsts a_modulus a_head a_power a_square a_product a_terms r a_older a_kept a_fresh := by
  intro d
  induction d with
  | zero =>
    intro i r C' hi hr hz hq
    have e : i = oL := by omega
    subst e
    exact pk_lt i (i + 1) (fun _ => H r C' hr hz hq) (fun h => absurd h (by omega))
  | succ d ih =>
    intro i r C' hi hr hz hq
    have ex : (nI sh + nI (i + 1)) - 1 = nI (sh + i) := by
      show (nI sh + nI (i + 1)) - nI 1 = _
      rw [nI_add, pk_sub (by omega)]
      exact congrArg nI (by omega)
    refine pk_lt oL (i + 1) (fun h => absurd h (by omega)) (fun _ => pk_lt 40 (sh + (i + 1)) (fun h => absurd h (by omega)) (fun _ => nm_r ex ⟨vp_in_nI (by omega) (by omega), pk_in i 40 (by omega) (nI_pred i), by decide, vp_in_nI (by omega) (by omega), ?_⟩) rfl (nI_add sh (i + 1)))
    refine nm_r (rt_up (sh + i) (rt_smE (rt_rd (sh + i) (hr _ (by omega))) rfl (rt_rd i (hB i (by omega)) (nI_pred i)))) (nm_r (nI_1 (i + 1)) (ih (i + 1) _ (fun j => if j = sh + i then C' (sh + i) - f * B i else C' j) (by omega) (rt_uF hr) ?_ ?_))
    · intro j h2 h3
      rw [if_neg (by omega)]
      exact hz j h2 h3
    · intro q
      have k0 : ∀ a b : rt_F, a - b = a + (0 - b) := by intro a b; grind
      rw [rt_Supd (D := C') (x := 0 - f * B i) (p := sh + i) (by omega) (by rw [if_pos rfl]; exact k0 _ _) (fun j _ hne => if_neg hne), hq q, rt_Ss]
      have k : ∀ a f x y b g : rt_F, a + f * (x - y) + (0 - f * b) * g = a + f * (x - (y + b * g)) := by intro a f x y b g; grind
      exact k _ _ _ _ _ _
theorem rx_repair {post : SX → Prop} {sh oL N : Nat} {f : rt_F} {C B : Nat → rt_F} (h1 : 1 ≤ sh) (hN : sh + oL ≤ N) (hN4 : N ≤ 40) (hC : ∀ i, i < 40 → a_rule i = rt_e (C i)) (hB : ∀ i, i < 40 → a_older i = rt_e (B i))
    (H : ∀ (r : Nat → Int32) (C' : Nat → rt_F), (∀ i, i < 40 → r i = rt_e (C' i)) → (∀ i, N ≤ i → i < 40 → C' i = C i) →
      (∀ q : Nat → rt_F, rt_S N (fun i => C' i * q i) = rt_S N (fun i => C i * q i) + f * (q (sh - 1) - rt_S oL (fun i => B i * q (sh + i)))) → post (f_size, a_orders, a_rules, a_firsts, a_modulus, a_head, a_power, a_square, a_product, a_terms, r, a_older, a_kept, a_fresh)) :
    wpX_repair post (f_size, a_orders, a_rules, a_firsts, a_modulus, a_head, a_power, a_square, a_product, a_terms, a_rule, a_older, a_kept, a_fresh) (rt_e f) (nI sh) (nI oL) := by
  have ex : nI sh - 1 = nI (sh - 1) := pk_sub (b := 1) h1
  refine And.intro (pk_in (sh - 1) 40 (by omega) ex) ⟨by decide, pk_in (sh - 1) 40 (by omega) ex, nm_r (rt_up (sh - 1) (rt_aE (rt_rd (sh - 1) (hC _ (by omega)) ex) rfl) ex) ⟨oL + 1, ?_⟩⟩
  refine rx_rep25 (C := C) (B := B) h1 hN hN4 hB H oL 0 _ (fun j => if j = sh - 1 then C (sh - 1) + f else C j) (by omega) (rt_uF hC) ?_ ?_
  · intro j h2 h3
    rw [if_neg (by omega)]
  · intro q
    rw [rt_Supd (D := C) (x := f) (p := sh - 1) (by omega) (if_pos rfl) (fun j _ hne => if_neg hne), rt_S0]
    have k : ∀ a f x : rt_F, a + f * x = a + f * (x - 0) := by intro a f x; grind
    exact k _ _ _
theorem rx_to2 {post : SX → Prop} {B : Nat → rt_F} (hB : ∀ i, i < 40 → a_kept i = rt_e (B i)) (H : ∀ b : Nat → Int32, (∀ i, i < 40 → b i = rt_e (B i)) → post (f_size, a_orders, a_rules, a_firsts, a_modulus, a_head, a_power, a_square, a_product, a_terms, a_rule, b, a_kept, a_fresh)) :
    ∀ (d j : Nat) (b : Nat → Int32), j + d = 40 → (∀ i, i < j → b i = rt_e (B i)) → wX_takeOlder_2 post f_size (d + 1) (nI j) a_orders a_rules a_firsts a_modulus a_head a_power a_square a_product a_terms a_rule b a_kept a_fresh := by
  intro d
  induction d with
  | zero =>
    intro j b hj hb
    exact pk_le 40 j (fun _ => H b (fun i hi => hb i (by omega))) (fun h => absurd h (by omega))
  | succ d ih =>
    intro j b hj hb
    exact pk_le 40 j (fun h => absurd h (by omega)) (fun _ => ⟨vp_in_nI (by omega) (by omega), vp_in_nI (by omega) (by omega), nm_r (rt_up j (rt_rd j (hB j (by omega)))) (nm_r (nI_1 j) (ih (j + 1) _ (by omega) (rt_ux hb rfl)))⟩)
theorem rx_takeOlder {post : SX → Prop} {B : Nat → rt_F} (hB : ∀ i, i < 40 → a_kept i = rt_e (B i)) (H : ∀ b : Nat → Int32, (∀ i, i < 40 → b i = rt_e (B i)) → post (f_size, a_orders, a_rules, a_firsts, a_modulus, a_head, a_power, a_square, a_product, a_terms, a_rule, b, a_kept, a_fresh)) :
    wpX_takeOlder post (f_size, a_orders, a_rules, a_firsts, a_modulus, a_head, a_power, a_square, a_product, a_terms, a_rule, a_older, a_kept, a_fresh) := Exists.intro 41 (rx_to2 hB H 40 0 _ rfl (fun i hi => absurd hi (Nat.not_lt_zero i)))
end
section
variable {f_size : Int32} {a_orders a_rules a_firsts a_modulus a_head a_power a_square a_product a_terms a_rule a_older a_kept a_fresh : Nat → Int32}
variable {post : Int32 → SX → Prop} {J : Int32 → Int32 → Int32 → Int32 → Int32 → Int32 → (Nat → Int32) → (Nat → Int32) → (Nat → Int32) → (Nat → Int32) → (Nat → Int32) → (Nat → Int32) → (Nat → Int32) → (Nat → Int32) → (Nat → Int32) → (Nat → Int32) → (Nat → Int32) → (Nat → Int32) → (Nat → Int32) → Prop}
  {t C B : Nat → rt_F} {N n L oL sh : Nat} {b g : rt_F} {x1 : Int32}
/-- what the loop over the terms asks when it comes to its head with n terms done -/
def rx_MH (J : Int32 → Int32 → Int32 → Int32 → Int32 → Int32 → (Nat → Int32) → (Nat → Int32) → (Nat → Int32) → (Nat → Int32) → (Nat → Int32) → (Nat → Int32) → (Nat → Int32) → (Nat → Int32) → (Nat → Int32) → (Nat → Int32) → (Nat → Int32) → (Nat → Int32) → (Nat → Int32) → Prop) (t : Nat → rt_F) (n : Nat)
    (f_size : Int32) (a_orders a_rules a_firsts a_modulus a_head a_power a_square a_product a_terms a_fresh : Nat → Int32) : Prop :=
  ∀ (L oL sh : Nat) (b : rt_F) (C B : Nat → rt_F) (r ol ke : Nat → Int32), rt_BM t n L oL sh b C B → (∀ i, i < 40 → r i = rt_e (C i)) → (∀ i, i < 40 → ol i = rt_e (B i)) →
    J (nI L) (nI oL) (rt_e b) (nI sh) (nI n) f_size a_orders a_rules a_firsts a_modulus a_head a_power a_square a_product a_terms r ol ke a_fresh
theorem rx_me118 (hb : rt_BM t n L oL sh b C B) (hn : n < 32) (hC : ∀ i, i < 40 → a_rule i = rt_e (C i)) (hB : ∀ i, i < 40 → a_older i = rt_e (B i))
    (hg : t n = rt_S L (fun i => C i * t (n - 1 - i)) + g) (hg0 : g ≠ 0)
    (H : rx_MH J t (n + 1) f_size a_orders a_rules a_firsts a_modulus a_head a_power a_square a_product a_terms a_fresh) :
    ∀ (d j : Nat) (ke : Nat → Int32), j + d = 40 → (∀ i, i < j → ke i = rt_e (C i)) →
      wX_mend_118 post J x1 (nI L) (nI oL) (rt_e b) (nI sh) (nI n) (rt_e g) f_size (d + 1) (nI j) a_orders a_rules a_firsts a_modulus a_head a_power a_square a_product a_terms a_rule a_older ke a_fresh := by
  have h1 := hb.1
  have h2 := hb.2.1
  intro d
  induction d with
  | zero =>
    intro j ke hj hk
    have e : j = 40 := by omega
    subst e
    refine pk_le 40 40 (fun _ => rt_invX ⟨by decide, ?_⟩) (fun h => absurd h (by omega))
    have ef : (rt_e g * rt_e (rt_inv b)) - (rt_e g * rt_e (rt_inv b)) / 997 * 997 = rt_e (g * rt_inv b) := rt_mE rfl rfl
    rw [ef]
    by_cases z : 2 * L ≤ n
    · refine rx_repair (N := n + 1 - L) h1 (by omega) (by omega) hC hB (fun r' C' hr hz hq => ?_)
      refine pk_lt n (2 * L) (fun h => absurd h (by omega)) (fun _ => ?_) rfl (pk_mul 2 L)
      have ex : (nI n + 1) - nI L = nI (n + 1 - L) := by rw [nI_1, pk_sub (by omega)]
      refine nm_r ex (rx_takeOlder hk (fun b' hb' => nm_r (nI_1 n) ?_))
      exact H (n + 1 - L) L 1 g C' C r' b' ke (rt_bmG hb hg hg0 rfl z rfl (by omega) hz hq) hr hb'
    · refine rx_repair (N := L) h1 (by omega) (by omega) hC hB (fun r' C' hr hz hq => ?_)
      refine pk_lt n (2 * L) (fun _ => nm_r (nI_1 sh) (nm_r (nI_1 n) ?_)) (fun h => absurd h (by omega)) rfl (pk_mul 2 L)
      exact H L oL (sh + 1) b C' B r' _ ke (rt_bmK hb hg rfl (by omega) (by omega) hz hq) hr hB
  | succ d ih =>
    intro j ke hj hk
    exact pk_le 40 j (fun h => absurd h (by omega)) (fun _ => ⟨vp_in_nI (by omega) (by omega), vp_in_nI (by omega) (by omega), nm_r (rt_up j (rt_rd j (hC j (by omega)))) (nm_r (nI_1 j) (ih (j + 1) _ (by omega) (rt_ux hk rfl)))⟩)
theorem rx_me59 (hb : rt_BM t n L oL sh b C B) (hn : n < 32) (hC : ∀ i, i < 40 → a_rule i = rt_e (C i)) (hB : ∀ i, i < 40 → a_older i = rt_e (B i)) (ht : ∀ i, i < n + 1 → a_terms i = rt_e (t i))
    (H : rx_MH J t (n + 1) f_size a_orders a_rules a_firsts a_modulus a_head a_power a_square a_product a_terms a_fresh) :
    ∀ (d i : Nat) (x : Int32), i + d = L → x = rt_e (t n - rt_S i (fun i => C i * t (n - 1 - i))) →
      wX_mend_59 post J x1 (nI L) (nI oL) (rt_e b) (nI sh) (nI n) f_size a_orders a_rules a_firsts a_modulus a_head a_power a_square a_product a_terms a_rule a_older a_kept a_fresh (d + 1) x (nI (i + 1)) := by
  have h1 := hb.1
  have h2 := hb.2.1
  intro d
  induction d with
  | zero =>
    intro i x hi hx
    have e : i = L := by omega
    subst e
    subst hx
    refine pk_lt i (i + 1) (fun _ => br_c (fun h => ?_) (fun h => ?_)) (fun h => absurd h (by omega))
    · refine nm_r (nI_1 sh) (nm_r (nI_1 n) (H i oL (sh + 1) b C B _ _ _ (rt_bmN hb ?_) hC hB))
      exact rg_s0 (rt_ez.mp h)
    · exact ⟨41, rx_me118 hb hn hC hB (rg_se rfl) (fun z => h (rt_ez.mpr z)) H 40 0 _ rfl (fun i hi => absurd hi (Nat.not_lt_zero i))⟩
  | succ d ih =>
    intro i x hi hx
    have ex : nI n - nI (i + 1) = nI (n - 1 - i) := by
      rw [pk_sub (by omega)]
      exact congrArg nI (by omega)
    refine pk_lt L (i + 1) (fun h => absurd h (by omega)) (fun _ => ⟨pk_in i 40 (by omega) (nI_pred i), pk_in (n - 1 - i) 40 (by omega) ex, by decide, nm_r (rt_smE hx (rt_rd i (hC i (by omega)) (nI_pred i)) (rt_rd (n - 1 - i) (ht _ (by omega)) ex)) (nm_r (nI_1 (i + 1)) (ih (i + 1) _ (by omega) ?_))⟩)
    rw [rt_Ss]
    have k : ∀ a x y : rt_F, a - x - y = a - (x + y) := by intro a x y; grind
    rw [k]
theorem rx_me41 (hN : N ≤ 32) (ht : ∀ i, i < N → a_terms i = rt_e (t i))
    (H : ∀ (L : Nat) (C : Nat → rt_F) (r ol ke : Nat → Int32), (∀ i, i < 40 → r i = rt_e (C i)) → rt_Rul L C t N → (∀ L' c', rt_Rul L' c' t N → L ≤ L') → post (nI L) (f_size, a_orders, a_rules, a_firsts, a_modulus, a_head, a_power, a_square, a_product, a_terms, r, ol, ke, a_fresh)) :
    ∀ (d n : Nat), n + d = N → rx_MH (wX_mend_41 post (nI N) (d + 1)) t n f_size a_orders a_rules a_firsts a_modulus a_head a_power a_square a_product a_terms a_fresh := by
  intro d
  induction d with
  | zero =>
    intro n hn L oL sh b C B r ol ke hb hr hol
    have e : n = N := by omega
    subst e
    exact pk_le n n (fun _ => H L C r ol ke hr hb.2.2.1 hb.2.2.2.2.1) (fun h => absurd h (by omega))
  | succ d ih =>
    intro n hn L oL sh b C B r ol ke hb hr hol
    refine pk_le N n (fun h => absurd h (by omega)) (fun _ => ⟨vp_in_nI (by omega) (by omega), nm_r (rt_rd n (ht n (by omega))) ⟨L + 1, ?_⟩⟩)
    refine rx_me59 hb (by omega) hr hol (fun i hi => ht i (by omega)) (ih (n + 1) (by omega)) L 0 _ (by omega) ?_
    rw [rt_S0]
    have k : ∀ a : rt_F, a = a - 0 := by intro a; grind
    exact congrArg rt_e (k _)
theorem rx_me2 (hN : N ≤ 32) (ht : ∀ i, i < N → a_terms i = rt_e (t i))
    (H : ∀ (L : Nat) (C : Nat → rt_F) (r ol ke : Nat → Int32), (∀ i, i < 40 → r i = rt_e (C i)) → rt_Rul L C t N → (∀ L' c', rt_Rul L' c' t N → L ≤ L') → post (nI L) (f_size, a_orders, a_rules, a_firsts, a_modulus, a_head, a_power, a_square, a_product, a_terms, r, ol, ke, a_fresh)) :
    ∀ (d j : Nat) (r ol : Nat → Int32), j + d = 40 → (∀ i, i < j → r i = rt_e 0) → (∀ i, i < j → ol i = rt_e 0) → wX_mend_2 post (nI N) f_size (d + 1) (nI j) a_orders a_rules a_firsts a_modulus a_head a_power a_square a_product a_terms r ol a_kept a_fresh := by
  intro d
  induction d with
  | zero =>
    intro j r ol hj hr hol
    exact pk_le 40 j (fun _ => ⟨N + 1, rx_me41 hN ht H N 0 (by omega) 0 0 1 1 _ _ _ _ _ (rt_bm0 t 1) (fun i hi => hr i (by omega)) (fun i hi => hol i (by omega))⟩) (fun h => absurd h (by omega))
  | succ d ih =>
    intro j r ol hj hr hol
    exact pk_le 40 j (fun h => absurd h (by omega)) (fun _ => ⟨vp_in_nI (by omega) (by omega), nm_r (rt_up (v' := rt_e 0) j rfl) ⟨vp_in_nI (by omega) (by omega), nm_r (rt_up (v' := rt_e 0) j rfl) (nm_r (nI_1 j) (ih (j + 1) _ _ (by omega) (rt_ux hr rfl) (rt_ux hol rfl)))⟩⟩)
theorem rx_mend (hN : N ≤ 32) (ht : ∀ i, i < N → a_terms i = rt_e (t i))
    (H : ∀ (L : Nat) (C : Nat → rt_F) (r ol ke : Nat → Int32), (∀ i, i < 40 → r i = rt_e (C i)) → rt_Rul L C t N → (∀ L' c', rt_Rul L' c' t N → L ≤ L') → post (nI L) (f_size, a_orders, a_rules, a_firsts, a_modulus, a_head, a_power, a_square, a_product, a_terms, r, ol, ke, a_fresh)) :
    wpX_mend post (f_size, a_orders, a_rules, a_firsts, a_modulus, a_head, a_power, a_square, a_product, a_terms, a_rule, a_older, a_kept, a_fresh) (nI N) :=
  Exists.intro 41 (rx_me2 hN ht H 40 0 _ _ rfl (fun i hi => absurd hi (Nat.not_lt_zero i)) (fun i hi => absurd hi (Nat.not_lt_zero i)))
end
end
section
/-! the component: what rests on terms and on the shortest rule -/
theorem rt_gX {s : Nat} {post : Int32 → Prop} (hs : s < 3) (h : post 1) : wpX_isGood post (nI s) :=
  br_f (nI_pos (by omega)) (pk_lt 2 s (fun z => absurd z (by omega)) (fun _ => h))
theorem rt_gY {s : Nat} {post : Int32 → Prop} {v : SY} (hs : s < 3) (h : post 0) : wpY_bad post v (nI s) :=
  br_f (nI_pos (by omega)) (pk_le s 2 (fun _ => h) (fun z => absurd z (by omega)))
theorem rt_gc (p : Int32) : (∃ s, s < 3 ∧ p = nI s) ∨ ((∀ post : Int32 → Prop, post 0 → wpX_isGood post p) ∧ (∀ (post : Int32 → Prop) (v : SY), post 1 → wpY_bad post v p)) := by
  by_cases h : p < 0
  · exact Or.inr ⟨fun _ hp => br_t h hp, fun _ _ hp => br_t h hp⟩
  · obtain ⟨j, hj, rfl⟩ := nI_of h
    by_cases h2 : j < 3
    · exact Or.inl ⟨j, h2, rfl⟩
    · exact Or.inr ⟨fun _ hp => br_f h (pk_lt 2 j (fun _ => hp) (fun z => absurd z (by omega))), fun _ _ hp => br_f h (pk_le j 2 (fun z => absurd z (by omega)) (fun _ => hp))⟩
theorem rt_moX {post : Int32 → Prop} {p : Int32} (h : post (rt_e (rt_nm p))) : wpX_modulo post p :=
  And.intro (by decide) (fun r hr => ⟨fun z => by rw [(rt_nmL hr).1 z]; exact h, fun z => by rw [(rt_nmL hr).2 z]; exact h⟩)
theorem rt_moY {post : Int32 → Prop} {p : Int32} {v : SY} (h : post (rt_e (rt_nm p))) : wpY_norm post v p :=
  And.intro (by decide) (fun r hr => ⟨fun z => by rw [(rt_nmL hr).1 z]; exact h, fun z => by rw [(rt_nmL hr).2 z]; exact h⟩)
theorem rt_Uz {o : Nat → Nat} {R Q : Nat → rt_F} {s n : Nat} (h : o s = 0) : rt_U o R Q s n = 0 := by
  have e : rt_U o R Q s n = rt_S (o s) (fun i => R (4 * s + i) * rt_U o R Q s (n - 1 - i)) := rt_Thi (by omega)
  rw [e, h, rt_S0]
section
variable {f_size : Int32} {a_orders a_rules a_firsts a_modulus a_head a_power a_square a_product a_terms a_rule a_older a_kept a_fresh : Nat → Int32}
variable {post : Int32 → SX → Prop} {o : Nat → Nat} {R Q : Nat → rt_F} {s t n st : Nat}
theorem rx_fr2 (hS : rt_St o R Q a_orders a_rules a_firsts) (hs : s < 3)
    (H : ∀ (L : Nat) (C : Nat → rt_F) (sz : Int32) (m p pr tm r ol ke : Nat → Int32), (∀ i, i < 40 → r i = rt_e (C i)) → rt_Rul L C (rt_U o R Q s) 8 → (∀ L' c', rt_Rul L' c' (rt_U o R Q s) 8 → L ≤ L') →
      post (nI L) (sz, a_orders, a_rules, a_firsts, m, a_head, p, a_square, pr, tm, r, ol, ke, a_fresh)) :
    ∀ (d j : Nat) (sz : Int32) (m p pr tm : Nat → Int32), j + d = 8 → (∀ i, i < j → tm i = rt_e (rt_U o R Q s i)) →
      wX_findRule_2 post (nI s) (d + 1) (nI j) sz a_orders a_rules a_firsts m a_head p a_square pr tm a_rule a_older a_kept a_fresh := by
  intro d
  induction d with
  | zero =>
    intro j sz m p pr tm hj ht
    exact pk_le 8 j (fun _ => rx_mend (N := 8) (t := rt_U o R Q s) (by omega) (fun i hi => ht i (by omega)) (fun L C r ol ke h1 h2 h3 => H L C sz m p pr tm r ol ke h1 h2 h3)) (fun h => absurd h (by omega))
  | succ d ih =>
    intro j sz m p pr tm hj ht
    exact pk_le 8 j (fun h => absurd h (by omega)) (fun _ => rx_termAt hS hs (by omega) (fun sz2 m2 p2 pr2 => ⟨vp_in_nI (by omega) (by omega), nm_r (rt_up j rfl) (nm_r (nI_1 j) (ih (j + 1) _ _ _ _ _ (by omega) (rt_ux ht rfl)))⟩))
theorem rx_findRule (hS : rt_St o R Q a_orders a_rules a_firsts) (hs : s < 3)
    (H : ∀ (L : Nat) (C : Nat → rt_F) (sz : Int32) (m p pr tm r ol ke : Nat → Int32), (∀ i, i < 40 → r i = rt_e (C i)) → rt_Rul L C (rt_U o R Q s) 8 → (∀ L' c', rt_Rul L' c' (rt_U o R Q s) 8 → L ≤ L') →
      post (nI L) (sz, a_orders, a_rules, a_firsts, m, a_head, p, a_square, pr, tm, r, ol, ke, a_fresh)) : wpX_findRule post (f_size, a_orders, a_rules, a_firsts, a_modulus, a_head, a_power, a_square, a_product, a_terms, a_rule, a_older, a_kept, a_fresh) (nI s) :=
  Exists.intro 9 (rx_fr2 hS hs H 8 0 _ _ _ _ _ rfl (fun i hi => absurd hi (Nat.not_lt_zero i)))
theorem rx_rs18 (hS : rt_St o R Q a_orders a_rules a_firsts) (hs : s < 3) (ht : t < 3)
    (H : ∀ (L : Nat) (C : Nat → rt_F) (sz : Int32) (m p pr tm r ol ke : Nat → Int32), rt_Rul L C (fun n => rt_U o R Q s n + rt_U o R Q t n) 16 → (∀ L' c', rt_Rul L' c' (fun n => rt_U o R Q s n + rt_U o R Q t n) 16 → L ≤ L') →
      post (nI L) (sz, a_orders, a_rules, a_firsts, m, a_head, p, a_square, pr, tm, r, ol, ke, a_fresh)) :
    ∀ (d j : Nat) (sz : Int32) (m p pr tm : Nat → Int32), j + d = 16 → (∀ i, i < j → tm i = rt_e (rt_U o R Q s i + rt_U o R Q t i)) →
      wX_rankOfSum_18 post (nI s) (nI t) (d + 1) (nI j) sz a_orders a_rules a_firsts m a_head p a_square pr tm a_rule a_older a_kept a_fresh := by
  intro d
  induction d with
  | zero =>
    intro j sz m p pr tm hj hm
    exact pk_le 16 j (fun _ => rx_mend (N := 16) (t := fun n => rt_U o R Q s n + rt_U o R Q t n) (by omega) (fun i hi => hm i (by omega)) (fun L C r ol ke h1 h2 h3 => H L C sz m p pr tm r ol ke h2 h3)) (fun h => absurd h (by omega))
  | succ d ih =>
    intro j sz m p pr tm hj hm
    exact pk_le 16 j (fun h => absurd h (by omega)) (fun _ => rx_termAt hS hs (by omega) (fun sz2 m2 p2 pr2 => rx_termAt hS ht (by omega) (fun sz3 m3 p3 pr3 =>
      ⟨by decide, vp_in_nI (by omega) (by omega), nm_r (rt_up j (rt_aE rfl rfl)) (nm_r (nI_1 j) (ih (j + 1) _ _ _ _ _ (by omega) (rt_ux hm rfl)))⟩)))
theorem rx_rp18 (hS : rt_St o R Q a_orders a_rules a_firsts) (hs : s < 3) (ht : t < 3)
    (H : ∀ (L : Nat) (C : Nat → rt_F) (sz : Int32) (m p pr tm r ol ke : Nat → Int32), rt_Rul L C (fun n => rt_U o R Q s n * rt_U o R Q t n) 32 → (∀ L' c', rt_Rul L' c' (fun n => rt_U o R Q s n * rt_U o R Q t n) 32 → L ≤ L') →
      post (nI L) (sz, a_orders, a_rules, a_firsts, m, a_head, p, a_square, pr, tm, r, ol, ke, a_fresh)) :
    ∀ (d j : Nat) (sz : Int32) (m p pr tm : Nat → Int32), j + d = 32 → (∀ i, i < j → tm i = rt_e (rt_U o R Q s i * rt_U o R Q t i)) →
      wX_rankOfProduct_18 post (nI s) (nI t) (d + 1) (nI j) sz a_orders a_rules a_firsts m a_head p a_square pr tm a_rule a_older a_kept a_fresh := by
  intro d
  induction d with
  | zero =>
    intro j sz m p pr tm hj hm
    exact pk_le 32 j (fun _ => rx_mend (N := 32) (t := fun n => rt_U o R Q s n * rt_U o R Q t n) (by omega) (fun i hi => hm i (by omega)) (fun L C r ol ke h1 h2 h3 => H L C sz m p pr tm r ol ke h2 h3)) (fun h => absurd h (by omega))
  | succ d ih =>
    intro j sz m p pr tm hj hm
    exact pk_le 32 j (fun h => absurd h (by omega)) (fun _ => rx_termAt hS hs (by omega) (fun sz2 m2 p2 pr2 => rx_termAt hS ht (by omega) (fun sz3 m3 p3 pr3 =>
      ⟨by decide, vp_in_nI (by omega) (by omega), nm_r (rt_up j (rt_mE rfl rfl)) (nm_r (nI_1 j) (ih (j + 1) _ _ _ _ _ (by omega) (rt_ux hm rfl)))⟩)))
theorem rx_rt26 (hS : rt_St o R Q a_orders a_rules a_firsts) (hs : s < 3) (hst : st ≤ 1000)
    (H : ∀ (L : Nat) (C : Nat → rt_F) (sz : Int32) (m p pr tm r ol ke : Nat → Int32), rt_Rul L C (fun n => rt_U o R Q s (n * st)) 8 → (∀ L' c', rt_Rul L' c' (fun n => rt_U o R Q s (n * st)) 8 → L ≤ L') →
      post (nI L) (sz, a_orders, a_rules, a_firsts, m, a_head, p, a_square, pr, tm, r, ol, ke, a_fresh)) :
    ∀ (d j : Nat) (sz : Int32) (m p pr tm : Nat → Int32), j + d = 8 → (∀ i, i < j → tm i = rt_e (rt_U o R Q s (i * st))) →
      wX_rankOfStep_26 post (nI s) (nI st) (d + 1) (nI j) sz a_orders a_rules a_firsts m a_head p a_square pr tm a_rule a_older a_kept a_fresh := by
  intro d
  induction d with
  | zero =>
    intro j sz m p pr tm hj hm
    exact pk_le 8 j (fun _ => rx_mend (N := 8) (t := fun n => rt_U o R Q s (n * st)) (by omega) (fun i hi => hm i (by omega)) (fun L C r ol ke h1 h2 h3 => H L C sz m p pr tm r ol ke h2 h3)) (fun h => absurd h (by omega))
  | succ d ih =>
    intro j sz m p pr tm hj hm
    have hb : j * st ≤ 8 * 1000 := Nat.mul_le_mul (by omega) hst
    refine pk_le 8 j (fun h => absurd h (by omega)) (fun _ => ?_)
    rw [pk_mul]
    exact rx_termAt hS hs (by omega) (fun sz2 m2 p2 pr2 => ⟨vp_in_nI (by omega) (by omega), nm_r (rt_up j rfl) (nm_r (nI_1 j) (ih (j + 1) _ _ _ _ _ (by omega) (rt_ux hm rfl)))⟩)
theorem rx_fd2 (hS : rt_St o R Q a_orders a_rules a_firsts) (hs : s < 3) (ht : t < 3) {r : Int32}
    (H : ∀ (sz : Int32) (m p pr : Nat → Int32), post r (sz, a_orders, a_rules, a_firsts, m, a_head, p, a_square, pr, a_terms, a_rule, a_older, a_kept, a_fresh)) :
    ∀ (d j : Nat) (sz : Int32) (m p pr : Nat → Int32), j + d = 8 → rt_first (fun n => decide (rt_U o R Q s n ≠ rt_U o R Q t n)) j d = r →
      wX_firstDifference_2 post (nI s) (nI t) (d + 1) (nI j) sz a_orders a_rules a_firsts m a_head p a_square pr a_terms a_rule a_older a_kept a_fresh := by
  intro d
  induction d with
  | zero =>
    intro j sz m p pr hj hr
    subst hr
    exact pk_le 8 j (fun _ => H sz m p pr) (fun h => absurd h (by omega))
  | succ d ih =>
    intro j sz m p pr hj hr
    refine pk_le 8 j (fun h => absurd h (by omega)) (fun _ => rx_termAt hS hs (by omega) (fun sz2 m2 p2 pr2 => rx_termAt hS ht (by omega) (fun sz3 m3 p3 pr3 => br_c (fun h => nm_r (nI_1 j) (ih (j + 1) _ _ _ _ (by omega) ?_)) (fun h => ?_))))
    · rw [← hr]
      show _ = (if decide (rt_U o R Q s j ≠ rt_U o R Q t j) = true then _ else _)
      rw [if_neg (by rw [rt_einj] at h; simp [h])]
    · have e : r = nI j := by
        rw [← hr]
        show (if decide (rt_U o R Q s j ≠ rt_U o R Q t j) = true then _ else _) = _
        rw [if_pos (by rw [rt_einj] at h; simp [h])]
      subst e
      exact H _ _ _ _
theorem rx_firstDifference (hS : rt_St o R Q a_orders a_rules a_firsts) (hs : s < 3) (ht : t < 3)
    (H : ∀ (sz : Int32) (m p pr : Nat → Int32), post (rt_first (fun n => decide (rt_U o R Q s n ≠ rt_U o R Q t n)) 0 8) (sz, a_orders, a_rules, a_firsts, m, a_head, p, a_square, pr, a_terms, a_rule, a_older, a_kept, a_fresh)) :
    wpX_firstDifference post (f_size, a_orders, a_rules, a_firsts, a_modulus, a_head, a_power, a_square, a_product, a_terms, a_rule, a_older, a_kept, a_fresh) (nI s) (nI t) := Exists.intro 9 (rx_fd2 hS hs ht H 8 0 _ _ _ _ rfl rfl)
/-! the first zero -/
theorem rx_ze124 {J : Int32 → (Nat → Int32) → (Nat → Int32) → (Nat → Int32) → (Nat → Int32) → (Nat → Int32) → (Nat → Int32) → (Nat → Int32) → (Nat → Int32) → (Nat → Int32) → (Nat → Int32) → (Nat → Int32) → (Nat → Int32) → (Nat → Int32) → Prop} {k : Nat} {T : Nat → rt_F} {x1 : Int32} (hk : k ≤ 4) (hk0 : 1 ≤ k)
    (H : ∀ fr : Nat → Int32, (∀ i, i < k → fr i = rt_e (T (n + 1 + i))) → J (nI (n + 1)) a_orders a_rules a_firsts a_modulus a_head a_power a_square a_product a_terms a_rule a_older a_kept fr) :
    ∀ (d i : Nat) (fr : Nat → Int32), i + 1 + d = k → (∀ j, j < i → fr j = rt_e (T (n + 1 + j))) → (∀ j, i ≤ j → j < k → fr j = rt_e (T (n + j))) →
      wX_zero_124 post J x1 (nI k) (nI n) (rt_e (T (n + k))) f_size (d + 1) (nI (i + 1)) a_orders a_rules a_firsts a_modulus a_head a_power a_square a_product a_terms a_rule a_older a_kept fr := by
  intro d
  induction d with
  | zero =>
    intro i fr hi h1 h2
    have ex : nI k - 1 = nI (k - 1) := pk_sub (b := 1) hk0
    refine pk_le k (i + 1) (fun _ => ⟨pk_in (k - 1) 4 (by omega) ex, nm_r (rt_up (k - 1) rfl ex) (nm_r (nI_1 n) (H _ (fun j hj => ?_)))⟩) (fun h => absurd h (by omega))
    by_cases z : j = k - 1
    · subst z
      rw [pk_us, show n + 1 + (k - 1) = n + k by omega]
    · rw [pk_un z]
      exact h1 j (by omega)
  | succ d ih =>
    intro i fr hi h1 h2
    refine pk_le k (i + 1) (fun h => absurd h (by omega)) (fun _ => ⟨vp_in_nI (by omega) (by omega), pk_in i 4 (by omega) (nI_pred i), nm_r (rt_up i (rt_rd (i + 1) (h2 (i + 1) (by omega) (by omega))) (nI_pred i)) (nm_r (nI_1 (i + 1)) (ih (i + 1) _ (by omega) (fun j hj => ?_) (fun j h3 h4 => ?_)))⟩)
    · by_cases z : j = i
      · subst z
        rw [pk_us, show n + (j + 1) = n + 1 + j by omega]
      · rw [pk_un z]
        exact h1 j (by omega)
    · rw [pk_un (by omega)]
      exact h2 j (by omega) h4
theorem rx_ze77 {J : Int32 → (Nat → Int32) → (Nat → Int32) → (Nat → Int32) → (Nat → Int32) → (Nat → Int32) → (Nat → Int32) → (Nat → Int32) → (Nat → Int32) → (Nat → Int32) → (Nat → Int32) → (Nat → Int32) → (Nat → Int32) → (Nat → Int32) → Prop} {k : Nat} {T : Nat → rt_F} (hs : s < 3) (hk : k ≤ 4) (hk0 : 1 ≤ k)
    (hR : ∀ i, i < 12 → a_rules i = rt_e (R i)) (hf : ∀ j, j < k → a_fresh j = rt_e (T (n + j))) (hT : T (n + k) = rt_S k (fun i => R (4 * s + i) * T (n + k - 1 - i)))
    (H : ∀ fr : Nat → Int32, (∀ i, i < k → fr i = rt_e (T (n + 1 + i))) → J (nI (n + 1)) a_orders a_rules a_firsts a_modulus a_head a_power a_square a_product a_terms a_rule a_older a_kept fr) :
    ∀ (d i : Nat) (x : Int32), i + d = k → x = rt_e (rt_S i (fun i => R (4 * s + i) * T (n + k - 1 - i))) →
      wX_zero_77 post J (nI s) (nI k) (nI n) f_size a_orders a_rules a_firsts a_modulus a_head a_power a_square a_product a_terms a_rule a_older a_kept a_fresh (d + 1) x (nI (i + 1)) := by
  intro d
  induction d with
  | zero =>
    intro i x hi hx
    have e : i = k := by omega
    subst e
    rw [← hT] at hx
    subst hx
    exact pk_lt i (i + 1) (fun _ => ⟨i - 1 + 1, rx_ze124 (T := T) hk hk0 H (i - 1) 0 _ (by omega) (fun j hj => absurd hj (Nat.not_lt_zero j)) (fun j _ h => hf j h)⟩) (fun h => absurd h (by omega))
  | succ d ih =>
    intro i x hi hx
    have ex : ((4 * nI s) + nI (i + 1)) - 1 = nI (4 * s + i) := by rw [rt_i4]; exact nI_pred (4 * s + i)
    have ey : nI k - nI (i + 1) = nI (k - 1 - i) := by
      rw [pk_sub (by omega)]
      exact congrArg nI (by omega)
    have ez : a_fresh (k - 1 - i) = rt_e (T (n + k - 1 - i)) := by
      rw [hf (k - 1 - i) (by omega)]
      exact congrArg (fun z => rt_e (T z)) (by omega)
    exact pk_lt k (i + 1) (fun h => absurd h (by omega)) (fun _ => ⟨pk_in (4 * s + i) 12 (by omega) ex, pk_in (k - 1 - i) 4 (by omega) ey, by decide,
      nm_e (nm_r (nI_1 (i + 1)) (ih (i + 1) _ (by omega) (rt_amE hx (rt_rd (4 * s + i) (hR _ (by omega)) ex) (rt_rd (k - 1 - i) ez ey))))⟩)
theorem rx_ze53 {k : Nat} {T : Nat → rt_F} {r : Int32} (hs : s < 3) (hk : k ≤ 4) (hk0 : 1 ≤ k)
    (hR : ∀ i, i < 12 → a_rules i = rt_e (R i)) (hT : ∀ n, T (n + k) = rt_S k (fun i => R (4 * s + i) * T (n + k - 1 - i)))
    (H : ∀ fr : Nat → Int32, post r (f_size, a_orders, a_rules, a_firsts, a_modulus, a_head, a_power, a_square, a_product, a_terms, a_rule, a_older, a_kept, fr)) :
    ∀ (d j : Nat) (fr : Nat → Int32), j + d = 1000 → (∀ i, i < k → fr i = rt_e (T (j + i))) → rt_first (fun n => decide (T n = 0)) j d = r →
      wX_zero_53 post (nI s) (nI k) f_size (d + 1) (nI j) a_orders a_rules a_firsts a_modulus a_head a_power a_square a_product a_terms a_rule a_older a_kept fr := by
  intro d
  induction d with
  | zero =>
    intro j fr hj hf hr
    subst hr
    exact pk_le 1000 j (fun _ => H fr) (fun h => absurd h (by omega))
  | succ d ih =>
    intro j fr hj hf hr
    have e0 : fr 0 = rt_e (T j) := hf 0 (by omega)
    refine pk_le 1000 j (fun h => absurd h (by omega)) (fun _ => br_c (fun h => ?_) (fun h => ⟨k + 1, rx_ze77 (T := T) hs hk hk0 hR hf (hT j) (fun fr' hf' => ih (j + 1) fr' (by omega) hf' ?_) k 0 0 (by omega) rfl⟩))
    · have e : r = nI j := by
        rw [← hr]
        show (if decide (T j = 0) = true then _ else _) = _
        rw [if_pos (by rw [e0, rt_ez] at h; simp [h])]
      subst e
      exact H _
    · rw [← hr]
      show _ = (if decide (T j = 0) = true then _ else _)
      rw [if_neg (by rw [e0, rt_ez] at h; simp [h])]
theorem rx_ze24 {k : Nat} {T : Nat → rt_F} {r : Int32} (hs : s < 3) (hk : k ≤ 4) (hk0 : 1 ≤ k)
    (hR : ∀ i, i < 12 → a_rules i = rt_e (R i)) (hQ : ∀ i, i < 12 → a_firsts i = rt_e (Q i)) (hT : ∀ n, T (n + k) = rt_S k (fun i => R (4 * s + i) * T (n + k - 1 - i)))
    (hT0 : ∀ i, i < k → T i = Q (4 * s + i)) (hr : rt_first (fun n => decide (T n = 0)) 0 1000 = r)
    (H : ∀ fr : Nat → Int32, post r (f_size, a_orders, a_rules, a_firsts, a_modulus, a_head, a_power, a_square, a_product, a_terms, a_rule, a_older, a_kept, fr)) :
    ∀ (d j : Nat) (fr : Nat → Int32), j + d = k → (∀ i, i < j → fr i = rt_e (T i)) →
      wX_zero_24 post (nI s) (nI k) f_size (d + 1) (nI j) a_orders a_rules a_firsts a_modulus a_head a_power a_square a_product a_terms a_rule a_older a_kept fr := by
  intro d
  induction d with
  | zero =>
    intro j fr hj hf
    exact pk_le k j (fun _ => ⟨1001, rx_ze53 (T := T) hs hk hk0 hR hT H 1000 0 fr (by omega) (fun i hi => by rw [Nat.zero_add]; exact hf i (by omega)) hr⟩) (fun h => absurd h (by omega))
  | succ d ih =>
    intro j fr hj hf
    exact pk_le k j (fun h => absurd h (by omega)) (fun _ => ⟨pk_in (4 * s + j) 12 (by omega) (rt_i4 s j), vp_in_nI (by omega) (by omega),
      nm_r (rt_up j (rt_rd (4 * s + j) (hQ _ (by omega)) (rt_i4 s j))) (nm_r (nI_1 j) (ih (j + 1) _ (by omega) (rt_ux hf (by rw [hT0 j (by omega)]))))⟩)
theorem rx_zero (hS : rt_St o R Q a_orders a_rules a_firsts) (hs : s < 3)
    (H : ∀ fr : Nat → Int32, post (rt_first (fun n => decide (rt_U o R Q s n = 0)) 0 1000) (f_size, a_orders, a_rules, a_firsts, a_modulus, a_head, a_power, a_square, a_product, a_terms, a_rule, a_older, a_kept, fr)) : wpX_zero post (f_size, a_orders, a_rules, a_firsts, a_modulus, a_head, a_power, a_square, a_product, a_terms, a_rule, a_older, a_kept, a_fresh) (nI s) := by
  obtain ⟨h1, h2, h3, h4, h5⟩ := hS
  have h4s := h4 s hs
  unfold wpX_zero
  refine rt_gX hs ?_
  refine br_f (by decide) ⟨vp_in_nI hs (by omega), nm_r (rt_rd s (h1 s hs)) (pk_eq (o s) 0 (fun h => ?_) (fun h => ?_))⟩
  · have e : rt_first (fun n => decide (rt_U o R Q s n = 0)) 0 1000 = 0 := by
      show (if decide (rt_U o R Q s 0 = 0) = true then _ else _) = _
      rw [if_pos (by rw [rt_Uz h]; rfl)]
      rfl
    rw [e] at H
    exact H a_fresh
  · refine ⟨o s + 1, rx_ze24 (T := rt_U o R Q s) hs h4s (by omega) h2 h3 (fun n => ?_) (fun i hi => rt_Ulo hi) rfl H (o s) 0 _ (by omega) (fun i hi => absurd hi (Nat.not_lt_zero i))⟩
    exact rt_Thi (by omega)
end
end
section
/-! the reference: terms one after the other, and tables' powers -/
section
variable {a_orders a_rules a_starts a_t a_table a_way a_square a_spare a_one a_two : Nat → Int32}
variable {o : Nat → Nat} {R Q : Nat → rt_F} {s t n cnt : Nat}
  {J : Int32 → (Nat → Int32) → (Nat → Int32) → (Nat → Int32) → (Nat → Int32) → (Nat → Int32) → (Nat → Int32) → (Nat → Int32) → (Nat → Int32) → (Nat → Int32) → (Nat → Int32) → Prop}
theorem ry_li91 {post : SY → Prop} {x1 x2 x : Int32} {v : rt_F} (hn : n < 1000) (hx : x - x / 997 * 997 = rt_e v) (H : J (nI (n + 1)) a_orders a_rules a_starts (upd a_t n (rt_e v)) a_table a_way a_square a_spare a_one a_two) :
    wY_list_91 post J x1 x2 (nI n) x a_orders a_rules a_starts a_t a_table a_way a_square a_spare a_one a_two :=
  And.intro (by decide) ⟨vp_in_nI hn (by omega), nm_r (rt_up n hx) (nm_r (nI_1 n) H)⟩
theorem ry_li36 {post : SY → Prop} {x2 : Int32} (hS : rt_St o R Q a_orders a_rules a_starts) (hs : s < 3) (hn : n < 1000) (ho : o s ≤ n) (ht : ∀ i, i < n → a_t i = rt_e (rt_U o R Q s i))
    (H : J (nI (n + 1)) a_orders a_rules a_starts (upd a_t n (rt_e (rt_U o R Q s n))) a_table a_way a_square a_spare a_one a_two) :
    ∀ (d i : Nat) (x : Int32), i + d = o s → rt_Acc x i (rt_S i (fun i => R (4 * s + i) * rt_U o R Q s (n - 1 - i))) →
      wY_list_36 post J (nI s) x2 (nI n) a_orders a_rules a_starts a_t a_table a_way a_square a_spare a_one a_two (d + 1) x (nI (i + 1)) := by
  obtain ⟨h1, h2, h3, h4, h5⟩ := hS
  have h4s := h4 s hs
  have eo : a_orders (nI s).toNatClampNeg = nI (o s) := rt_rd s (h1 s hs)
  intro d
  induction d with
  | zero =>
    intro i x hi hx
    have e : i = o s := by omega
    refine And.intro (vp_in_nI hs (by omega)) (pk_lt (o s) (i + 1) (fun _ => ry_li91 hn ?_ H) (fun h => absurd h (by omega)) eo)
    rw [rt_accE hx (by omega), e]
    exact congrArg rt_e (rt_Thi ho).symm
  | succ d ih =>
    intro i x hi hx
    have ex : ((nI s * 4) + nI (i + 1)) - 1 = nI (4 * s + i) := by rw [rt_j4]; exact nI_pred (4 * s + i)
    have ey : nI n - nI (i + 1) = nI (n - 1 - i) := by
      rw [pk_sub (by omega)]
      exact congrArg nI (by omega)
    refine And.intro (vp_in_nI hs (by omega)) (pk_lt (o s) (i + 1) (fun h => absurd h (by omega)) (fun _ => ⟨vp_in_nI hs (by omega), pk_lt n (o s) (fun h => absurd h (by omega)) (fun _ => ⟨pk_in (4 * s + i) 12 (by omega) ex, pk_in (n - 1 - i) 1000 (by omega) ey, ?_⟩) rfl eo⟩) eo)
    exact nm_e (nm_r (nI_1 (i + 1)) (ih (i + 1) _ (by omega) (rt_accS hx (rt_rd (4 * s + i) (h2 _ (by omega)) ex) (rt_rd (n - 1 - i) (ht _ (by omega)) ey))))
theorem ry_li2 {post : SY → Prop} (hS : rt_St o R Q a_orders a_rules a_starts) (hs : s < 3) (hc : cnt ≤ 1000)
    (H : ∀ tt : Nat → Int32, (∀ i, i < cnt → tt i = rt_e (rt_U o R Q s i)) → (∀ i, cnt ≤ i → tt i = a_t i) → post (a_orders, a_rules, a_starts, tt, a_table, a_way, a_square, a_spare, a_one, a_two)) :
    ∀ (d n : Nat) (tt : Nat → Int32), n + d = cnt → (∀ i, i < n → tt i = rt_e (rt_U o R Q s i)) → (∀ i, cnt ≤ i → tt i = a_t i) →
      wY_list_2 post (nI s) (nI cnt) (d + 1) (nI n) a_orders a_rules a_starts tt a_table a_way a_square a_spare a_one a_two := by
  have hS0 := hS
  obtain ⟨h1, h2, h3, h4, h5⟩ := hS
  have h4s := h4 s hs
  have eo : a_orders (nI s).toNatClampNeg = nI (o s) := rt_rd s (h1 s hs)
  intro d
  induction d with
  | zero =>
    intro n tt hn ht hf
    exact pk_le cnt n (fun _ => H tt (fun i hi => ht i (by omega)) hf) (fun h => absurd h (by omega))
  | succ d ih =>
    intro n tt hn ht hf
    have next : wY_list_2 post (nI s) (nI cnt) (d + 1) (nI (n + 1)) a_orders a_rules a_starts (upd tt n (rt_e (rt_U o R Q s n))) a_table a_way a_square a_spare a_one a_two :=
      ih (n + 1) _ (by omega) (rt_ux ht rfl) (fun i hi => by rw [pk_un (by omega)]; exact hf i hi)
    refine pk_le cnt n (fun h => absurd h (by omega)) (fun _ => ⟨vp_in_nI hs (by omega), pk_le (o s) n (fun h => ⟨o s + 1, ry_li36 hS0 hs (by omega) h ht next (o s) 0 0 (by omega) rt_acc0⟩) (fun h => ?_) eo⟩)
    refine ⟨pk_in (4 * s + n) 12 (by omega) (rt_j4 s n), nm_r (rt_rd (4 * s + n) (h3 _ (by omega)) (rt_j4 s n)) ⟨1, ?_⟩⟩
    refine And.intro (vp_in_nI hs (by omega)) (pk_lt (o s) 1 (fun h => absurd h (by omega)) (fun _ => ⟨vp_in_nI hs (by omega), pk_lt n (o s) (fun _ => ry_li91 (by omega) ?_ next) (fun h => absurd h (by omega)) rfl eo⟩) eo)
    rw [rt_accE (rt_acc1 rfl) (by omega), rt_Ulo h]
theorem ry_list {post : SY → Prop} (hS : rt_St o R Q a_orders a_rules a_starts) (hs : s < 3) (hc : cnt ≤ 1000)
    (H : ∀ tt : Nat → Int32, (∀ i, i < cnt → tt i = rt_e (rt_U o R Q s i)) → (∀ i, cnt ≤ i → tt i = a_t i) → post (a_orders, a_rules, a_starts, tt, a_table, a_way, a_square, a_spare, a_one, a_two)) : wpY_list post (a_orders, a_rules, a_starts, a_t, a_table, a_way, a_square, a_spare, a_one, a_two) (nI s) (nI cnt) :=
  Exists.intro (cnt + 1) (ry_li2 hS hs hc H cnt 0 _ (by omega) (fun i hi => absurd hi (Nat.not_lt_zero i)) (fun _ _ => rfl))
/-! the product of two tables -/
theorem ry_mu13 {post : SY → Prop} {x1 : Int32} {p : Nat} {A B : Nat → rt_F} (hp : p < 25)
    (hA : (x1 = 0 → ∀ q, q < 25 → a_way q = rt_e (A q)) ∧ (¬ x1 = 0 → ∀ q, q < 25 → a_square q = rt_e (A q))) (hB : ∀ q, q < 25 → a_square q = rt_e (B q))
    (H : J (nI (p + 1)) a_orders a_rules a_starts a_t a_table a_way a_square (upd a_spare p (rt_e (rt_S 5 (fun k => A (p / 5 * 5 + k) * B (k * 5 + p % 5))))) a_one a_two) :
    ∀ (d k : Nat) (x : Int32), k + d = 5 → rt_Acc x k (rt_S k (fun k => A (p / 5 * 5 + k) * B (k * 5 + p % 5))) →
      wY_multiply_13 post J x1 (nI p) a_orders a_rules a_starts a_t a_table a_way a_square a_spare a_one a_two (d + 1) x (nI k) := by
  intro d
  induction d with
  | zero =>
    intro k x hk hx
    have e : k = 5 := by omega
    subst e
    exact pk_le 5 5 (fun _ => ⟨by decide, vp_in_nI hp (by omega), nm_r (rt_up p (rt_accE hx (by omega))) (nm_r (nI_1 p) H)⟩) (fun h => absurd h (by omega))
  | succ d ih =>
    intro k x hk hx
    have e1 : nI p / 5 = nI (p / 5) := pk_div (d := 5) (by omega) (by omega) (by omega)
    have e2 : nI p - nI p / 5 * 5 = nI (p % 5) := pk_rem (d := 5) (by omega) (by omega) (by omega)
    have ex : ((nI p / 5) * 5) + nI k = nI (p / 5 * 5 + k) := by
      rw [e1]
      show nI (p / 5) * nI 5 + nI k = _
      rw [pk_mul, nI_add]
    have ey : (nI k * 5) + (nI p - nI p / 5 * 5) = nI (k * 5 + p % 5) := by
      rw [e2]
      show nI k * nI 5 + _ = _
      rw [pk_mul, nI_add]
    have key : ∀ v : Int32, v = rt_e (A (p / 5 * 5 + k)) → wY_multiply_52 post J (wY_multiply_13 post J x1 (nI p) a_orders a_rules a_starts a_t a_table a_way a_square a_spare a_one a_two (d + 1)) x1 (nI p) x (nI k) v a_orders a_rules a_starts a_t a_table a_way a_square a_spare a_one a_two := by
      intro v hv
      exact And.intro (by decide) ⟨pk_in (k * 5 + p % 5) 25 (by omega) ey, nm_e (nm_r (nI_1 k) (ih (k + 1) _ (by omega) (rt_accS hx hv (rt_rd (k * 5 + p % 5) (hB _ (by omega)) ey))))⟩
    exact pk_le 5 k (fun h => absurd h (by omega)) (fun _ => br_c (fun h => ⟨by decide, pk_in (p / 5 * 5 + k) 25 (by omega) ex, key _ (rt_rd (p / 5 * 5 + k) (hA.1 h _ (by omega)) ex)⟩)
      (fun h => ⟨by decide, pk_in (p / 5 * 5 + k) 25 (by omega) ex, key _ (rt_rd (p / 5 * 5 + k) (hA.2 h _ (by omega)) ex)⟩))
theorem ry_mu2 {post : SY → Prop} {x1 : Int32} {A B : Nat → rt_F}
    (hA : (x1 = 0 → ∀ q, q < 25 → a_way q = rt_e (A q)) ∧ (¬ x1 = 0 → ∀ q, q < 25 → a_square q = rt_e (A q))) (hB : ∀ q, q < 25 → a_square q = rt_e (B q))
    (H : ∀ sp : Nat → Int32, (∀ p, p < 25 → sp p = rt_e (rt_S 5 (fun k => A (p / 5 * 5 + k) * B (k * 5 + p % 5)))) → post (a_orders, a_rules, a_starts, a_t, a_table, a_way, a_square, sp, a_one, a_two)) :
    ∀ (d p : Nat) (sp : Nat → Int32), p + d = 25 → (∀ q, q < p → sp q = rt_e (rt_S 5 (fun k => A (q / 5 * 5 + k) * B (k * 5 + q % 5)))) → wY_multiply_2 post x1 (d + 1) (nI p) a_orders a_rules a_starts a_t a_table a_way a_square sp a_one a_two := by
  intro d
  induction d with
  | zero =>
    intro p sp hp hs
    exact pk_le 25 p (fun _ => H sp (fun q hq => hs q (by omega))) (fun h => absurd h (by omega))
  | succ d ih =>
    intro p sp hp hs
    exact pk_le 25 p (fun h => absurd h (by omega)) (fun _ => ⟨6, ry_mu13 (by omega) hA hB (ih (p + 1) _ (by omega) (rt_ux hs rfl)) 5 0 0 (by omega) rt_acc0⟩)
theorem ry_multiply {post : SY → Prop} {x1 : Int32} {A B : Nat → rt_F}
    (hA : (x1 = 0 → ∀ q, q < 25 → a_way q = rt_e (A q)) ∧ (¬ x1 = 0 → ∀ q, q < 25 → a_square q = rt_e (A q))) (hB : ∀ q, q < 25 → a_square q = rt_e (B q))
    (H : ∀ sp : Nat → Int32, (∀ p, p < 25 → sp p = rt_e (rt_S 5 (fun k => A (p / 5 * 5 + k) * B (k * 5 + p % 5)))) → post (a_orders, a_rules, a_starts, a_t, a_table, a_way, a_square, sp, a_one, a_two)) : wpY_multiply post (a_orders, a_rules, a_starts, a_t, a_table, a_way, a_square, a_spare, a_one, a_two) x1 :=
  Exists.intro 26 (ry_mu2 hA hB H 25 0 _ (by omega) (fun i hi => absurd hi (Nat.not_lt_zero i)))
end
/-- four terms and the sum of those before -/
def rt_V (T : Nat → rt_F) (m : Nat) : Nat → rt_F := fun i => if i < 4 then T (m + i) else rt_S m T
def rt_MR (T A : Nat → rt_F) (q : Nat) : Prop := ∀ m r, r < 5 → rt_V T (m + q) r = rt_S 5 (fun k => A (r * 5 + k) * rt_V T m k)
theorem rt_mrP {T A B : Nat → rt_F} {p q : Nat} (hA : rt_MR T A p) (hB : rt_MR T B q) : rt_MR T (fun x => rt_S 5 (fun k => A (x / 5 * 5 + k) * B (k * 5 + x % 5))) (p + q) := by
  intro m r hr
  have e0 : rt_V T (m + (p + q)) r = rt_V T (m + q + p) r := by rw [show m + (p + q) = m + q + p by omega]
  rw [e0, hA (m + q) r hr]
  have e1 : rt_S 5 (fun k => A (r * 5 + k) * rt_V T (m + q) k) = rt_S 5 (fun k => rt_S 5 (fun j => A (r * 5 + k) * (B (k * 5 + j) * rt_V T m j))) := rt_Sc (fun k hk => by
    show A (r * 5 + k) * rt_V T (m + q) k = _
    rw [hB m k hk]
    exact (rt_Smul 5 _ _).symm)
  rw [e1, rt_Sx 5 5 (fun k j => A (r * 5 + k) * (B (k * 5 + j) * rt_V T m j))]
  refine rt_Sc (fun j hj => ?_)
  show rt_S 5 (fun k => A (r * 5 + k) * (B (k * 5 + j) * rt_V T m j)) = rt_S 5 (fun k => A ((r * 5 + j) / 5 * 5 + k) * B (k * 5 + (r * 5 + j) % 5)) * rt_V T m j
  rw [← rt_Smr, show (r * 5 + j) / 5 = r by omega, show (r * 5 + j) % 5 = j by omega]
  exact rt_Sc (fun k _ => (rg_mm _ _ _).symm)
theorem rt_mrE {T A A' : Nat → rt_F} {q : Nat} (h : rt_MR T A q) (e : ∀ p, p < 25 → A' p = A p) : rt_MR T A' q := fun m r hr => by
  rw [h m r hr]
  exact rt_Sc (fun k hk => by rw [e (r * 5 + k) (by omega)])
theorem rt_mr0 {T A : Nat → rt_F} (h : ∀ p, p < 25 → A p = if p / 5 = p % 5 then 1 else 0) : rt_MR T A 0 := fun m r hr => by
  rw [rt_Sone (p := r) hr (fun k hk hne => by rw [h (r * 5 + k) (by omega), if_neg (by omega), rg_0m]), h (r * 5 + r) (by omega), if_pos (by omega), rg_1m, Nat.add_zero]
/-- the table of one step -/
def rt_D3 (j p : Nat) : rt_F := if p % 6 = 1 ∧ p < 6 * j then 1 else 0
def rt_A0 (R : Nat → rt_F) (s j p : Nat) : rt_F := if 19 ≤ p + j ∧ p < 19 then R (4 * s + (18 - p)) else rt_D3 3 p
def rt_A1 (R : Nat → rt_F) (s j p : Nat) : rt_F := if p = 24 then 1 else if p = 20 then 1 else rt_A0 R s j p
theorem rt_mr1 {R T : Nat → rt_F} {s k : Nat} (hK : rt_Keep 4 (fun j => R (4 * s + (3 - j))) T) (hk : k ≤ 4) (hz : ∀ i, k ≤ i → i < 4 → R (4 * s + i) = 0) : rt_MR T (rt_A1 R s k) 1 := by
  intro m r hr
  have a1 : ∀ p, p < 15 → rt_A1 R s k p = if p % 6 = 1 then 1 else 0 := fun p hp => by
    show (if p = 24 then 1 else if p = 20 then 1 else if 19 ≤ p + k ∧ p < 19 then _ else if p % 6 = 1 ∧ p < 6 * 3 then 1 else 0) = _
    rw [if_neg (by omega), if_neg (by omega), if_neg (by omega)]
    by_cases y : p % 6 = 1
    · rw [if_pos ⟨y, by omega⟩, if_pos y]
    · rw [if_neg (fun h => y h.1), if_neg y]
  have a2 : ∀ q, q < 4 → rt_A1 R s k (15 + q) = R (4 * s + (3 - q)) := fun q hq => by
    show (if 15 + q = 24 then 1 else if 15 + q = 20 then 1 else if 19 ≤ 15 + q + k ∧ 15 + q < 19 then R (4 * s + (18 - (15 + q))) else if (15 + q) % 6 = 1 ∧ 15 + q < 6 * 3 then 1 else 0) = _
    rw [if_neg (by omega), if_neg (by omega)]
    by_cases y : 19 ≤ 15 + q + k
    · rw [if_pos ⟨y, by omega⟩, show 18 - (15 + q) = 3 - q by omega]
    · rw [if_neg (by omega), if_neg (by omega), hz (3 - q) (by omega) (by omega)]
  have a3 : ∀ p, 19 ≤ p → p < 25 → p ≠ 20 → p ≠ 24 → rt_A1 R s k p = 0 := fun p h1 h2 h3 h4 => by
    show (if p = 24 then 1 else if p = 20 then 1 else if 19 ≤ p + k ∧ p < 19 then _ else if p % 6 = 1 ∧ p < 6 * 3 then 1 else 0) = _
    rw [if_neg h4, if_neg h3, if_neg (by omega), if_neg (by omega)]
  by_cases y : r < 3
  · rw [rt_Sone (p := r + 1) (by omega) (fun q hq hne => by rw [a1 (r * 5 + q) (by omega), if_neg (by omega), rg_0m]), a1 (r * 5 + (r + 1)) (by omega), if_pos (by omega), rg_1m]
    show (if r < 4 then T (m + 1 + r) else _) = (if r + 1 < 4 then T (m + (r + 1)) else _)
    rw [if_pos (by omega), if_pos (by omega), show m + 1 + r = m + (r + 1) by omega]
  · by_cases x : r = 3
    · subst x
      rw [rt_Ss, show 3 * 5 + 4 = 19 from rfl, a3 19 (by omega) (by omega) (by omega) (by omega), rg_0m, rg_a0]
      have e : rt_S 4 (fun q => rt_A1 R s k (3 * 5 + q) * rt_V T m q) = rt_S 4 (fun q => R (4 * s + (3 - q)) * T (q + m)) := rt_Sc (fun q hq => by
        rw [a2 q hq]
        show _ * (if q < 4 then T (m + q) else _) = _
        rw [if_pos hq, Nat.add_comm m q])
      rw [e]
      show (if 3 < 4 then T (m + 1 + 3) else _) = _
      rw [if_pos (by omega), show m + 1 + 3 = 4 + m by omega]
      exact hK m
    · have e : r = 4 := by omega
      subst e
      rw [rt_Stwo (p := 0) (q := 4) (by omega) (by omega) (fun q hq h1 h2 => by rw [a3 (4 * 5 + q) (by omega) (by omega) (by omega) (by omega), rg_0m])]
      show rt_S (m + 1) T = 1 * (if 0 < 4 then T (m + 0) else _) + 1 * rt_S m T
      rw [if_pos (by omega), rg_1m, rg_1m, rt_Ss, Nat.add_zero, rg_ac]
section
variable {a_orders a_rules a_starts a_t a_table a_way a_square a_spare a_one a_two : Nat → Int32}
variable {o : Nat → Nat} {R Q : Nat → rt_F} {s t n cnt : Nat} {T : Nat → rt_F}
  {J2 : Int32 → Int32 → (Nat → Int32) → (Nat → Int32) → (Nat → Int32) → (Nat → Int32) → (Nat → Int32) → (Nat → Int32) → (Nat → Int32) → (Nat → Int32) → (Nat → Int32) → (Nat → Int32) → Prop}
theorem ry_w188 {post : SY → Prop} {x3 : Int32} {b : Nat} {B : Nat → rt_F} (hB : ∀ q, q < 25 → a_spare q = rt_e (B q))
    (H : ∀ sq : Nat → Int32, (∀ q, q < 25 → sq q = rt_e (B q)) → J2 x3 (nI (b + 1)) a_orders a_rules a_starts a_t a_table a_way sq a_spare a_one a_two) :
    ∀ (d j : Nat) (sq : Nat → Int32), j + d = 25 → (∀ q, q < j → sq q = rt_e (B q)) → wY_walk_188 post J2 x3 (nI b) (d + 1) (nI j) a_orders a_rules a_starts a_t a_table a_way sq a_spare a_one a_two := by
  intro d
  induction d with
  | zero =>
    intro j sq hj hs
    exact pk_le 25 j (fun _ => nm_r (nI_1 b) (H sq (fun q hq => hs q (by omega)))) (fun h => absurd h (by omega))
  | succ d ih =>
    intro j sq hj hs
    exact pk_le 25 j (fun h => absurd h (by omega)) (fun _ => ⟨vp_in_nI (by omega) (by omega), vp_in_nI (by omega) (by omega), nm_r (rt_up j (rt_rd j (hB j (by omega)))) (nm_r (nI_1 j) (ih (j + 1) _ (by omega) (rt_ux hs rfl)))⟩)
theorem ry_w176 {post : SY → Prop} {v b : Nat} {B : Nat → rt_F} (hv : v < 2 ^ 31) (hB : ∀ q, q < 25 → a_square q = rt_e (B q)) (hb : rt_MR T B (2 ^ b))
    (H : ∀ (sq sp : Nat → Int32) (B' : Nat → rt_F), (∀ q, q < 25 → sq q = rt_e (B' q)) → rt_MR T B' (2 ^ (b + 1)) → J2 (nI (v / 2)) (nI (b + 1)) a_orders a_rules a_starts a_t a_table a_way sq sp a_one a_two) :
    wY_walk_176 post J2 (nI v) (nI b) a_orders a_rules a_starts a_t a_table a_way a_square a_spare a_one a_two := by
  refine And.intro (by decide) (nm_r (pk_div (d := 2) hv (by omega) (by omega)) ?_)
  refine ry_multiply (A := B) (B := B) ⟨fun h => absurd h (by decide), fun _ => hB⟩ hB (fun sp hsp => ⟨26, ry_w188 hsp (fun sq hsq => H sq sp _ hsq ?_) 25 0 _ (by omega) (fun i hi => absurd hi (Nat.not_lt_zero i))⟩)
  have e := rt_mrP hb hb
  rw [show 2 ^ b + 2 ^ b = 2 ^ (b + 1) by rw [Nat.pow_succ]; omega] at e
  exact e
theorem ry_w149 {post : SY → Prop} {v b : Nat} {A B : Nat → rt_F} (hv : v < 2 ^ 31) (hA : ∀ q, q < 25 → a_spare q = rt_e (A q)) (hB : ∀ q, q < 25 → a_square q = rt_e (B q)) (hb : rt_MR T B (2 ^ b))
    (H : ∀ (wy sq sp : Nat → Int32) (B' : Nat → rt_F), (∀ q, q < 25 → wy q = rt_e (A q)) → (∀ q, q < 25 → sq q = rt_e (B' q)) → rt_MR T B' (2 ^ (b + 1)) → J2 (nI (v / 2)) (nI (b + 1)) a_orders a_rules a_starts a_t a_table wy sq sp a_one a_two) :
    ∀ (d j : Nat) (wy : Nat → Int32), j + d = 25 → (∀ q, q < j → wy q = rt_e (A q)) → wY_walk_149 post J2 (nI v) (nI b) (d + 1) (nI j) a_orders a_rules a_starts a_t a_table wy a_square a_spare a_one a_two := by
  intro d
  induction d with
  | zero =>
    intro j wy hj hs
    exact pk_le 25 j (fun _ => ry_w176 hv hB hb (fun sq sp B' h1 h2 => H wy sq sp B' (fun q hq => hs q (by omega)) h1 h2)) (fun h => absurd h (by omega))
  | succ d ih =>
    intro j wy hj hs
    exact pk_le 25 j (fun h => absurd h (by omega)) (fun _ => ⟨vp_in_nI (by omega) (by omega), vp_in_nI (by omega) (by omega), nm_r (rt_up j (rt_rd j (hA j (by omega)))) (nm_r (nI_1 j) (ih (j + 1) _ (by omega) (rt_ux hs rfl)))⟩)
theorem rt_modS (n b : Nat) : n % 2 ^ (b + 1) = n % 2 ^ b + 2 ^ b * (n / 2 ^ b % 2) := by
  rw [Nat.pow_succ, Nat.mod_mul]
theorem ry_w127 {post : SY → Prop} (hn : n < 2 ^ 31)
    (H : ∀ (wy sq sp : Nat → Int32) (A : Nat → rt_F), (∀ q, q < 25 → wy q = rt_e (A q)) → rt_MR T A n → post (a_orders, a_rules, a_starts, a_t, a_table, wy, sq, sp, a_one, a_two)) :
    ∀ (d b : Nat) (wy sq sp : Nat → Int32) (A B : Nat → rt_F), b + d = 31 → (∀ q, q < 25 → wy q = rt_e (A q)) → rt_MR T A (n % 2 ^ b) → (∀ q, q < 25 → sq q = rt_e (B q)) → rt_MR T B (2 ^ b) →
      wY_walk_127 post (d + 1) (nI (n / 2 ^ b)) (nI b) a_orders a_rules a_starts a_t a_table wy sq sp a_one a_two := by
  intro d
  induction d with
  | zero =>
    intro b wy sq sp A B hb h1 h2 h3 h4
    have e : b = 31 := by omega
    subst e
    rw [Nat.mod_eq_of_lt hn] at h2
    exact pk_le 31 31 (fun _ => H wy sq sp A h1 h2) (fun h => absurd h (by omega))
  | succ d ih =>
    intro b wy sq sp A B hb h1 h2 h3 h4
    have hv : n / 2 ^ b < 2 ^ 31 := Nat.lt_of_le_of_lt (Nat.div_le_self _ _) hn
    have hd : n / 2 ^ b / 2 = n / 2 ^ (b + 1) := by rw [Nat.pow_succ, Nat.div_div_eq_div_mul]
    have hm := rt_modS n b
    refine pk_le 31 b (fun h => absurd h (by omega)) (fun _ => ⟨by decide, pk_eq (n / 2 ^ b % 2) 1 (fun hbit => ?_) (fun hbit => ?_) (pk_rem (d := 2) hv (by omega) (by omega)) rfl (by omega) (by omega)⟩)
    · refine ry_multiply (A := A) (B := B) ⟨fun _ => h1, fun h => absurd rfl h⟩ h3 (fun sp' hsp => ⟨26, ry_w149 hv hsp h3 h4 (fun wy' sq' sp2 B' k1 k2 k3 => ?_) 25 0 _ (by omega) (fun i hi => absurd hi (Nat.not_lt_zero i))⟩)
      rw [hd]
      refine ih (b + 1) wy' sq' sp2 _ B' (by omega) k1 ?_ k2 k3
      rw [hm, hbit, Nat.mul_one]
      exact rt_mrP h2 h4
    · refine ry_w176 hv h3 h4 (fun sq' sp2 B' k2 k3 => ?_)
      rw [hd]
      refine ih (b + 1) wy sq' sp2 A B' (by omega) h1 ?_ k2 k3
      rw [hm, show n / 2 ^ b % 2 = 0 by omega, Nat.mul_zero, Nat.add_zero]
      exact h2
theorem ry_w69 {post : SY → Prop} (hS : rt_St o R Q a_orders a_rules a_starts) (hs : s < 3) (hn : n < 2 ^ 31) {A : Nat → rt_F} (hA : ∀ q, q < 25 → a_way q = rt_e (A q)) (hA0 : rt_MR (rt_U o R Q s) A 0)
    (H : ∀ (wy sq sp : Nat → Int32) (A : Nat → rt_F), (∀ q, q < 25 → wy q = rt_e (A q)) → rt_MR (rt_U o R Q s) A n → post (a_orders, a_rules, a_starts, a_t, a_table, wy, sq, sp, a_one, a_two)) :
    ∀ (d j : Nat) (sq : Nat → Int32), j + d = o s → (∀ q, q < 25 → sq q = rt_e (rt_A0 R s j q)) → wY_walk_69 post (nI s) (nI n) (d + 1) (nI (j + 1)) a_orders a_rules a_starts a_t a_table a_way sq a_spare a_one a_two := by
  have hS0 := hS
  obtain ⟨h1, h2, h3, h4, h5⟩ := hS
  have h4s := h4 s hs
  have eo : a_orders (nI s).toNatClampNeg = nI (o s) := rt_rd s (h1 s hs)
  intro d
  induction d with
  | zero =>
    intro j sq hj hq
    have e : j = o s := by omega
    refine And.intro (vp_in_nI hs (by omega)) (pk_lt (o s) (j + 1) (fun _ => nm_e (nm_e ⟨32, ?_⟩)) (fun h => absurd h (by omega)) eo)
    have k1 : rt_MR (rt_U o R Q s) (rt_A1 R s (o s)) (2 ^ 0) := rt_mr1 (rt_Ukeep4 hS0 hs) h4s (fun i a b => (h5 s i hs a b).1)
    have k2 := ry_w127 (T := rt_U o R Q s) hn H 31 0 a_way (upd (upd sq 20 1) 24 1) a_spare A (rt_A1 R s (o s)) (by omega) hA (by rw [Nat.pow_zero, Nat.mod_one]; exact hA0) (fun q h => ?_) k1
    · rw [Nat.pow_zero, Nat.div_one] at k2
      exact k2
    · show upd (upd sq 20 1) 24 1 q = rt_e (if q = 24 then 1 else if q = 20 then 1 else rt_A0 R s (o s) q)
      by_cases y : q = 24
      · subst y
        rw [pk_us, if_pos rfl]
        rfl
      · rw [pk_un y, if_neg y]
        by_cases z : q = 20
        · subst z
          rw [pk_us, if_pos rfl]
          rfl
        · rw [pk_un z, if_neg z, hq q h, e]
  | succ d ih =>
    intro j sq hj hq
    have ex : ((nI s * 4) + nI (j + 1)) - 1 = nI (4 * s + j) := by rw [rt_j4]; exact nI_pred (4 * s + j)
    have ey : 19 - nI (j + 1) = nI (18 - j) := by
      show nI 19 - nI (j + 1) = _
      rw [pk_sub (by omega)]
      exact congrArg nI (by omega)
    refine And.intro (vp_in_nI hs (by omega)) (pk_lt (o s) (j + 1) (fun h => absurd h (by omega)) (fun _ => ⟨pk_in (4 * s + j) 12 (by omega) ex, pk_in (18 - j) 25 (by omega) ey, nm_r (rt_up (18 - j) (rt_rd (4 * s + j) (h2 _ (by omega)) ex) ey) (nm_r (nI_1 (j + 1)) (ih (j + 1) _ (by omega) (fun q h => ?_)))⟩) eo)
    show upd sq (18 - j) (rt_e (R (4 * s + j))) q = rt_e (if 19 ≤ q + (j + 1) ∧ q < 19 then R (4 * s + (18 - q)) else rt_D3 3 q)
    by_cases y : q = 18 - j
    · subst y
      rw [pk_us, if_pos (by omega), show 18 - (18 - j) = j by omega]
    · rw [pk_un y, hq q h]
      show rt_e (if 19 ≤ q + j ∧ q < 19 then R (4 * s + (18 - q)) else rt_D3 3 q) = _
      by_cases z : 19 ≤ q + j ∧ q < 19
      · rw [if_pos z, if_pos (by omega)]
      · rw [if_neg z, if_neg (by omega)]
theorem ry_w43 {post : SY → Prop} (hS : rt_St o R Q a_orders a_rules a_starts) (hs : s < 3) (hn : n < 2 ^ 31) {A : Nat → rt_F} (hA : ∀ q, q < 25 → a_way q = rt_e (A q)) (hA0 : rt_MR (rt_U o R Q s) A 0)
    (H : ∀ (wy sq sp : Nat → Int32) (A : Nat → rt_F), (∀ q, q < 25 → wy q = rt_e (A q)) → rt_MR (rt_U o R Q s) A n → post (a_orders, a_rules, a_starts, a_t, a_table, wy, sq, sp, a_one, a_two)) :
    ∀ (d j : Nat) (sq : Nat → Int32), j + d = 3 → (∀ q, q < 25 → sq q = rt_e (rt_D3 j q)) → wY_walk_43 post (nI s) (nI n) (d + 1) (nI j) a_orders a_rules a_starts a_t a_table a_way sq a_spare a_one a_two := by
  intro d
  induction d with
  | zero =>
    intro j sq hj hq
    have e : j = 3 := by omega
    subst e
    refine pk_le 3 3 (fun _ => ⟨o s + 1, ry_w69 hS hs hn hA hA0 H (o s) 0 sq (by omega) (fun q h => ?_)⟩) (fun h => absurd h (by omega))
    rw [hq q h]
    show _ = rt_e (if 19 ≤ q + 0 ∧ q < 19 then _ else rt_D3 3 q)
    rw [if_neg (by omega)]
  | succ d ih =>
    intro j sq hj hq
    have ex : ((nI j * 5) + nI j) + 1 = nI (6 * j + 1) := by
      show ((nI j * nI 5) + nI j) + 1 = _
      rw [pk_mul, nI_add, nI_1]
      exact congrArg nI (by omega)
    refine pk_le 3 j (fun h => absurd h (by omega)) (fun _ => ⟨pk_in (6 * j + 1) 25 (by omega) ex, nm_r (rt_up (v' := rt_e 1) (6 * j + 1) rfl ex) (nm_r (nI_1 j) (ih (j + 1) _ (by omega) (fun q h => ?_)))⟩)
    show upd sq (6 * j + 1) (rt_e 1) q = rt_e (if q % 6 = 1 ∧ q < 6 * (j + 1) then 1 else 0)
    by_cases y : q = 6 * j + 1
    · subst y
      rw [pk_us, if_pos (by omega)]
    · rw [pk_un y, hq q h]
      show rt_e (if q % 6 = 1 ∧ q < 6 * j then 1 else 0) = _
      by_cases z : q % 6 = 1 ∧ q < 6 * j
      · rw [if_pos z, if_pos (by omega)]
      · rw [if_neg z, if_neg (by omega)]
theorem ry_w2 {post : SY → Prop} (hS : rt_St o R Q a_orders a_rules a_starts) (hs : s < 3) (hn : n < 2 ^ 31)
    (H : ∀ (wy sq sp : Nat → Int32) (A : Nat → rt_F), (∀ q, q < 25 → wy q = rt_e (A q)) → rt_MR (rt_U o R Q s) A n → post (a_orders, a_rules, a_starts, a_t, a_table, wy, sq, sp, a_one, a_two)) :
    ∀ (d j : Nat) (wy sq : Nat → Int32), j + d = 25 → (∀ q, q < j → wy q = rt_e (if q / 5 = q % 5 then 1 else 0)) → (∀ q, q < j → sq q = rt_e 0) → wY_walk_2 post (nI s) (nI n) (d + 1) (nI j) a_orders a_rules a_starts a_t a_table wy sq a_spare a_one a_two := by
  intro d
  induction d with
  | zero =>
    intro j wy sq hj hw hq
    refine pk_le 25 j (fun _ => ⟨4, ry_w43 (A := fun q => if q / 5 = q % 5 then 1 else 0) hS hs hn (fun q h => hw q (by omega)) (rt_mr0 (fun _ _ => rfl)) H 3 0 sq (by omega) (fun q h => ?_)⟩) (fun h => absurd h (by omega))
    rw [hq q (by omega)]
    show _ = rt_e (if q % 6 = 1 ∧ q < 6 * 0 then 1 else 0)
    rw [if_neg (by omega)]
  | succ d ih =>
    intro j wy sq hj hw hq
    have e1 : nI j / 5 = nI (j / 5) := pk_div (d := 5) (by omega) (by omega) (by omega)
    have e2 : nI j - nI j / 5 * 5 = nI (j % 5) := pk_rem (d := 5) (by omega) (by omega) (by omega)
    have key : ∀ v : Int32, v = rt_e (if j / 5 = j % 5 then 1 else 0) → wY_walk_27 post (wY_walk_2 post (nI s) (nI n) (d + 1)) (nI s) (nI n) (nI j) v (nI j) a_orders a_rules a_starts a_t a_table wy sq a_spare a_one a_two := by
      intro v hv
      exact And.intro (vp_in_nI (by omega) (by omega)) (nm_r (rt_up j hv) ⟨vp_in_nI (by omega) (by omega), nm_r (rt_up (v' := rt_e 0) j rfl) (nm_r (nI_1 j) (ih (j + 1) _ _ (by omega) (rt_ux hw rfl) (rt_ux hq rfl)))⟩)
    exact pk_le 25 j (fun h => absurd h (by omega)) (fun _ => ⟨by decide, by decide, pk_eq (j / 5) (j % 5) (fun h => key 1 (by rw [if_pos h]; rfl)) (fun h => key 0 (by rw [if_neg h]; rfl)) e1 e2⟩)
theorem ry_walk {post : SY → Prop} (hS : rt_St o R Q a_orders a_rules a_starts) (hs : s < 3) (hn : n < 2 ^ 31)
    (H : ∀ (wy sq sp : Nat → Int32) (A : Nat → rt_F), (∀ q, q < 25 → wy q = rt_e (A q)) → rt_MR (rt_U o R Q s) A n → post (a_orders, a_rules, a_starts, a_t, a_table, wy, sq, sp, a_one, a_two)) : wpY_walk post (a_orders, a_rules, a_starts, a_t, a_table, a_way, a_square, a_spare, a_one, a_two) (nI s) (nI n) :=
  Exists.intro 26 (ry_w2 hS hs hn H 25 0 _ _ (by omega) (fun i hi => absurd hi (Nat.not_lt_zero i)) (fun i hi => absurd hi (Nat.not_lt_zero i)))
theorem ry_fr11 {post : Int32 → SY → Prop} {r : Nat} {A T : Nat → rt_F} (hr : r < 5) (hA : ∀ q, q < 25 → a_way q = rt_e (A q)) (hT : ∀ q, q < 4 → a_t q = rt_e (T q))
    (H : post (rt_e (rt_S 4 (fun k => A (r * 5 + k) * T k))) (a_orders, a_rules, a_starts, a_t, a_table, a_way, a_square, a_spare, a_one, a_two)) :
    ∀ (d k : Nat) (x : Int32), k + d = 4 → rt_Acc x k (rt_S k (fun k => A (r * 5 + k) * T k)) → wY_from_11 post (nI r) a_orders a_rules a_starts a_t a_table a_way a_square a_spare a_one a_two (d + 1) x (nI k) := by
  intro d
  induction d with
  | zero =>
    intro k x hk hx
    have e : k = 4 := by omega
    subst e
    refine pk_le 4 4 (fun _ => ⟨by decide, ?_⟩) (fun h => absurd h (by omega))
    rw [rt_accE hx (by omega)]
    exact H
  | succ d ih =>
    intro k x hk hx
    have ex : (nI r * 5) + nI k = nI (r * 5 + k) := by
      show nI r * nI 5 + nI k = _
      rw [pk_mul, nI_add]
    exact pk_le 4 k (fun h => absurd h (by omega)) (fun _ => ⟨pk_in (r * 5 + k) 25 (by omega) ex, vp_in_nI (by omega) (by omega), nm_e (nm_r (nI_1 k) (ih (k + 1) _ (by omega) (rt_accS hx (rt_rd (r * 5 + k) (hA _ (by omega)) ex) (rt_rd k (hT k (by omega))))))⟩)
theorem ry_from {post : Int32 → SY → Prop} {r : Nat} {A : Nat → rt_F} (hS : rt_St o R Q a_orders a_rules a_starts) (hs : s < 3) (hr : r < 5) (hA : ∀ q, q < 25 → a_way q = rt_e (A q)) (hM : rt_MR (rt_U o R Q s) A n)
    (H : ∀ tt : Nat → Int32, post (rt_e (rt_V (rt_U o R Q s) n r)) (a_orders, a_rules, a_starts, tt, a_table, a_way, a_square, a_spare, a_one, a_two)) : wpY_from post (a_orders, a_rules, a_starts, a_t, a_table, a_way, a_square, a_spare, a_one, a_two) (nI s) (nI r) := by
  unfold wpY_from
  refine ry_list (cnt := 4) hS hs (by omega) (fun tt ht _ => ?_)
  refine ⟨5, ry_fr11 (T := rt_U o R Q s) hr hA ht ?_ 4 0 0 (by omega) rt_acc0⟩
  have e := hM 0 r hr
  rw [Nat.zero_add, rt_Ss] at e
  have e1 : rt_V (rt_U o R Q s) 0 4 = 0 := rfl
  rw [e1, rg_m0, rg_a0] at e
  have e2 : rt_S 4 (fun k => A (r * 5 + k) * rt_U o R Q s k) = rt_V (rt_U o R Q s) n r := by
    rw [e]
    refine rt_Sc (fun k hk => ?_)
    show _ = A (r * 5 + k) * (if k < 4 then rt_U o R Q s (0 + k) else _)
    rw [if_pos hk, Nat.zero_add]
  rw [e2]
  exact H tt
theorem ry_term {post : Int32 → SY → Prop} (hS : rt_St o R Q a_orders a_rules a_starts) (hs : s < 3) (hn : n < 2 ^ 31)
    (H : ∀ tt wy sq sp : Nat → Int32, post (rt_e (rt_U o R Q s n)) (a_orders, a_rules, a_starts, tt, a_table, wy, sq, sp, a_one, a_two)) : wpY_term post (a_orders, a_rules, a_starts, a_t, a_table, a_way, a_square, a_spare, a_one, a_two) (nI s) (nI n) := by
  unfold wpY_term
  refine rt_gY hs ?_
  refine br_t rfl (br_t (nI_pos' hn) ?_)
  refine ry_walk hS hs hn (fun wy sq sp A hA hM => ?_)
  refine ry_from (r := 0) hS hs (by omega) hA hM (fun tt => ?_)
  exact H tt wy sq sp
theorem ry_sum {post : Int32 → SY → Prop} (hS : rt_St o R Q a_orders a_rules a_starts) (hs : s < 3) (hn : n ≤ 1000000)
    (H : ∀ tt wy sq sp : Nat → Int32, post (rt_e (rt_S (n + 1) (rt_U o R Q s))) (a_orders, a_rules, a_starts, tt, a_table, wy, sq, sp, a_one, a_two)) : wpY_sum post (a_orders, a_rules, a_starts, a_t, a_table, a_way, a_square, a_spare, a_one, a_two) (nI s) (nI n) := by
  unfold wpY_sum
  refine rt_gY hs ?_
  refine br_t rfl (br_f (nI_pos (by omega)) (pk_le n 1000000 (fun _ => ?_) (fun h => absurd h (by omega))))
  rw [nI_1]
  refine ry_walk hS hs (by omega) (fun wy sq sp A hA hM => ?_)
  refine ry_from (r := 4) hS hs (by omega) hA hM (fun tt => ?_)
  exact H tt wy sq sp
end
end
section
/-! the reference: tables, their rank, the shortest rule -/
def rt_red (A : Nat → rt_F) (j p : Nat) (u v : rt_F) (k q : Nat) : rt_F := if j * 16 ≤ q ∧ q < j * 16 + k then A q * u - A (p * 16 + (q - j * 16)) * v else A q
def rt_exc (A : Nat → rt_F) (j p k q : Nat) : rt_F := if j * 16 ≤ q ∧ q < j * 16 + k then A (p * 16 + (q - j * 16)) else if p * 16 ≤ q ∧ q < p * 16 + k then A (j * 16 + (q - p * 16)) else A q
def rt_el (A : Nat → rt_F) (r c wd j q : Nat) : rt_F := if q / 16 < j ∧ q / 16 ≠ r ∧ q % 16 < wd then A q * A (r * 16 + c) - A (r * 16 + q % 16) * A (q / 16 * 16 + c) else A q
theorem rt_i16 (j k : Nat) : (nI j * 16) + nI k = nI (j * 16 + k) := by
  show nI j * nI 16 + nI k = _
  rw [pk_mul, nI_add]
section
variable {a_orders a_rules a_starts a_t a_table a_way a_square a_spare a_one a_two : Nat → Int32}
variable {A : Nat → rt_F} {j p c wd w r L : Nat}
theorem ry_re29 {post : SY → Prop} {u v : rt_F} (hj : j < 16) (hp : p < 16) (hjp : j ≠ p) (hw : wd ≤ 16)
    (H : ∀ tb : Nat → Int32, (∀ q, q < 256 → tb q = rt_e (rt_red A j p u v wd q)) → post (a_orders, a_rules, a_starts, a_t, tb, a_way, a_square, a_spare, a_one, a_two)) :
    ∀ (d k : Nat) (tb : Nat → Int32), k + d = wd → (∀ q, q < 256 → tb q = rt_e (rt_red A j p u v k q)) → wY_reduce_29 post (nI j) (nI p) (nI wd) (rt_e u) (rt_e v) (d + 1) (nI k) a_orders a_rules a_starts a_t tb a_way a_square a_spare a_one a_two := by
  intro d
  induction d with
  | zero =>
    intro k tb hk ht
    have e : k = wd := by omega
    subst e
    exact pk_le k k (fun _ => H tb ht) (fun h => absurd h (by omega))
  | succ d ih =>
    intro k tb hk ht
    have e1 : tb (j * 16 + k) = rt_e (A (j * 16 + k)) := by
      rw [ht _ (by omega)]
      show rt_e (if j * 16 ≤ j * 16 + k ∧ j * 16 + k < j * 16 + k then _ else _) = _
      rw [if_neg (by omega)]
    have e2 : tb (p * 16 + k) = rt_e (A (p * 16 + k)) := by
      rw [ht _ (by omega)]
      show rt_e (if j * 16 ≤ p * 16 + k ∧ p * 16 + k < j * 16 + k then _ else _) = _
      rw [if_neg (by omega)]
    refine pk_le wd k (fun h => absurd h (by omega)) (fun _ => ⟨pk_in (j * 16 + k) 256 (by omega) (rt_i16 j k), pk_in (p * 16 + k) 256 (by omega) (rt_i16 p k), rt_moY ⟨pk_in (j * 16 + k) 256 (by omega) (rt_i16 j k), ?_⟩⟩)
    have e3 := rt_nmE (rt_rd (a := tb) (j * 16 + k) e1 (rt_i16 j k)) (show rt_e u = rt_e u from rfl) (rt_rd (a := tb) (p * 16 + k) e2 (rt_i16 p k)) (show rt_e v = rt_e v from rfl)
    rw [e3]
    refine nm_r (rt_up (j * 16 + k) rfl (rt_i16 j k)) (nm_r (nI_1 k) (ih (k + 1) _ (by omega) (fun q hq => ?_)))
    show upd tb (j * 16 + k) _ q = rt_e (if j * 16 ≤ q ∧ q < j * 16 + (k + 1) then A q * u - A (p * 16 + (q - j * 16)) * v else A q)
    by_cases y : q = j * 16 + k
    · subst y
      rw [pk_us, if_pos (by omega), show j * 16 + k - j * 16 = k by omega]
    · rw [pk_un y, ht q hq]
      show rt_e (if j * 16 ≤ q ∧ q < j * 16 + k then A q * u - A (p * 16 + (q - j * 16)) * v else A q) = _
      by_cases z : j * 16 ≤ q ∧ q < j * 16 + k
      · rw [if_pos z, if_pos (by omega)]
      · rw [if_neg z, if_neg (by omega)]
theorem ry_reduce {post : SY → Prop} (hj : j < 16) (hp : p < 16) (hjp : j ≠ p) (hc : c < 16) (hw : wd ≤ 16) (hA : ∀ q, q < 256 → a_table q = rt_e (A q))
    (H : ∀ tb : Nat → Int32, (∀ q, q < 256 → tb q = rt_e (rt_red A j p (A (p * 16 + c)) (A (j * 16 + c)) wd q)) → post (a_orders, a_rules, a_starts, a_t, tb, a_way, a_square, a_spare, a_one, a_two)) :
    wpY_reduce post (a_orders, a_rules, a_starts, a_t, a_table, a_way, a_square, a_spare, a_one, a_two) (nI j) (nI p) (nI c) (nI wd) := by
  refine And.intro (pk_in (p * 16 + c) 256 (by omega) (rt_i16 p c)) (nm_r (rt_rd (p * 16 + c) (hA _ (by omega)) (rt_i16 p c)) ⟨pk_in (j * 16 + c) 256 (by omega) (rt_i16 j c), nm_r (rt_rd (j * 16 + c) (hA _ (by omega)) (rt_i16 j c)) ⟨wd + 1, ?_⟩⟩)
  refine ry_re29 hj hp hjp hw H wd 0 _ (by omega) (fun q hq => ?_)
  rw [hA q hq]
  show _ = rt_e (if j * 16 ≤ q ∧ q < j * 16 + 0 then _ else A q)
  rw [if_neg (by omega)]
theorem ry_ex2 {post : SY → Prop} (hj : j < 16) (hp : p < 16)
    (H : ∀ tb : Nat → Int32, (∀ q, q < 256 → tb q = rt_e (rt_exc A j p 16 q)) → post (a_orders, a_rules, a_starts, a_t, tb, a_way, a_square, a_spare, a_one, a_two)) :
    ∀ (d k : Nat) (tb : Nat → Int32), k + d = 16 → (∀ q, q < 256 → tb q = rt_e (rt_exc A j p k q)) → wY_exchange_2 post (nI j) (nI p) (d + 1) (nI k) a_orders a_rules a_starts a_t tb a_way a_square a_spare a_one a_two := by
  intro d
  induction d with
  | zero =>
    intro k tb hk ht
    have e : k = 16 := by omega
    subst e
    exact pk_le 16 16 (fun _ => H tb ht) (fun h => absurd h (by omega))
  | succ d ih =>
    intro k tb hk ht
    have e1 : tb (j * 16 + k) = rt_e (A (j * 16 + k)) := by
      rw [ht _ (by omega)]
      show rt_e (if j * 16 ≤ j * 16 + k ∧ j * 16 + k < j * 16 + k then _ else if p * 16 ≤ j * 16 + k ∧ j * 16 + k < p * 16 + k then _ else _) = _
      rw [if_neg (by omega), if_neg (by omega)]
    have e2 : tb (p * 16 + k) = rt_e (A (p * 16 + k)) := by
      rw [ht _ (by omega)]
      show rt_e (if j * 16 ≤ p * 16 + k ∧ p * 16 + k < j * 16 + k then _ else if p * 16 ≤ p * 16 + k ∧ p * 16 + k < p * 16 + k then _ else _) = _
      rw [if_neg (by omega), if_neg (by omega)]
    refine pk_le 16 k (fun h => absurd h (by omega)) (fun _ => ⟨pk_in (j * 16 + k) 256 (by omega) (rt_i16 j k), nm_r (rt_rd (j * 16 + k) e1 (rt_i16 j k)) ⟨pk_in (p * 16 + k) 256 (by omega) (rt_i16 p k), pk_in (j * 16 + k) 256 (by omega) (rt_i16 j k),
      nm_r (rt_up (j * 16 + k) (rt_rd (p * 16 + k) e2 (rt_i16 p k)) (rt_i16 j k)) ⟨pk_in (p * 16 + k) 256 (by omega) (rt_i16 p k), nm_r (rt_up (p * 16 + k) rfl (rt_i16 p k)) (nm_r (nI_1 k) (ih (k + 1) _ (by omega) (fun q hq => ?_)))⟩⟩⟩)
    show upd (upd tb (j * 16 + k) _) (p * 16 + k) _ q = rt_e (if j * 16 ≤ q ∧ q < j * 16 + (k + 1) then A (p * 16 + (q - j * 16)) else if p * 16 ≤ q ∧ q < p * 16 + (k + 1) then A (j * 16 + (q - p * 16)) else A q)
    by_cases y : q = p * 16 + k
    · subst y
      rw [pk_us]
      by_cases z : j * 16 ≤ p * 16 + k ∧ p * 16 + k < j * 16 + (k + 1)
      · have ejp : j = p := by omega
        subst ejp
        rw [if_pos z, show j * 16 + k - j * 16 = k by omega]
      · rw [if_neg z, if_pos (by omega), show p * 16 + k - p * 16 = k by omega]
    · rw [pk_un y]
      by_cases x : q = j * 16 + k
      · subst x
        rw [pk_us, if_pos (by omega), show j * 16 + k - j * 16 = k by omega]
      · rw [pk_un x, ht q hq]
        show rt_e (if j * 16 ≤ q ∧ q < j * 16 + k then A (p * 16 + (q - j * 16)) else if p * 16 ≤ q ∧ q < p * 16 + k then A (j * 16 + (q - p * 16)) else A q) = _
        by_cases z : j * 16 ≤ q ∧ q < j * 16 + k
        · rw [if_pos z, if_pos (by omega)]
        · rw [if_neg z, if_neg (c := j * 16 ≤ q ∧ q < j * 16 + (k + 1)) (by omega)]
          by_cases v : p * 16 ≤ q ∧ q < p * 16 + k
          · rw [if_pos v, if_pos (by omega)]
          · rw [if_neg v, if_neg (by omega)]
theorem ry_exchange {post : SY → Prop} (hj : j < 16) (hp : p < 16) (hA : ∀ q, q < 256 → a_table q = rt_e (A q))
    (H : ∀ tb : Nat → Int32, (∀ q, q < 256 → tb q = rt_e (rt_exc A j p 16 q)) → post (a_orders, a_rules, a_starts, a_t, tb, a_way, a_square, a_spare, a_one, a_two)) : wpY_exchange post (a_orders, a_rules, a_starts, a_t, a_table, a_way, a_square, a_spare, a_one, a_two) (nI j) (nI p) := by
  refine Exists.intro 17 (ry_ex2 hj hp H 16 0 _ (by omega) (fun q hq => ?_))
  rw [hA q hq]
  show _ = rt_e (if j * 16 ≤ q ∧ q < j * 16 + 0 then _ else if p * 16 ≤ q ∧ q < p * 16 + 0 then _ else A q)
  rw [if_neg (by omega), if_neg (by omega)]
end
section
variable {a_orders a_rules a_starts a_t a_table a_way a_square a_spare a_one a_two : Nat → Int32}
variable {A : Nat → rt_F} {j p c wd w r L : Nat} {post : Int32 → SY → Prop}
  {J : Int32 → Int32 → (Nat → Int32) → (Nat → Int32) → (Nat → Int32) → (Nat → Int32) → (Nat → Int32) → (Nat → Int32) → (Nat → Int32) → (Nat → Int32) → (Nat → Int32) → (Nat → Int32) → Prop}
theorem rt_elS {A : Nat → rt_F} {j r c wd q : Nat} (hj : j < 16) (hr : r < 16) (hjr : j ≠ r) (hc : c < 16) (hw : wd ≤ 16) (hq : q < 256) :
    rt_red (rt_el A r c wd j) j r (rt_el A r c wd j (r * 16 + c)) (rt_el A r c wd j (j * 16 + c)) wd q = rt_el A r c wd (j + 1) q := by
  have e1 : ∀ k, k < 16 → rt_el A r c wd j (r * 16 + k) = A (r * 16 + k) := fun k hk => if_neg (by omega)
  have e2 : ∀ k, k < 16 → rt_el A r c wd j (j * 16 + k) = A (j * 16 + k) := fun k hk => if_neg (by omega)
  rw [e1 c hc, e2 c hc]
  show (if j * 16 ≤ q ∧ q < j * 16 + wd then rt_el A r c wd j q * A (r * 16 + c) - rt_el A r c wd j (r * 16 + (q - j * 16)) * A (j * 16 + c) else rt_el A r c wd j q) = (if q / 16 < j + 1 ∧ q / 16 ≠ r ∧ q % 16 < wd then A q * A (r * 16 + c) - A (r * 16 + q % 16) * A (q / 16 * 16 + c) else A q)
  by_cases z : j * 16 ≤ q ∧ q < j * 16 + wd
  · have hd : q / 16 = j := by omega
    have hm : q % 16 = q - j * 16 := by omega
    have hq2 : q = j * 16 + (q - j * 16) := by omega
    rw [if_pos z, if_pos (by omega), e1 (q - j * 16) (by omega), hm, hd]
    have e3 : rt_el A r c wd j q = A q := if_neg (by omega)
    rw [e3]
  · rw [if_neg z]
    show (if q / 16 < j ∧ q / 16 ≠ r ∧ q % 16 < wd then A q * A (r * 16 + c) - A (r * 16 + q % 16) * A (q / 16 * 16 + c) else A q) = _
    by_cases y : q / 16 < j ∧ q / 16 ≠ r ∧ q % 16 < wd
    · rw [if_pos y, if_pos (by omega)]
    · rw [if_neg y, if_neg (by omega)]
theorem ry_tr61 (hw : w ≤ 16) (hr : r < w) (hc : c < 16) (hwd : wd ≤ 16)
    (H : ∀ tb : Nat → Int32, (∀ q, q < 256 → tb q = rt_e (rt_el A r c wd w q)) → J (nI (r + 1)) (nI (c + 1)) a_orders a_rules a_starts a_t tb a_way a_square a_spare a_one a_two) :
    ∀ (d j : Nat) (tb : Nat → Int32), j + d = w → (∀ q, q < 256 → tb q = rt_e (rt_el A r c wd j q)) → wY_tableRank_61 post J (nI w) (nI wd) (nI r) (nI c) (d + 1) (nI j) a_orders a_rules a_starts a_t tb a_way a_square a_spare a_one a_two := by
  intro d
  induction d with
  | zero =>
    intro j tb hj ht
    have e : j = w := by omega
    subst e
    exact pk_le j j (fun _ => nm_r (nI_1 r) (nm_r (nI_1 c) (H tb ht))) (fun h => absurd h (by omega))
  | succ d ih =>
    intro j tb hj ht
    refine pk_le w j (fun h => absurd h (by omega)) (fun _ => pk_eq j r (fun h => nm_r (nI_1 j) (ih (j + 1) tb (by omega) (fun q hq => ?_))) (fun h => ?_))
    · rw [ht q hq]
      show rt_e (if q / 16 < j ∧ q / 16 ≠ r ∧ q % 16 < wd then _ else A q) = rt_e (if q / 16 < j + 1 ∧ q / 16 ≠ r ∧ q % 16 < wd then _ else A q)
      by_cases y : q / 16 < j ∧ q / 16 ≠ r ∧ q % 16 < wd
      · rw [if_pos y, if_pos (by omega)]
      · rw [if_neg y, if_neg (by omega)]
    · refine ry_reduce (A := rt_el A r c wd j) (by omega) (by omega) h hc hwd ht (fun tb' ht' => nm_r (nI_1 j) (ih (j + 1) tb' (by omega) (fun q hq => ?_)))
      rw [ht' q hq, rt_elS (by omega) (by omega) h hc hwd hq]
theorem ry_tr14 (hw : w ≤ 16) (hc : c < 16) (hA : ∀ q, q < 256 → a_table q = rt_e (A q))
    (hF : ∀ p, r ≤ p → p < w → A (p * 16 + c) ≠ 0 → wY_tableRank_42 post J (nI w) (nI wd) (nI r) (nI c) (nI p) a_orders a_rules a_starts a_t a_table a_way a_square a_spare a_one a_two)
    (hN : (∀ i, r ≤ i → i < w → A (i * 16 + c) = 0) → wY_tableRank_42 post J (nI w) (nI wd) (nI r) (nI c) (nI w) a_orders a_rules a_starts a_t a_table a_way a_square a_spare a_one a_two) :
    ∀ (d p : Nat), p + d = w → r ≤ p → (∀ i, r ≤ i → i < p → A (i * 16 + c) = 0) → wY_tableRank_14 post J (nI w) (nI wd) (nI r) (nI c) a_orders a_rules a_starts a_t a_table a_way a_square a_spare a_one a_two (d + 1) (nI p) := by
  intro d
  induction d with
  | zero =>
    intro p hp hr hz
    have e : p = w := by omega
    subst e
    exact pk_le p p (fun _ => hN hz) (fun h => absurd h (by omega))
  | succ d ih =>
    intro p hp hr hz
    have e1 : a_table ((nI p * 16) + nI c).toNatClampNeg = rt_e (A (p * 16 + c)) := rt_rd (p * 16 + c) (hA _ (by omega)) (rt_i16 p c)
    refine pk_le w p (fun h => absurd h (by omega)) (fun _ => ⟨pk_in (p * 16 + c) 256 (by omega) (rt_i16 p c), br_c (fun h => nm_r (nI_1 p) (ih (p + 1) (by omega) (by omega) (fun i h1 h2 => ?_))) (fun h => hF p hr (by omega) (fun z => h ?_))⟩)
    · rw [e1, rt_ez] at h
      by_cases y : i = p
      · rw [y]; exact h
      · exact hz i h1 (by omega)
    · rw [e1, rt_ez]
      exact z
theorem ry_tr5 {A0 : Nat → rt_F} (hw : w ≤ 16) (hwd : w ≤ wd) (hwd6 : wd ≤ 16) (hL : L ≤ w) (hK : rt_HK A0 w wd L)
    (H : ∀ (tb : Nat → Int32) (A : Nat → rt_F), (∀ q, q < 256 → tb q = rt_e (A q)) → (∀ a, rt_Ann A0 w wd a ↔ rt_Ann A w wd a) → rt_EL A w w L → post (nI L) (a_orders, a_rules, a_starts, a_t, tb, a_way, a_square, a_spare, a_one, a_two)) :
    ∀ (d c : Nat) (r : Nat) (tb : Nat → Int32) (A : Nat → rt_F), c + d = w → r = (if c ≤ L then c else L) → (∀ q, q < 256 → tb q = rt_e (A q)) → (∀ a, rt_Ann A0 w wd a ↔ rt_Ann A w wd a) → rt_EL A w c r →
      wY_tableRank_5 post (nI w) (nI wd) (d + 1) (nI r) (nI c) a_orders a_rules a_starts a_t tb a_way a_square a_spare a_one a_two := by
  intro d
  induction d with
  | zero =>
    intro c r tb A hc hr ht hA hE
    have e : c = w := by omega
    subst e
    have er : r = L := by
      by_cases z : c ≤ L
      · rw [if_pos z] at hr; omega
      · rw [if_neg z] at hr; exact hr
    subst er
    exact pk_le c c (fun _ => H tb A ht hA hE) (fun h => absurd h (by omega))
  | succ d ih =>
    intro c r tb A hc hr ht hA hE
    have hrc : r ≤ c := by
      by_cases z : c ≤ L
      · rw [if_pos z] at hr; omega
      · rw [if_neg z] at hr; omega
    refine pk_le w c (fun h => absurd h (by omega)) (fun _ => ⟨w - r + 1, ry_tr14 (A := A) hw (by omega) ht (fun p h1 h2 h3 => ?_) (fun hz => ?_) (w - r) r (by omega) (Nat.le_refl r) (fun i h1 h2 => absurd h2 (by omega))⟩)
    · -- a pivot in row p
      have hcL : c < L := by
        refine Classical.byContradiction fun z => h3 ?_
        have er : r = L := by
          by_cases y : c ≤ L
          · rw [if_pos y] at hr; omega
          · rw [if_neg y] at hr; exact hr
        subst er
        exact rt_npv hK hA (by omega) (by omega) hwd hE p h1 h2
      have er : r = c := by rw [if_pos (by omega)] at hr; exact hr
      subst er
      refine pk_lt p w (fun _ => ?_) (fun h => absurd h (by omega))
      refine ry_exchange (A := A) (j := p) (p := r) (by omega) (by omega) ht (fun tb1 ht1 => ⟨w + 1, ?_⟩)
      have x1 : ∀ k, k < 16 → rt_exc A p r 16 (p * 16 + k) = A (r * 16 + k) := fun k hk => by
        show (if p * 16 ≤ p * 16 + k ∧ p * 16 + k < p * 16 + 16 then A (r * 16 + (p * 16 + k - p * 16)) else _) = _
        rw [if_pos (by omega), show p * 16 + k - p * 16 = k by omega]
      have x2 : ∀ k, k < 16 → rt_exc A p r 16 (r * 16 + k) = A (p * 16 + k) := fun k hk => by
        show (if p * 16 ≤ r * 16 + k ∧ r * 16 + k < p * 16 + 16 then A (r * 16 + (r * 16 + k - p * 16)) else if r * 16 ≤ r * 16 + k ∧ r * 16 + k < r * 16 + 16 then A (p * 16 + (r * 16 + k - r * 16)) else _) = _
        by_cases z : p = r
        · subst z
          rw [if_pos (by omega), show p * 16 + k - p * 16 = k by omega]
        · rw [if_neg (by omega), if_pos (by omega), show r * 16 + k - r * 16 = k by omega]
      have x3 : ∀ i k, i ≠ p → i ≠ r → k < 16 → rt_exc A p r 16 (i * 16 + k) = A (i * 16 + k) := fun i k h4 h5 hk => by
        show (if p * 16 ≤ i * 16 + k ∧ i * 16 + k < p * 16 + 16 then _ else if r * 16 ≤ i * 16 + k ∧ i * 16 + k < r * 16 + 16 then _ else _) = _
        rw [if_neg (by omega), if_neg (by omega)]
      have hA1 := fun a => (hA a).trans (rt_annX h2 (by omega) hwd6 x1 x2 x3 a)
      have hE1 := rt_elX h2 h1 hw x1 x2 x3 hE
      have hu : rt_exc A p r 16 (r * 16 + r) ≠ 0 := by rw [x2 r (by omega)]; exact h3
      have y1 : ∀ k, k < wd → rt_el (rt_exc A p r 16) r r wd w (r * 16 + k) = rt_exc A p r 16 (r * 16 + k) := fun k hk => if_neg (by omega)
      have y2 : ∀ i k, i < w → i ≠ r → k < wd → rt_el (rt_exc A p r 16) r r wd w (i * 16 + k) = rt_exc A p r 16 (i * 16 + k) * rt_exc A p r 16 (r * 16 + r) - rt_exc A p r 16 (r * 16 + k) * rt_exc A p r 16 (i * 16 + r) := fun i k h4 h5 hk => by
        show (if (i * 16 + k) / 16 < w ∧ (i * 16 + k) / 16 ≠ r ∧ (i * 16 + k) % 16 < wd then rt_exc A p r 16 (i * 16 + k) * rt_exc A p r 16 (r * 16 + r) - rt_exc A p r 16 (r * 16 + (i * 16 + k) % 16) * rt_exc A p r 16 ((i * 16 + k) / 16 * 16 + r) else _) = _
        have q1 : (i * 16 + k) / 16 = i := by omega
        have q2 : (i * 16 + k) % 16 = k := by omega
        rw [q1, q2, if_pos ⟨h4, h5, hk⟩]
      refine ry_tr61 (A := rt_exc A p r 16) hw (by omega) (by omega) hwd6 (fun tb2 ht2 => ih (r + 1) (r + 1) tb2 _ (by omega) (by rw [if_pos (by omega)]) ht2 (fun a => (hA1 a).trans (rt_annR (by omega) hu y1 y2 a)) (rt_elR (by omega) hwd hu y1 y2 hE1)) w 0 tb1 (by omega) (fun q hq => ?_)
      rw [ht1 q hq]
      show _ = rt_e (if q / 16 < 0 ∧ q / 16 ≠ r ∧ q % 16 < wd then _ else rt_exc A p r 16 q)
      rw [if_neg (by omega)]
    · -- no pivot
      have hcL : L ≤ c := by
        refine Classical.byContradiction fun z => ?_
        have er : r = c := by rw [if_pos (by omega)] at hr; exact hr
        subst er
        obtain ⟨p, h1, h2, h3⟩ := rt_piv hK hA (by omega) hL hwd hE
        exact h3 (hz p h1 h2)
      have er : r = L := by
        by_cases y : c ≤ L
        · rw [if_pos y] at hr; omega
        · rw [if_neg y] at hr; exact hr
      subst er
      refine pk_lt w w (fun h => absurd h (by omega)) (fun _ => nm_r (nI_1 c) (ih (c + 1) r tb A (by omega) (by rw [if_neg (by omega)]) ht hA (rt_elN hE hz)))
theorem ry_tableRank {A0 : Nat → rt_F} (hw : w ≤ 16) (hwd : w ≤ wd) (hwd6 : wd ≤ 16) (hL : L ≤ w) (hA : ∀ q, q < 256 → a_table q = rt_e (A0 q)) (hK : rt_HK A0 w wd L)
    (H : ∀ (tb : Nat → Int32) (A : Nat → rt_F), (∀ q, q < 256 → tb q = rt_e (A q)) → (∀ a, rt_Ann A0 w wd a ↔ rt_Ann A w wd a) → rt_EL A w w L → post (nI L) (a_orders, a_rules, a_starts, a_t, tb, a_way, a_square, a_spare, a_one, a_two)) :
    wpY_tableRank post (a_orders, a_rules, a_starts, a_t, a_table, a_way, a_square, a_spare, a_one, a_two) (nI w) (nI wd) :=
  Exists.intro (w + 1) (ry_tr5 hw hwd hwd6 hL hK H w 0 0 _ A0 (by omega) (by rw [if_pos (by omega)]) hA (fun _ => Iff.rfl) ⟨fun i k _ _ h => absurd h (by omega), fun i h => absurd h (by omega), fun i k h => absurd h (by omega)⟩)
/-! a table of terms -/
theorem ry_rt2 {t C : Nat → rt_F} (hw : w ≤ 16) (ht : ∀ i, i + 1 < 2 * w → a_t i = rt_e (t i)) (hR : rt_Rul L C t (2 * w)) (hm : ∀ L' c', rt_Rul L' c' t (2 * w) → L ≤ L') (hL : L ≤ w)
    (H : ∀ tb : Nat → Int32, post (nI L) (a_orders, a_rules, a_starts, a_t, tb, a_way, a_square, a_spare, a_one, a_two)) :
    ∀ (d q : Nat) (tb : Nat → Int32), q + d = 256 → (∀ p, p < q → tb p = rt_e (if p / 16 < w ∧ p % 16 < w then t (p / 16 + p % 16) else 0)) → wY_rankOfTerms_2 post (nI w) (d + 1) (nI q) a_orders a_rules a_starts a_t tb a_way a_square a_spare a_one a_two := by
  intro d
  induction d with
  | zero =>
    intro q tb hq hb
    refine pk_le 256 q (fun _ => ?_) (fun h => absurd h (by omega))
    refine ry_tableRank (A0 := fun p => if p / 16 < w ∧ p % 16 < w then t (p / 16 + p % 16) else 0) hw (Nat.le_refl w) hw hL (fun p hp => hb p (by omega)) (rt_hk (t := t) (C := C) (N := 2 * w) (fun i k h1 h2 => ?_) hR hm hL (Nat.le_refl w) (by omega)) (fun tb' A _ _ _ => H tb')
    show (if (i * 16 + k) / 16 < w ∧ (i * 16 + k) % 16 < w then t ((i * 16 + k) / 16 + (i * 16 + k) % 16) else 0) = _
    rw [show (i * 16 + k) / 16 = i by omega, show (i * 16 + k) % 16 = k by omega, if_pos ⟨h1, h2⟩]
  | succ d ih =>
    intro q tb hq hb
    have e1 : nI q / 16 = nI (q / 16) := pk_div (d := 16) (by omega) (by omega) (by omega)
    have e2 : nI q - nI q / 16 * 16 = nI (q % 16) := pk_rem (d := 16) (by omega) (by omega) (by omega)
    refine pk_le 256 q (fun h => absurd h (by omega)) (fun _ => ⟨by decide, pk_le w (q / 16) (fun h => ?_) (fun h => ⟨by decide, pk_le w (q % 16) (fun h2 => ?_) (fun h2 => ⟨by decide, by decide, ?_⟩) rfl e2⟩) rfl e1⟩)
    · exact ⟨vp_in_nI (by omega) (by omega), nm_r (rt_up (v' := rt_e 0) q rfl) (nm_r (nI_1 q) (ih (q + 1) _ (by omega) (rt_ux hb (by rw [if_neg (by omega)]))))⟩
    · exact ⟨vp_in_nI (by omega) (by omega), nm_r (rt_up (v' := rt_e 0) q rfl) (nm_r (nI_1 q) (ih (q + 1) _ (by omega) (rt_ux hb (by rw [if_neg (by omega)]))))⟩
    · have ex : (nI q / 16) + (nI q - nI q / 16 * 16) = nI (q / 16 + q % 16) := by rw [e2, e1, nI_add]
      exact ⟨pk_in (q / 16 + q % 16) 1000 (by omega) ex, vp_in_nI (by omega) (by omega), nm_r (rt_up q (rt_rd (q / 16 + q % 16) (ht _ (by omega)) ex)) (nm_r (nI_1 q) (ih (q + 1) _ (by omega) (rt_ux hb (by rw [if_pos ⟨h, h2⟩]))))⟩
theorem ry_rankOfTerms {t C : Nat → rt_F} (hw : w ≤ 16) (ht : ∀ i, i + 1 < 2 * w → a_t i = rt_e (t i)) (hR : rt_Rul L C t (2 * w)) (hm : ∀ L' c', rt_Rul L' c' t (2 * w) → L ≤ L') (hL : L ≤ w)
    (H : ∀ tb : Nat → Int32, post (nI L) (a_orders, a_rules, a_starts, a_t, tb, a_way, a_square, a_spare, a_one, a_two)) : wpY_rankOfTerms post (a_orders, a_rules, a_starts, a_t, a_table, a_way, a_square, a_spare, a_one, a_two) (nI w) :=
  Exists.intro 257 (ry_rt2 hw ht hR hm hL H 256 0 _ (by omega) (fun i hi => absurd hi (Nat.not_lt_zero i)))
end
section
variable {a_orders a_rules a_starts a_t a_table a_way a_square a_spare a_one a_two : Nat → Int32}
variable {o : Nat → Nat} {R Q C : Nat → rt_F} {s i L : Nat} {post : Int32 → SY → Prop}
theorem ry_rank (hS : rt_St o R Q a_orders a_rules a_starts) (hs : s < 3) (hR : rt_Rul L C (rt_U o R Q s) 8) (hm : ∀ L' c', rt_Rul L' c' (rt_U o R Q s) 8 → L ≤ L') (hL : L ≤ 4)
    (H : ∀ tt tb : Nat → Int32, post (nI L) (a_orders, a_rules, a_starts, tt, tb, a_way, a_square, a_spare, a_one, a_two)) : wpY_rank post (a_orders, a_rules, a_starts, a_t, a_table, a_way, a_square, a_spare, a_one, a_two) (nI s) := by
  unfold wpY_rank
  refine rt_gY hs ?_
  refine br_t rfl ?_
  refine ry_list (cnt := 7) hS hs (by omega) (fun tt ht _ => ?_)
  exact ry_rankOfTerms (w := 4) (t := rt_U o R Q s) (by omega) (fun i hi => ht i (by omega)) hR hm hL (fun tb => H tt tb)
theorem ry_sh115 {A : Nat → rt_F} {row : Nat} {y : rt_F} (hr : row < 16) (hL : L < 16) (hA : ∀ q, q < 256 → a_table q = rt_e (A q)) (h0 : A (row * 16 + row) ≠ 0) (hy : A (row * 16 + L) = A (row * 16 + row) * y)
    (H : post (rt_e y) (a_orders, a_rules, a_starts, a_t, a_table, a_way, a_square, a_spare, a_one, a_two)) : ∀ (d x : Nat), x + d = y.val → wY_shortest_115 post (nI L) (nI row) a_orders a_rules a_starts a_t a_table a_way a_square a_spare a_one a_two (d + 1) (nI x) := by
  have hy9 := rt_lt y
  have ev : ∀ x, x < 997 → ((a_table ((nI row * 16) + nI row).toNatClampNeg) * nI x) - ((a_table ((nI row * 16) + nI row).toNatClampNeg) * nI x) / 997 * 997 = rt_e (A (row * 16 + row) * Fin.ofNat 997 x) := fun x hx =>
    rt_mE (rt_rd (row * 16 + row) (hA _ (by omega)) (rt_i16 row row)) (by
      show nI x = nI (x % 997)
      rw [Nat.mod_eq_of_lt hx])
  have ew : a_table ((nI row * 16) + nI L).toNatClampNeg = rt_e (A (row * 16 + row) * y) := by
    rw [← hy]
    exact rt_rd (row * 16 + L) (hA _ (by omega)) (rt_i16 row L)
  intro d
  induction d with
  | zero =>
    intro x hx
    have e : x = y.val := by omega
    subst e
    refine pk_le 996 y.val (fun _ => H) (fun h => ⟨pk_in (row * 16 + row) 256 (by omega) (rt_i16 row row), by decide, pk_in (row * 16 + L) 256 (by omega) (rt_i16 row L), br_t ?_ H⟩)
    rw [ev _ hy9, ew, rt_fv]
  | succ d ih =>
    intro x hx
    refine pk_le 996 x (fun h => absurd h (by omega)) (fun h => ⟨pk_in (row * 16 + row) 256 (by omega) (rt_i16 row row), by decide, pk_in (row * 16 + L) 256 (by omega) (rt_i16 row L), br_f (fun z => ?_) (nm_r (nI_1 x) (ih (x + 1) (by omega)))⟩)
    rw [ev x (by omega), ew, rt_einj] at z
    have z2 := congrArg Fin.val (rt_can h0 z)
    have z3 : x % 997 = y.val := z2
    omega
theorem ry_sh39 {t : Nat → rt_F} (hL : L ≤ 4) (hi : 1 ≤ i) (hiL : i ≤ L) (ht : ∀ i, i < 8 → a_t i = rt_e (t i)) (hR : rt_Rul L C t 8) (hm : ∀ L' c', rt_Rul L' c' t 8 → L ≤ L')
    (H : ∀ tb : Nat → Int32, post (rt_e (C (i - 1))) (a_orders, a_rules, a_starts, a_t, tb, a_way, a_square, a_spare, a_one, a_two)) :
    ∀ (d q : Nat) (tb : Nat → Int32), q + d = 256 → (∀ p, p < q → tb p = rt_e (if p / 16 < L ∧ p % 16 < L + 1 then t (p / 16 + p % 16) else 0)) → wY_shortest_39 post (nI i) (nI L) (d + 1) (nI q) a_orders a_rules a_starts a_t tb a_way a_square a_spare a_one a_two := by
  intro d
  induction d with
  | zero =>
    intro q tb hq hb
    refine pk_le 256 q (fun _ => ?_) (fun h => absurd h (by omega))
    have hA0 : ∀ i k, i < L → k < L + 1 → (fun p => if p / 16 < L ∧ p % 16 < L + 1 then t (p / 16 + p % 16) else 0) (i * 16 + k) = t (i + k) := fun i k h1 h2 => by
      show (if (i * 16 + k) / 16 < L ∧ (i * 16 + k) % 16 < L + 1 then t ((i * 16 + k) / 16 + (i * 16 + k) % 16) else 0) = _
      rw [show (i * 16 + k) / 16 = i by omega, show (i * 16 + k) % 16 = k by omega, if_pos ⟨h1, h2⟩]
    have hK := rt_hk (A := fun p => if p / 16 < L ∧ p % 16 < L + 1 then t (p / 16 + p % 16) else 0) (w := L) (wd := L + 1) hA0 hR hm (Nat.le_refl L) (by omega) (by omega)
    rw [nI_1]
    refine ry_tableRank (A0 := fun p => if p / 16 < L ∧ p % 16 < L + 1 then t (p / 16 + p % 16) else 0) (by omega) (by omega) (by omega) (Nat.le_refl L) (fun p hp => hb p (by omega)) hK (fun tb' A hA hAn hE => ?_)
    have es := rt_sol (A0 := fun p => if p / 16 < L ∧ p % 16 < L + 1 then t (p / 16 + p % 16) else 0) (row := L - i) hA0 hR (by omega) (fun a => (hAn a).mp) hE.2.2 (by omega)
    rw [show L - 1 - (L - i) = i - 1 by omega] at es
    exact nm_r (pk_sub hiL) ⟨(C (i - 1)).val + 1, ry_sh115 (by omega) (by omega) hA (hE.2.1 (L - i) (by omega)) es (H tb') (C (i - 1)).val 0 (by omega)⟩
  | succ d ih =>
    intro q tb hq hb
    have e1 : nI q / 16 = nI (q / 16) := pk_div (d := 16) (by omega) (by omega) (by omega)
    have e2 : nI q - nI q / 16 * 16 = nI (q % 16) := pk_rem (d := 16) (by omega) (by omega) (by omega)
    refine pk_le 256 q (fun h => absurd h (by omega)) (fun _ => ⟨by decide, pk_le L (q / 16) (fun h => ?_) (fun h => ⟨by decide, pk_lt L (q % 16) (fun h2 => ?_) (fun h2 => ⟨by decide, by decide, ?_⟩) rfl e2⟩) rfl e1⟩)
    · exact ⟨vp_in_nI (by omega) (by omega), nm_r (rt_up (v' := rt_e 0) q rfl) (nm_r (nI_1 q) (ih (q + 1) _ (by omega) (rt_ux hb (by rw [if_neg (by omega)]))))⟩
    · exact ⟨vp_in_nI (by omega) (by omega), nm_r (rt_up (v' := rt_e 0) q rfl) (nm_r (nI_1 q) (ih (q + 1) _ (by omega) (rt_ux hb (by rw [if_neg (by omega)]))))⟩
    · have ex : (nI q / 16) + (nI q - nI q / 16 * 16) = nI (q / 16 + q % 16) := by rw [e2, e1, nI_add]
      exact ⟨pk_in (q / 16 + q % 16) 1000 (by omega) ex, vp_in_nI (by omega) (by omega), nm_r (rt_up q (rt_rd (q / 16 + q % 16) (ht _ (by omega)) ex)) (nm_r (nI_1 q) (ih (q + 1) _ (by omega) (rt_ux hb (by rw [if_pos ⟨h, by omega⟩]))))⟩
theorem ry_shortI (hS : rt_St o R Q a_orders a_rules a_starts) (hs : s < 3) (hR : rt_Rul L C (rt_U o R Q s) 8) (hm : ∀ L' c', rt_Rul L' c' (rt_U o R Q s) 8 → L ≤ L') (hL : L ≤ 4) (hi : 1 ≤ i) (hiL : i ≤ L)
    (H : ∀ tt tb : Nat → Int32, post (rt_e (C (i - 1))) (a_orders, a_rules, a_starts, tt, tb, a_way, a_square, a_spare, a_one, a_two)) : wpY_shortest post (a_orders, a_rules, a_starts, a_t, a_table, a_way, a_square, a_spare, a_one, a_two) (nI s) (nI i) := by
  unfold wpY_shortest
  refine rt_gY hs ?_
  refine br_t rfl ?_
  refine ry_rank hS hs hR hm hL (fun tt tb => ?_)
  refine pk_lt i 1 (fun h => absurd h (by omega)) (fun _ => pk_le i L (fun _ => ?_) (fun h => absurd h (by omega)))
  refine ry_list (cnt := 8) hS hs (by omega) (fun tt2 ht _ => ?_)
  exact ⟨257, ry_sh39 hL hi hiL ht hR hm (fun tb2 => H tt2 tb2) 256 0 _ (by omega) (fun i hi => absurd hi (Nat.not_lt_zero i))⟩
theorem ry_shortN {p : Int32} (hS : rt_St o R Q a_orders a_rules a_starts) (hs : s < 3) (hR : rt_Rul L C (rt_U o R Q s) 8) (hm : ∀ L' c', rt_Rul L' c' (rt_U o R Q s) 8 → L ≤ L') (hL : L ≤ 4) (hp : ¬ p < 1 → ¬ p ≤ nI L)
    (H : ∀ tt tb : Nat → Int32, post (-2) (a_orders, a_rules, a_starts, tt, tb, a_way, a_square, a_spare, a_one, a_two)) : wpY_shortest post (a_orders, a_rules, a_starts, a_t, a_table, a_way, a_square, a_spare, a_one, a_two) (nI s) p := by
  unfold wpY_shortest
  refine rt_gY hs ?_
  refine br_t rfl ?_
  refine ry_rank hS hs hR hm hL (fun tt tb => ?_)
  exact br_c (fun _ => H tt tb) (fun h => br_f (hp h) (H tt tb))
end
end
section
/-! the reference: the rest; and what changes the state, on both sides -/
section
variable {a_orders a_rules a_starts a_t a_table a_way a_square a_spare a_one a_two : Nat → Int32}
variable {o : Nat → Nat} {R Q G : Nat → rt_F} {s t n st : Nat} {post : Int32 → SY → Prop}
theorem ry_di60 {T U : Nat → rt_F} {r : Int32} (hT : ∀ i, i < 8 → a_one i = rt_e (T i)) (hU : ∀ i, i < 8 → a_t i = rt_e (U i)) (H : post r (a_orders, a_rules, a_starts, a_t, a_table, a_way, a_square, a_spare, a_one, a_two)) :
    ∀ (d j : Nat), j + d = 8 → rt_first (fun n => decide (T n ≠ U n)) j d = r → wY_difference_60 post a_orders a_rules a_starts a_t a_table a_way a_square a_spare a_one a_two (d + 1) (nI j) := by
  intro d
  induction d with
  | zero =>
    intro j hj hr
    subst hr
    exact pk_le 8 j (fun _ => H) (fun h => absurd h (by omega))
  | succ d ih =>
    intro j hj hr
    have e1 : a_t (nI j).toNatClampNeg = rt_e (U j) := rt_rd j (hU j (by omega))
    have e2 : a_one (nI j).toNatClampNeg = rt_e (T j) := rt_rd j (hT j (by omega))
    refine pk_le 8 j (fun h => absurd h (by omega)) (fun _ => ⟨vp_in_nI (by omega) (by omega), vp_in_nI (by omega) (by omega), br_c (fun h => nm_r (nI_1 j) (ih (j + 1) (by omega) ?_)) (fun h => ?_)⟩)
    · rw [← hr]
      show _ = (if decide (T j ≠ U j) = true then _ else _)
      rw [if_neg (by rw [e1, e2, rt_einj] at h; simp [h])]
    · have e : r = nI j := by
        rw [← hr]
        show (if decide (T j ≠ U j) = true then _ else _) = _
        rw [if_pos (by rw [e1, e2, rt_einj] at h; simp [Ne.symm h])]
      subst e
      exact H
theorem ry_di27 (hS : rt_St o R Q a_orders a_rules a_starts) (ht : t < 3) {T : Nat → rt_F} (hT : ∀ i, i < 8 → a_t i = rt_e (T i))
    (H : ∀ tt on : Nat → Int32, post (rt_first (fun n => decide (T n ≠ rt_U o R Q t n)) 0 8) (a_orders, a_rules, a_starts, tt, a_table, a_way, a_square, a_spare, on, a_two)) :
    ∀ (d j : Nat) (on : Nat → Int32), j + d = 8 → (∀ i, i < j → on i = rt_e (T i)) → wY_difference_27 post (nI t) (d + 1) (nI j) a_orders a_rules a_starts a_t a_table a_way a_square a_spare on a_two := by
  intro d
  induction d with
  | zero =>
    intro j on hj ho
    refine pk_le 8 j (fun _ => ?_) (fun h => absurd h (by omega))
    exact ry_list (cnt := 8) hS ht (by omega) (fun tt htt _ => ⟨9, ry_di60 (T := T) (U := rt_U o R Q t) (fun i hi => ho i (by omega)) htt (H tt on) 8 0 (by omega) rfl⟩)
  | succ d ih =>
    intro j on hj ho
    exact pk_le 8 j (fun h => absurd h (by omega)) (fun _ => ⟨vp_in_nI (by omega) (by omega), vp_in_nI (by omega) (by omega), nm_r (rt_up j (rt_rd j (hT j (by omega)))) (nm_r (nI_1 j) (ih (j + 1) _ (by omega) (rt_ux ho rfl)))⟩)
theorem ry_difference (hS : rt_St o R Q a_orders a_rules a_starts) (hs : s < 3) (ht : t < 3)
    (H : ∀ tt on : Nat → Int32, post (rt_first (fun n => decide (rt_U o R Q s n ≠ rt_U o R Q t n)) 0 8) (a_orders, a_rules, a_starts, tt, a_table, a_way, a_square, a_spare, on, a_two)) : wpY_difference post (a_orders, a_rules, a_starts, a_t, a_table, a_way, a_square, a_spare, a_one, a_two) (nI s) (nI t) := by
  unfold wpY_difference
  refine rt_gY hs ?_
  refine br_t rfl ?_
  refine rt_gY ht ?_
  refine br_t rfl ?_
  exact ry_list (cnt := 8) hS hs (by omega) (fun tt htt _ => ⟨9, ry_di27 (T := rt_U o R Q s) hS ht htt (fun tt2 on => H tt2 on) 8 0 _ (by omega) (fun i hi => absurd hi (Nat.not_lt_zero i))⟩)
theorem ry_mi50 {post : SY → Prop} {x3 : Int32} {T U : Nat → rt_F} (hG : (x3 = 0 → ∀ i, G i = U i + T i) ∧ (¬ x3 = 0 → ∀ i, G i = U i * T i))
    (H : ∀ tt : Nat → Int32, (∀ i, i < 32 → tt i = rt_e (G i)) → post (a_orders, a_rules, a_starts, tt, a_table, a_way, a_square, a_spare, a_one, a_two)) :
    ∀ (d j : Nat) (tt : Nat → Int32), j + d = 32 → (∀ i, i < j → tt i = rt_e (G i)) → (∀ i, j ≤ i → i < 32 → tt i = rt_e (U i)) → (∀ i, i < 32 → tt (100 + i) = rt_e (T i)) →
      wY_mix_50 post x3 (d + 1) (nI j) a_orders a_rules a_starts tt a_table a_way a_square a_spare a_one a_two := by
  intro d
  induction d with
  | zero =>
    intro j tt hj h1 h2 h3
    exact pk_le 32 j (fun _ => H tt (fun i hi => h1 i (by omega))) (fun h => absurd h (by omega))
  | succ d ih =>
    intro j tt hj h1 h2 h3
    have ex : 100 + nI j = nI (100 + j) := nI_add 100 j
    have next : wY_mix_50 post x3 (d + 1) (nI (j + 1)) a_orders a_rules a_starts (upd tt j (rt_e (G j))) a_table a_way a_square a_spare a_one a_two :=
      ih (j + 1) _ (by omega) (rt_ux h1 rfl) (fun i a b => by rw [pk_un (by omega)]; exact h2 i (by omega) b) (fun i a => by rw [pk_un (by omega)]; exact h3 i a)
    refine pk_le 32 j (fun h => absurd h (by omega)) (fun _ => br_c (fun h => ?_) (fun h => ?_))
    · refine ⟨vp_in_nI (by omega) (by omega), pk_in (100 + j) 1000 (by omega) ex, by decide, vp_in_nI (by omega) (by omega), nm_r (rt_up (v' := rt_e (G j)) j ?_) (nm_r (nI_1 j) next)⟩
      rw [hG.1 h j]
      exact rt_aE (rt_rd j (h2 j (by omega) (by omega))) (rt_rd (100 + j) (h3 j (by omega)) ex)
    · refine ⟨vp_in_nI (by omega) (by omega), pk_in (100 + j) 1000 (by omega) ex, by decide, vp_in_nI (by omega) (by omega), nm_r (rt_up (v' := rt_e (G j)) j ?_) (nm_r (nI_1 j) next)⟩
      rw [hG.2 h j]
      exact rt_mE (rt_rd j (h2 j (by omega) (by omega))) (rt_rd (100 + j) (h3 j (by omega)) ex)
theorem ry_mi10 {post : SY → Prop} {x3 : Int32} {T : Nat → rt_F} (hS : rt_St o R Q a_orders a_rules a_starts) (ht : t < 3) (hG : (x3 = 0 → ∀ i, G i = rt_U o R Q t i + T i) ∧ (¬ x3 = 0 → ∀ i, G i = rt_U o R Q t i * T i))
    (H : ∀ tt : Nat → Int32, (∀ i, i < 32 → tt i = rt_e (G i)) → post (a_orders, a_rules, a_starts, tt, a_table, a_way, a_square, a_spare, a_one, a_two)) :
    ∀ (d j : Nat) (tt : Nat → Int32), j + d = 32 → (∀ i, i < 32 → tt i = rt_e (T i)) → (∀ i, i < j → tt (100 + i) = rt_e (T i)) → wY_mix_10 post (nI t) x3 (d + 1) (nI j) a_orders a_rules a_starts tt a_table a_way a_square a_spare a_one a_two := by
  intro d
  induction d with
  | zero =>
    intro j tt hj h1 h2
    refine pk_le 32 j (fun _ => ?_) (fun h => absurd h (by omega))
    refine ry_list (cnt := 32) hS ht (by omega) (fun tt2 ht2 hf => ⟨33, ry_mi50 (T := T) (U := rt_U o R Q t) hG H 32 0 tt2 (by omega) (fun i hi => absurd hi (Nat.not_lt_zero i)) (fun i _ h => ht2 i h) (fun i hi => ?_)⟩)
    rw [hf (100 + i) (by omega)]
    exact h2 i (by omega)
  | succ d ih =>
    intro j tt hj h1 h2
    have ex : 100 + nI j = nI (100 + j) := nI_add 100 j
    refine pk_le 32 j (fun h => absurd h (by omega)) (fun _ => ⟨vp_in_nI (by omega) (by omega), pk_in (100 + j) 1000 (by omega) ex, nm_r (rt_up (100 + j) (rt_rd j (h1 j (by omega))) ex) (nm_r (nI_1 j) (ih (j + 1) _ (by omega) (fun i hi => ?_) (fun i hi => ?_)))⟩)
    · rw [pk_un (by omega)]
      exact h1 i hi
    · by_cases y : i = j
      · subst y
        rw [pk_us]
      · rw [pk_un (by omega)]
        exact h2 i (by omega)
theorem ry_mix {post : SY → Prop} {x3 : Int32} (hS : rt_St o R Q a_orders a_rules a_starts) (hs : s < 3) (ht : t < 3)
    (hG : (x3 = 0 → ∀ i, G i = rt_U o R Q t i + rt_U o R Q s i) ∧ (¬ x3 = 0 → ∀ i, G i = rt_U o R Q t i * rt_U o R Q s i))
    (H : ∀ tt : Nat → Int32, (∀ i, i < 32 → tt i = rt_e (G i)) → post (a_orders, a_rules, a_starts, tt, a_table, a_way, a_square, a_spare, a_one, a_two)) : wpY_mix post (a_orders, a_rules, a_starts, a_t, a_table, a_way, a_square, a_spare, a_one, a_two) (nI s) (nI t) x3 := by
  unfold wpY_mix
  exact ry_list (cnt := 32) hS hs (by omega) (fun tt htt _ => ⟨33, ry_mi10 (T := rt_U o R Q s) hS ht hG H 32 0 tt (by omega) htt (fun i hi => absurd hi (Nat.not_lt_zero i))⟩)
theorem ry_ze20 {T : Nat → rt_F} {r : Int32} (hT : ∀ i, i < 1000 → a_t i = rt_e (T i)) (H : post r (a_orders, a_rules, a_starts, a_t, a_table, a_way, a_square, a_spare, a_one, a_two)) :
    ∀ (d j : Nat), j + d = 1000 → rt_first (fun n => decide (T n = 0)) j d = r → wY_zero_20 post a_orders a_rules a_starts a_t a_table a_way a_square a_spare a_one a_two (d + 1) (nI j) := by
  intro d
  induction d with
  | zero =>
    intro j hj hr
    subst hr
    exact pk_le 1000 j (fun _ => H) (fun h => absurd h (by omega))
  | succ d ih =>
    intro j hj hr
    have e1 : a_t (nI j).toNatClampNeg = rt_e (T j) := rt_rd j (hT j (by omega))
    refine pk_le 1000 j (fun h => absurd h (by omega)) (fun _ => ⟨vp_in_nI (by omega) (by omega), br_c (fun h => ?_) (fun h => nm_r (nI_1 j) (ih (j + 1) (by omega) ?_))⟩)
    · have e : r = nI j := by
        rw [← hr]
        show (if decide (T j = 0) = true then _ else _) = _
        rw [if_pos (by rw [e1, rt_ez] at h; simp [h])]
      subst e
      exact H
    · rw [← hr]
      show _ = (if decide (T j = 0) = true then _ else _)
      rw [if_neg (by rw [e1, rt_ez] at h; simp [h])]
theorem ry_zero (hS : rt_St o R Q a_orders a_rules a_starts) (hs : s < 3)
    (H : ∀ tt : Nat → Int32, post (rt_first (fun n => decide (rt_U o R Q s n = 0)) 0 1000) (a_orders, a_rules, a_starts, tt, a_table, a_way, a_square, a_spare, a_one, a_two)) : wpY_zero post (a_orders, a_rules, a_starts, a_t, a_table, a_way, a_square, a_spare, a_one, a_two) (nI s) := by
  unfold wpY_zero
  refine rt_gY hs ?_
  refine br_t rfl ?_
  exact ry_list (cnt := 1000) hS hs (by omega) (fun tt htt _ => ⟨1001, ry_ze20 (T := rt_U o R Q s) htt (H tt) 1000 0 (by omega) rfl⟩)
theorem ry_rs55 {T C : Nat → rt_F} {L : Nat} (hT : ∀ i, i < 7 → a_one i = rt_e (T i)) (hR : rt_Rul L C T 8) (hm : ∀ L' c', rt_Rul L' c' T 8 → L ≤ L') (hL : L ≤ 4)
    (H : ∀ tt tb : Nat → Int32, post (nI L) (a_orders, a_rules, a_starts, tt, tb, a_way, a_square, a_spare, a_one, a_two)) :
    ∀ (d j : Nat) (tt : Nat → Int32), j + d = 7 → (∀ i, i < j → tt i = rt_e (T i)) → wY_rankOfStep_55 post (d + 1) (nI j) a_orders a_rules a_starts tt a_table a_way a_square a_spare a_one a_two := by
  intro d
  induction d with
  | zero =>
    intro j tt hj ht
    exact pk_le 7 j (fun _ => ry_rankOfTerms (w := 4) (t := T) (by omega) (fun i hi => ht i (by omega)) hR hm hL (fun tb => H tt tb)) (fun h => absurd h (by omega))
  | succ d ih =>
    intro j tt hj ht
    exact pk_le 7 j (fun h => absurd h (by omega)) (fun _ => ⟨vp_in_nI (by omega) (by omega), vp_in_nI (by omega) (by omega), nm_r (rt_up j (rt_rd j (hT j (by omega)))) (nm_r (nI_1 j) (ih (j + 1) _ (by omega) (rt_ux ht rfl)))⟩)
theorem ry_rs27 {C : Nat → rt_F} {L : Nat} (hS : rt_St o R Q a_orders a_rules a_starts) (hs : s < 3) (hst : st ≤ 1000) (hR : rt_Rul L C (fun n => rt_U o R Q s (n * st)) 8) (hm : ∀ L' c', rt_Rul L' c' (fun n => rt_U o R Q s (n * st)) 8 → L ≤ L') (hL : L ≤ 4)
    (H : ∀ tt tb wy sq sp on : Nat → Int32, post (nI L) (a_orders, a_rules, a_starts, tt, tb, wy, sq, sp, on, a_two)) :
    ∀ (d j : Nat) (tt wy sq sp on : Nat → Int32), j + d = 7 → (∀ i, i < j → on i = rt_e (rt_U o R Q s (i * st))) → wY_rankOfStep_27 post (nI s) (nI st) (d + 1) (nI j) a_orders a_rules a_starts tt a_table wy sq sp on a_two := by
  intro d
  induction d with
  | zero =>
    intro j tt wy sq sp on hj ho
    exact pk_le 7 j (fun _ => ⟨8, ry_rs55 (T := fun n => rt_U o R Q s (n * st)) (fun i hi => ho i (by omega)) hR hm hL (fun tt2 tb2 => H tt2 tb2 wy sq sp on) 7 0 _ (by omega) (fun i hi => absurd hi (Nat.not_lt_zero i))⟩) (fun h => absurd h (by omega))
  | succ d ih =>
    intro j tt wy sq sp on hj ho
    have hb : j * st ≤ 8 * 1000 := Nat.mul_le_mul (by omega) hst
    refine pk_le 7 j (fun h => absurd h (by omega)) (fun _ => ?_)
    rw [pk_mul]
    exact ry_term hS hs (by omega) (fun tt2 wy2 sq2 sp2 => ⟨vp_in_nI (by omega) (by omega), nm_r (rt_up j rfl) (nm_r (nI_1 j) (ih (j + 1) _ _ _ _ _ (by omega) (rt_ux ho rfl)))⟩)
end
/-! what changes the state -/
def rt_o1 (o : Nat → Nat) (s k : Nat) : Nat → Nat := fun i => if i = s then k else o i
def rt_z4 (R : Nat → rt_F) (s j q : Nat) : rt_F := if 4 * s ≤ q ∧ q < 4 * s + j then 0 else R q
theorem rt_o1U {o : Nat → Nat} {s k : Nat} {a : Nat → Int32} (h : ∀ i, i < 3 → a i = nI (o i)) : ∀ i, i < 3 → upd a s (nI k) i = nI (rt_o1 o s k i) := fun i hi => by
  show _ = nI (if i = s then k else o i)
  by_cases z : i = s
  · subst z
    rw [pk_us, if_pos rfl]
  · rw [pk_un z, if_neg z, h i hi]
theorem rt_z4U {R : Nat → rt_F} {s j : Nat} {b : Nat → Int32} (h : ∀ q, q < 12 → b q = rt_e (rt_z4 R s j q)) : ∀ q, q < 12 → upd b (4 * s + j) (rt_e 0) q = rt_e (rt_z4 R s (j + 1) q) := fun q hq => by
  show _ = rt_e (if 4 * s ≤ q ∧ q < 4 * s + (j + 1) then 0 else R q)
  by_cases z : q = 4 * s + j
  · subst z
    rw [pk_us, if_pos (by omega)]
  · rw [pk_un z, h q hq]
    show rt_e (if 4 * s ≤ q ∧ q < 4 * s + j then 0 else R q) = _
    by_cases y : 4 * s ≤ q ∧ q < 4 * s + j
    · rw [if_pos y, if_pos (by omega)]
    · rw [if_neg y, if_neg (by omega)]
theorem rt_stO {o : Nat → Nat} {R Q : Nat → rt_F} {s k : Nat} {a b c a' b' c' : Nat → Int32} (hS : rt_St o R Q a b c) (hs : s < 3) (hk : k ≤ 4) (h1 : ∀ i, i < 3 → a' i = nI (rt_o1 o s k i))
    (h2 : ∀ q, q < 12 → b' q = rt_e (rt_z4 R s 4 q)) (h3 : ∀ q, q < 12 → c' q = rt_e (rt_z4 Q s 4 q)) : rt_St (rt_o1 o s k) (rt_z4 R s 4) (rt_z4 Q s 4) a' b' c' := by
  refine ⟨h1, h2, h3, fun i hi => ?_, fun i j hi hj hj4 => ?_⟩
  · show (if i = s then k else o i) ≤ 4
    by_cases z : i = s
    · rw [if_pos z]; exact hk
    · rw [if_neg z]; exact hS.2.2.2.1 i hi
  · have hj' : (if i = s then k else o i) ≤ j := hj
    show (if 4 * s ≤ 4 * i + j ∧ 4 * i + j < 4 * s + 4 then 0 else R (4 * i + j)) = 0 ∧ (if 4 * s ≤ 4 * i + j ∧ 4 * i + j < 4 * s + 4 then 0 else Q (4 * i + j)) = 0
    by_cases z : i = s
    · rw [if_pos (by omega), if_pos (by omega)]
      exact ⟨rfl, rfl⟩
    · rw [if_neg (by omega), if_neg (by omega)]
      rw [if_neg z] at hj'
      exact hS.2.2.2.2 i j hi hj' hj4
section
variable {f_size : Int32} {a_orders a_rules a_firsts a_modulus a_head a_power a_square a_product a_terms a_rule a_older a_kept a_fresh : Nat → Int32}
variable {post : Int32 → SX → Prop} {o : Nat → Nat} {R Q : Nat → rt_F} {s n k : Nat}
theorem rx_or38 {x3 : Int32} (hs : s < 3) (H : ∀ b c : Nat → Int32, (∀ q, q < 12 → b q = rt_e (rt_z4 R s 4 q)) → (∀ q, q < 12 → c q = rt_e (rt_z4 Q s 4 q)) → post x3 (f_size, a_orders, b, c, a_modulus, a_head, a_power, a_square, a_product, a_terms, a_rule, a_older, a_kept, a_fresh)) :
    ∀ (d j : Nat) (b c : Nat → Int32), j + d = 4 → (∀ q, q < 12 → b q = rt_e (rt_z4 R s j q)) → (∀ q, q < 12 → c q = rt_e (rt_z4 Q s j q)) → wX_order_38 post (nI s) x3 f_size (d + 1) (nI j) a_orders b c a_modulus a_head a_power a_square a_product a_terms a_rule a_older a_kept a_fresh := by
  intro d
  induction d with
  | zero =>
    intro j b c hj h1 h2
    have e : j = 4 := by omega
    subst e
    exact pk_le 4 4 (fun _ => H b c h1 h2) (fun h => absurd h (by omega))
  | succ d ih =>
    intro j b c hj h1 h2
    exact pk_le 4 j (fun h => absurd h (by omega)) (fun _ => ⟨pk_in (4 * s + j) 12 (by omega) (rt_i4 s j), nm_r (rt_up (v' := rt_e 0) (4 * s + j) rfl (rt_i4 s j)) ⟨pk_in (4 * s + j) 12 (by omega) (rt_i4 s j), nm_r (rt_up (v' := rt_e 0) (4 * s + j) rfl (rt_i4 s j)) (nm_r (nI_1 j) (ih (j + 1) _ _ (by omega) (rt_z4U h1) (rt_z4U h2)))⟩⟩)
theorem rt_z40 {R : Nat → rt_F} {s : Nat} {b : Nat → Int32} (h : ∀ q, q < 12 → b q = rt_e (R q)) : ∀ q, q < 12 → b q = rt_e (rt_z4 R s 0 q) := fun q hq => by
  rw [h q hq]
  show _ = rt_e (if 4 * s ≤ q ∧ q < 4 * s + 0 then 0 else R q)
  rw [if_neg (by omega)]
theorem rx_order (hS : rt_St o R Q a_orders a_rules a_firsts) (hs : s < 3) (hk : k ≤ 4)
    (H : ∀ a b c : Nat → Int32, rt_St (rt_o1 o s k) (rt_z4 R s 4) (rt_z4 Q s 4) a b c → post (nI (o s)) (f_size, a, b, c, a_modulus, a_head, a_power, a_square, a_product, a_terms, a_rule, a_older, a_kept, a_fresh)) : wpX_order post (f_size, a_orders, a_rules, a_firsts, a_modulus, a_head, a_power, a_square, a_product, a_terms, a_rule, a_older, a_kept, a_fresh) (nI s) (nI k) := by
  unfold wpX_order
  refine rt_gX hs ?_
  refine br_f (by decide) (br_f (nI_pos (by omega)) (pk_le k 4 (fun _ => ⟨vp_in_nI hs (by omega), nm_r (rt_rd s (hS.1 s hs)) ⟨vp_in_nI hs (by omega), nm_r (rt_up s rfl) ⟨5, ?_⟩⟩⟩) (fun h => absurd h (by omega))))
  exact rx_or38 hs (fun b c h1 h2 => H _ b c (rt_stO hS hs hk (rt_o1U hS.1) h1 h2)) 4 0 _ _ (by omega) (rt_z40 hS.2.1) (rt_z40 hS.2.2.1)
/-! skipping -/
def rt_sk (T Q : Nat → rt_F) (s n j q : Nat) : rt_F := if 4 * s ≤ q ∧ q < 4 * s + j then T (n + (q - 4 * s)) else Q q
theorem rt_sk0 {T Q : Nat → rt_F} {s n : Nat} {c : Nat → Int32} (h : ∀ q, q < 12 → c q = rt_e (Q q)) : ∀ q, q < 12 → c q = rt_e (rt_sk T Q s n 0 q) := fun q hq => by
  rw [h q hq]
  show _ = rt_e (if 4 * s ≤ q ∧ q < 4 * s + 0 then _ else Q q)
  rw [if_neg (by omega)]
theorem rt_skU {T Q : Nat → rt_F} {s n j : Nat} {c : Nat → Int32} (h : ∀ q, q < 12 → c q = rt_e (rt_sk T Q s n j q)) : ∀ q, q < 12 → upd c (4 * s + j) (rt_e (T (n + j))) q = rt_e (rt_sk T Q s n (j + 1) q) := fun q hq => by
  show _ = rt_e (if 4 * s ≤ q ∧ q < 4 * s + (j + 1) then T (n + (q - 4 * s)) else Q q)
  by_cases z : q = 4 * s + j
  · subst z
    rw [pk_us, if_pos (by omega), show 4 * s + j - 4 * s = j by omega]
  · rw [pk_un z, h q hq]
    show rt_e (if 4 * s ≤ q ∧ q < 4 * s + j then T (n + (q - 4 * s)) else Q q) = _
    by_cases y : 4 * s ≤ q ∧ q < 4 * s + j
    · rw [if_pos y, if_pos (by omega)]
    · rw [if_neg y, if_neg (by omega)]
theorem rt_stS {o : Nat → Nat} {R Q T : Nat → rt_F} {s n : Nat} {a b c c' : Nat → Int32} (hS : rt_St o R Q a b c) (hs : s < 3) (h3 : ∀ q, q < 12 → c' q = rt_e (rt_sk T Q s n (o s) q)) : rt_St o R (rt_sk T Q s n (o s)) a b c' := by
  refine ⟨hS.1, hS.2.1, h3, hS.2.2.2.1, fun i j hi hj hj4 => ⟨(hS.2.2.2.2 i j hi hj hj4).1, ?_⟩⟩
  have h4 := hS.2.2.2.1 s hs
  show (if 4 * s ≤ 4 * i + j ∧ 4 * i + j < 4 * s + o s then _ else Q (4 * i + j)) = 0
  by_cases z : i = s
  · subst z
    rw [if_neg (by omega)]
    exact (hS.2.2.2.2 i j hi hj hj4).2
  · rw [if_neg (by omega)]
    exact (hS.2.2.2.2 i j hi hj hj4).2
theorem rx_sk56 {T : Nat → rt_F} (hO : a_orders s = nI (o s)) (h4 : o s ≤ 4) (hs : s < 3) (hf : ∀ i, i < o s → a_fresh i = rt_e (T (n + i))) (hz : o s = 0 → T n = 0)
    (H : ∀ c : Nat → Int32, (∀ q, q < 12 → c q = rt_e (rt_sk T Q s n (o s) q)) → post (rt_e (T n)) (f_size, a_orders, a_rules, c, a_modulus, a_head, a_power, a_square, a_product, a_terms, a_rule, a_older, a_kept, a_fresh)) :
    ∀ (d j : Nat) (c : Nat → Int32), j + d = o s → (∀ q, q < 12 → c q = rt_e (rt_sk T Q s n j q)) → wX_skip_56 post (nI s) f_size (d + 1) (nI j) a_orders a_rules c a_modulus a_head a_power a_square a_product a_terms a_rule a_older a_kept a_fresh := by
  have eo : a_orders (nI s).toNatClampNeg = nI (o s) := rt_rd s hO
  intro d
  induction d with
  | zero =>
    intro j c hj h
    have e : j = o s := by omega
    subst e
    have hp := H c h
    refine And.intro (vp_in_nI hs (by omega)) (pk_le (o s) (o s) (fun _ => ⟨vp_in_nI hs (by omega), pk_eq (o s) 0 (fun h0 => ?_) (fun h0 => ?_) eo⟩) (fun h => absurd h (by omega)) eo)
    · rw [hz h0] at hp
      exact hp
    · rw [show a_fresh 0 = rt_e (T n) from hf 0 (by omega)]
      exact hp
  | succ d ih =>
    intro j c hj h
    exact And.intro (vp_in_nI hs (by omega)) (pk_le (o s) j (fun h => absurd h (by omega)) (fun _ => ⟨vp_in_nI (by omega) (by omega), pk_in (4 * s + j) 12 (by omega) (rt_i4 s j),
      nm_r (rt_up (4 * s + j) (rt_rd j (hf j (by omega))) (rt_i4 s j)) (nm_r (nI_1 j) (ih (j + 1) _ (by omega) (rt_skU h)))⟩) eo)
theorem rx_sk24 (hS : rt_St o R Q a_orders a_rules a_firsts) (hs : s < 3) (hn : n ≤ 1000000)
    (H : ∀ (sz : Int32) (m p pr fr c : Nat → Int32), rt_St o R (rt_sk (rt_U o R Q s) Q s n (o s)) a_orders a_rules c → post (rt_e (rt_U o R Q s n)) (sz, a_orders, a_rules, c, m, a_head, p, a_square, pr, a_terms, a_rule, a_older, a_kept, fr)) :
    ∀ (d j : Nat) (sz : Int32) (m p pr fr : Nat → Int32), j + d = o s → (∀ i, i < j → fr i = rt_e (rt_U o R Q s (n + i))) →
      wX_skip_24 post (nI s) (nI n) (d + 1) (nI j) sz a_orders a_rules a_firsts m a_head p a_square pr a_terms a_rule a_older a_kept fr := by
  have h4 := hS.2.2.2.1 s hs
  have eo : a_orders (nI s).toNatClampNeg = nI (o s) := rt_rd s (hS.1 s hs)
  intro d
  induction d with
  | zero =>
    intro j sz m p pr fr hj hf
    refine And.intro (vp_in_nI hs (by omega)) (pk_le (o s) j (fun _ => ⟨o s + 1, ?_⟩) (fun h => absurd h (by omega)) eo)
    exact rx_sk56 (T := rt_U o R Q s) (hS.1 s hs) h4 hs (fun i hi => hf i (by omega)) (fun h => rt_Uz h) (fun c hc => H sz m p pr fr c (rt_stS hS hs hc)) (o s) 0 _ (by omega) (rt_sk0 hS.2.2.1)
  | succ d ih =>
    intro j sz m p pr fr hj hf
    refine And.intro (vp_in_nI hs (by omega)) (pk_le (o s) j (fun h => absurd h (by omega)) (fun _ => ?_) eo)
    rw [nI_add]
    exact rx_termAt hS hs (by omega) (fun sz2 m2 p2 pr2 => ⟨vp_in_nI (by omega) (by omega), nm_r (rt_up j rfl) (nm_r (nI_1 j) (ih (j + 1) _ _ _ _ _ (by omega) (rt_ux hf rfl)))⟩)
/-! shortening -/
def rt_sr (C R : Nat → rt_F) (L s j q : Nat) : rt_F := if 4 * s ≤ q ∧ q < 4 * s + j then (if q - 4 * s < L then C (q - 4 * s) else 0) else R q
theorem rt_sr0 {C Q : Nat → rt_F} {L s : Nat} {c : Nat → Int32} (h : ∀ q, q < 12 → c q = rt_e (Q q)) : ∀ q, q < 12 → c q = rt_e (rt_sr C Q L s 0 q) := fun q hq => by
  rw [h q hq]
  show _ = rt_e (if 4 * s ≤ q ∧ q < 4 * s + 0 then _ else Q q)
  rw [if_neg (by omega)]
theorem rt_srU {C Q : Nat → rt_F} {L s j : Nat} {c : Nat → Int32} {v : Int32} (h : ∀ q, q < 12 → c q = rt_e (rt_sr C Q L s j q)) (hv : v = rt_e (if j < L then C j else 0)) : ∀ q, q < 12 → upd c (4 * s + j) v q = rt_e (rt_sr C Q L s (j + 1) q) := fun q hq => by
  show _ = rt_e (if 4 * s ≤ q ∧ q < 4 * s + (j + 1) then (if q - 4 * s < L then C (q - 4 * s) else 0) else Q q)
  by_cases z : q = 4 * s + j
  · subst z
    rw [pk_us, if_pos (by omega), show 4 * s + j - 4 * s = j by omega, hv]
  · rw [pk_un z, h q hq]
    show rt_e (if 4 * s ≤ q ∧ q < 4 * s + j then _ else Q q) = _
    by_cases y : 4 * s ≤ q ∧ q < 4 * s + j
    · rw [if_pos y, if_pos (c := 4 * s ≤ q ∧ q < 4 * s + (j + 1)) (by omega)]
    · rw [if_neg y, if_neg (c := 4 * s ≤ q ∧ q < 4 * s + (j + 1)) (by omega)]
theorem rt_stH {o : Nat → Nat} {R Q C D : Nat → rt_F} {s L : Nat} {a b c a' b' c' : Nat → Int32} (hS : rt_St o R Q a b c) (hs : s < 3) (hL : L ≤ 4) (h1 : ∀ i, i < 3 → a' i = nI (rt_o1 o s L i))
    (h2 : ∀ q, q < 12 → b' q = rt_e (rt_sr C R L s 4 q)) (h3 : ∀ q, q < 12 → c' q = rt_e (rt_sr D Q L s 4 q)) : rt_St (rt_o1 o s L) (rt_sr C R L s 4) (rt_sr D Q L s 4) a' b' c' := by
  refine ⟨h1, h2, h3, fun i hi => ?_, fun i j hi hj hj4 => ?_⟩
  · show (if i = s then L else o i) ≤ 4
    by_cases z : i = s
    · rw [if_pos z]; exact hL
    · rw [if_neg z]; exact hS.2.2.2.1 i hi
  · have hj' : (if i = s then L else o i) ≤ j := hj
    show (if 4 * s ≤ 4 * i + j ∧ 4 * i + j < 4 * s + 4 then (if 4 * i + j - 4 * s < L then C (4 * i + j - 4 * s) else 0) else R (4 * i + j)) = 0 ∧ (if 4 * s ≤ 4 * i + j ∧ 4 * i + j < 4 * s + 4 then (if 4 * i + j - 4 * s < L then D (4 * i + j - 4 * s) else 0) else Q (4 * i + j)) = 0
    by_cases z : i = s
    · rw [if_pos z] at hj'
      have k : ∀ A B : rt_F, (if 4 * s ≤ 4 * i + j ∧ 4 * i + j < 4 * s + 4 then (if 4 * i + j - 4 * s < L then A else 0) else B) = 0 := fun A B => by
        rw [if_pos (by omega), if_neg (by omega)]
      exact ⟨k _ _, k _ _⟩
    · rw [if_neg (by omega), if_neg (by omega)]
      rw [if_neg z] at hj'
      exact hS.2.2.2.2 i j hi hj' hj4
theorem rx_sh17 {C : Nat → rt_F} {L : Nat} (hs : s < 3) (hL : L ≤ 4) (hC : ∀ i, i < 40 → a_rule i = rt_e (C i))
    (H : ∀ b c : Nat → Int32, (∀ q, q < 12 → b q = rt_e (rt_sr C R L s 4 q)) → (∀ q, q < 12 → c q = rt_e (rt_sr (fun i => Q (4 * s + i)) Q L s 4 q)) → post (nI L) (f_size, (upd a_orders s (nI L)), b, c, a_modulus, a_head, a_power, a_square, a_product, a_terms, a_rule, a_older, a_kept, a_fresh)) :
    ∀ (d j : Nat) (b c : Nat → Int32), j + d = 4 → (∀ q, q < 12 → b q = rt_e (rt_sr C R L s j q)) → (∀ q, q < 12 → c q = rt_e (rt_sr (fun i => Q (4 * s + i)) Q L s j q)) →
      wX_shorten_17 post (nI s) (nI L) f_size (d + 1) (nI j) a_orders b c a_modulus a_head a_power a_square a_product a_terms a_rule a_older a_kept a_fresh := by
  intro d
  induction d with
  | zero =>
    intro j b c hj h1 h2
    have e : j = 4 := by omega
    subst e
    exact pk_le 4 4 (fun _ => ⟨vp_in_nI hs (by omega), nm_r (rt_up s rfl) (H b c h1 h2)⟩) (fun h => absurd h (by omega))
  | succ d ih =>
    intro j b c hj h1 h2
    have key : ∀ v : Int32, v = rt_e (if j < L then C j else 0) → wX_shorten_46 post (wX_shorten_17 post (nI s) (nI L) f_size (d + 1)) (nI s) (nI L) (nI j) v ((4 * nI s) + nI j) f_size a_orders b c a_modulus a_head a_power a_square a_product a_terms a_rule a_older a_kept a_fresh := by
      intro v hv
      refine And.intro (pk_in (4 * s + j) 12 (by omega) (rt_i4 s j)) (nm_r (rt_up (4 * s + j) rfl (rt_i4 s j)) (pk_le L j (fun h => ⟨pk_in (4 * s + j) 12 (by omega) (rt_i4 s j), ?_⟩) (fun h => ⟨pk_in (4 * s + j) 12 (by omega) (rt_i4 s j), pk_in (4 * s + j) 12 (by omega) (rt_i4 s j), ?_⟩)))
      · exact nm_r (rt_up (v' := rt_e 0) (4 * s + j) rfl (rt_i4 s j)) (nm_r (nI_1 j) (ih (j + 1) _ _ (by omega) (rt_srU h1 hv) (rt_srU h2 (by rw [if_neg (by omega)]))))
      · have e : c (4 * s + j) = rt_e (Q (4 * s + j)) := by
          rw [h2 _ (by omega)]
          show rt_e (if 4 * s ≤ 4 * s + j ∧ 4 * s + j < 4 * s + j then _ else _) = _
          rw [if_neg (by omega)]
        exact nm_r (rt_up (4 * s + j) (rt_rd (4 * s + j) e (rt_i4 s j)) (rt_i4 s j)) (nm_r (nI_1 j) (ih (j + 1) _ _ (by omega) (rt_srU h1 hv) (rt_srU h2 (by rw [if_pos h]))))
    exact pk_le 4 j (fun h => absurd h (by omega)) (fun _ => pk_le L j (fun h => key 0 (by rw [if_neg (by omega)]; rfl)) (fun h => ⟨vp_in_nI (by omega) (by omega), key _ (by rw [if_pos h]; exact rt_rd j (hC j (by omega)))⟩))
end
section
variable {a_orders a_rules a_starts a_t a_table a_way a_square a_spare a_one a_two : Nat → Int32}
variable {post : Int32 → SY → Prop} {o : Nat → Nat} {R Q : Nat → rt_F} {s n k : Nat}
theorem ry_or39 {x3 : Int32} (hs : s < 3) (H : ∀ b c : Nat → Int32, (∀ q, q < 12 → b q = rt_e (rt_z4 R s 4 q)) → (∀ q, q < 12 → c q = rt_e (rt_z4 Q s 4 q)) → post x3 (a_orders, b, c, a_t, a_table, a_way, a_square, a_spare, a_one, a_two)) :
    ∀ (d j : Nat) (b c : Nat → Int32), j + d = 4 → (∀ q, q < 12 → b q = rt_e (rt_z4 R s j q)) → (∀ q, q < 12 → c q = rt_e (rt_z4 Q s j q)) → wY_order_39 post (nI s) x3 (d + 1) (nI j) a_orders b c a_t a_table a_way a_square a_spare a_one a_two := by
  intro d
  induction d with
  | zero =>
    intro j b c hj h1 h2
    have e : j = 4 := by omega
    subst e
    exact pk_le 4 4 (fun _ => H b c h1 h2) (fun h => absurd h (by omega))
  | succ d ih =>
    intro j b c hj h1 h2
    exact pk_le 4 j (fun h => absurd h (by omega)) (fun _ => ⟨pk_in (4 * s + j) 12 (by omega) (rt_j4 s j), nm_r (rt_up (v' := rt_e 0) (4 * s + j) rfl (rt_j4 s j)) ⟨pk_in (4 * s + j) 12 (by omega) (rt_j4 s j), nm_r (rt_up (v' := rt_e 0) (4 * s + j) rfl (rt_j4 s j)) (nm_r (nI_1 j) (ih (j + 1) _ _ (by omega) (rt_z4U h1) (rt_z4U h2)))⟩⟩)
theorem ry_order (hS : rt_St o R Q a_orders a_rules a_starts) (hs : s < 3) (hk : k ≤ 4)
    (H : ∀ a b c : Nat → Int32, rt_St (rt_o1 o s k) (rt_z4 R s 4) (rt_z4 Q s 4) a b c → post (nI (o s)) (a, b, c, a_t, a_table, a_way, a_square, a_spare, a_one, a_two)) : wpY_order post (a_orders, a_rules, a_starts, a_t, a_table, a_way, a_square, a_spare, a_one, a_two) (nI s) (nI k) := by
  unfold wpY_order
  refine rt_gY hs ?_
  refine br_t rfl (br_f (nI_pos (by omega)) (pk_le k 4 (fun _ => ⟨vp_in_nI hs (by omega), nm_r (rt_rd s (hS.1 s hs)) ⟨vp_in_nI hs (by omega), nm_r (rt_up s rfl) ⟨5, ?_⟩⟩⟩) (fun h => absurd h (by omega))))
  exact ry_or39 hs (fun b c h1 h2 => H _ b c (rt_stO hS hs hk (rt_o1U hS.1) h1 h2)) 4 0 _ _ (by omega) (rt_z40 hS.2.1) (rt_z40 hS.2.2.1)
theorem ry_sk52 {T : Nat → rt_F} (hO : a_orders s = nI (o s)) (h4 : o s ≤ 4) (hs : s < 3) (hf : ∀ i, i < 4 → a_one i = rt_e (T (n + i))) (hz : ∀ i, o s ≤ i → i < 4 → Q (4 * s + i) = 0)
    (H : ∀ c : Nat → Int32, (∀ q, q < 12 → c q = rt_e (rt_sk T Q s n (o s) q)) → post (rt_e (T n)) (a_orders, a_rules, c, a_t, a_table, a_way, a_square, a_spare, a_one, a_two)) :
    ∀ (d j : Nat) (c : Nat → Int32), j + d = 4 → (∀ q, q < 12 → c q = rt_e (rt_sk T Q s n (if j ≤ o s then j else o s) q)) → wY_skip_52 post (nI s) (d + 1) (nI j) a_orders a_rules c a_t a_table a_way a_square a_spare a_one a_two := by
  have eo : a_orders (nI s).toNatClampNeg = nI (o s) := rt_rd s hO
  intro d
  induction d with
  | zero =>
    intro j c hj h
    have e : (if j ≤ o s then j else o s) = o s := by
      by_cases z : j ≤ o s
      · rw [if_pos z]; omega
      · rw [if_neg z]
    rw [e] at h
    refine pk_le 4 j (fun _ => ?_) (fun h => absurd h (by omega))
    rw [show a_one 0 = rt_e (T n) from hf 0 (by omega)]
    exact H c h
  | succ d ih =>
    intro j c hj h
    refine pk_le 4 j (fun h => absurd h (by omega)) (fun _ => ⟨vp_in_nI hs (by omega), pk_le (o s) j (fun hoj => ?_) (fun hoj => ?_) eo⟩)
    · refine ⟨pk_in (4 * s + j) 12 (by omega) (rt_j4 s j), nm_r (rt_up (v' := rt_e 0) (4 * s + j) rfl (rt_j4 s j)) (nm_r (nI_1 j) (ih (j + 1) _ (by omega) (fun q hq => ?_)))⟩
      have e : (if j ≤ o s then j else o s) = o s := by
        by_cases z : j ≤ o s
        · rw [if_pos z]; omega
        · rw [if_neg z]
      rw [e] at h
      rw [if_neg (by omega)]
      by_cases z : q = 4 * s + j
      · subst z
        rw [pk_us]
        show _ = rt_e (if 4 * s ≤ 4 * s + j ∧ 4 * s + j < 4 * s + o s then _ else Q (4 * s + j))
        rw [if_neg (by omega), hz j hoj (by omega)]
      · rw [pk_un z]
        exact h q hq
    · refine ⟨vp_in_nI (by omega) (by omega), pk_in (4 * s + j) 12 (by omega) (rt_j4 s j), nm_r (rt_up (4 * s + j) (rt_rd j (hf j (by omega))) (rt_j4 s j)) (nm_r (nI_1 j) (ih (j + 1) _ (by omega) ?_))⟩
      rw [if_pos (by omega)] at h
      rw [if_pos (by omega)]
      exact rt_skU h
theorem ry_sk25 (hS : rt_St o R Q a_orders a_rules a_starts) (hs : s < 3) (hn : n ≤ 1000000)
    (H : ∀ tt wy sq sp on c : Nat → Int32, rt_St o R (rt_sk (rt_U o R Q s) Q s n (o s)) a_orders a_rules c → post (rt_e (rt_U o R Q s n)) (a_orders, a_rules, c, tt, a_table, wy, sq, sp, on, a_two)) :
    ∀ (d j : Nat) (tt wy sq sp on : Nat → Int32), j + d = 4 → (∀ i, i < j → on i = rt_e (rt_U o R Q s (n + i))) →
      wY_skip_25 post (nI s) (nI n) (d + 1) (nI j) a_orders a_rules a_starts tt a_table wy sq sp on a_two := by
  have h4 := hS.2.2.2.1 s hs
  intro d
  induction d with
  | zero =>
    intro j tt wy sq sp on hj hf
    refine pk_le 4 j (fun _ => ⟨5, ?_⟩) (fun h => absurd h (by omega))
    exact ry_sk52 (T := rt_U o R Q s) (hS.1 s hs) h4 hs (fun i hi => hf i (by omega)) (fun i a b => (hS.2.2.2.2 s i hs a b).2) (fun c hc => H tt wy sq sp on c (rt_stS hS hs hc)) 4 0 _ (by omega) (by rw [if_pos (by omega)]; exact rt_sk0 hS.2.2.1)
  | succ d ih =>
    intro j tt wy sq sp on hj hf
    refine pk_le 4 j (fun h => absurd h (by omega)) (fun _ => ?_)
    rw [nI_add]
    exact ry_term hS hs (by omega) (fun tt2 wy2 sq2 sp2 => ⟨vp_in_nI (by omega) (by omega), nm_r (rt_up j rfl) (nm_r (nI_1 j) (ih (j + 1) _ _ _ _ _ (by omega) (rt_ux hf rfl)))⟩)
theorem ry_sh81 {C D : Nat → rt_F} {L : Nat} (hs : s < 3) (hL : L ≤ 4) (hC : ∀ i, i < L → a_two (i + 1) = rt_e (C i)) (hD : ∀ i, i < L → a_one i = rt_e (D i))
    (H : ∀ b c : Nat → Int32, (∀ q, q < 12 → b q = rt_e (rt_sr C R L s 4 q)) → (∀ q, q < 12 → c q = rt_e (rt_sr D Q L s 4 q)) → post (nI L) (a_orders, b, c, a_t, a_table, a_way, a_square, a_spare, a_one, a_two)) :
    ∀ (d j : Nat) (b c : Nat → Int32), j + d = 4 → (∀ q, q < 12 → b q = rt_e (rt_sr C R L s j q)) → (∀ q, q < 12 → c q = rt_e (rt_sr D Q L s j q)) →
      wY_shorten_81 post (nI s) (nI L) (d + 1) (nI j) a_orders b c a_t a_table a_way a_square a_spare a_one a_two := by
  intro d
  induction d with
  | zero =>
    intro j b c hj h1 h2
    have e : j = 4 := by omega
    subst e
    exact pk_le 4 4 (fun _ => H b c h1 h2) (fun h => absurd h (by omega))
  | succ d ih =>
    intro j b c hj h1 h2
    have key : ∀ v : Int32, v = rt_e (if j < L then C j else 0) → wY_shorten_112 post (wY_shorten_81 post (nI s) (nI L) (d + 1)) (nI s) (nI L) (nI j) v ((nI s * 4) + nI j) a_orders b c a_t a_table a_way a_square a_spare a_one a_two := by
      intro v hv
      refine And.intro (pk_in (4 * s + j) 12 (by omega) (rt_j4 s j)) (nm_r (rt_up (4 * s + j) rfl (rt_j4 s j)) (pk_le L j (fun h => ⟨pk_in (4 * s + j) 12 (by omega) (rt_j4 s j), ?_⟩) (fun h => ⟨vp_in_nI (by omega) (by omega), pk_in (4 * s + j) 12 (by omega) (rt_j4 s j), ?_⟩)))
      · exact nm_r (rt_up (v' := rt_e 0) (4 * s + j) rfl (rt_j4 s j)) (nm_r (nI_1 j) (ih (j + 1) _ _ (by omega) (rt_srU h1 hv) (rt_srU h2 (by rw [if_neg (by omega)]))))
      · exact nm_r (rt_up (4 * s + j) (rt_rd j (hD j h)) (rt_j4 s j)) (nm_r (nI_1 j) (ih (j + 1) _ _ (by omega) (rt_srU h1 hv) (rt_srU h2 (by rw [if_pos h]))))
    exact pk_le 4 j (fun h => absurd h (by omega)) (fun _ => pk_le L j (fun h => key 0 (by rw [if_neg (by omega)]; rfl)) (fun h => ⟨pk_in (j + 1) 8 (by omega) (nI_1 j), key _ (by rw [if_pos h]; exact rt_rd (j + 1) (hC j h) (nI_1 j))⟩))
theorem ry_sh49 {C D : Nat → rt_F} {L : Nat} (hS : rt_St o R Q a_orders a_rules a_starts) (hs : s < 3) (hL : L ≤ 4) (hC : ∀ i, i < L → a_two (i + 1) = rt_e (C i)) (hD : ∀ i, i < 4 → a_t i = rt_e (D i))
    (H : ∀ on a b c : Nat → Int32, rt_St (rt_o1 o s L) (rt_sr C R L s 4) (rt_sr D Q L s 4) a b c → post (nI L) (a, b, c, a_t, a_table, a_way, a_square, a_spare, on, a_two)) :
    ∀ (d j : Nat) (on : Nat → Int32), j + d = 4 → (∀ i, i < j → on i = rt_e (D i)) → wY_shorten_49 post (nI s) (nI L) (d + 1) (nI j) a_orders a_rules a_starts a_t a_table a_way a_square a_spare on a_two := by
  intro d
  induction d with
  | zero =>
    intro j on hj ho
    refine pk_le 4 j (fun _ => ⟨vp_in_nI hs (by omega), nm_r (rt_up s rfl) ⟨5, ?_⟩⟩) (fun h => absurd h (by omega))
    exact ry_sh81 hs hL hC (fun i hi => ho i (by omega)) (fun b c h1 h2 => H on _ b c (rt_stH hS hs hL (rt_o1U hS.1) h1 h2)) 4 0 _ _ (by omega) (rt_sr0 hS.2.1) (rt_sr0 hS.2.2.1)
  | succ d ih =>
    intro j on hj ho
    exact pk_le 4 j (fun h => absurd h (by omega)) (fun _ => ⟨vp_in_nI (by omega) (by omega), vp_in_nI (by omega) (by omega), nm_r (rt_up j (rt_rd j (hD j (by omega)))) (nm_r (nI_1 j) (ih (j + 1) _ (by omega) (rt_ux ho rfl)))⟩)
theorem ry_sh18 {C : Nat → rt_F} {L : Nat} (hS : rt_St o R Q a_orders a_rules a_starts) (hs : s < 3) (hR : rt_Rul L C (rt_U o R Q s) 8) (hm : ∀ L' c', rt_Rul L' c' (rt_U o R Q s) 8 → L ≤ L') (hL : L ≤ 4)
    (H : ∀ tt tb on tw a b c : Nat → Int32, rt_St (rt_o1 o s L) (rt_sr C R L s 4) (rt_sr (rt_U o R Q s) Q L s 4) a b c → post (nI L) (a, b, c, tt, tb, a_way, a_square, a_spare, on, tw)) :
    ∀ (d j : Nat) (tt tb tw : Nat → Int32), j + d = 4 → (∀ i, i < j → i < L → tw (i + 1) = rt_e (C i)) → wY_shorten_18 post (nI s) (nI L) (d + 1) (nI (j + 1)) a_orders a_rules a_starts tt tb a_way a_square a_spare a_one tw := by
  intro d
  induction d with
  | zero =>
    intro j tt tb tw hj hw
    refine pk_lt 4 (j + 1) (fun _ => ?_) (fun h => absurd h (by omega))
    exact ry_list (cnt := 4) hS hs (by omega) (fun tt2 ht2 _ => ⟨5, ry_sh49 (C := C) (D := rt_U o R Q s) hS hs hL (fun i hi => hw i (by omega) hi) ht2 (fun on a b c h => H tt2 tb on tw a b c h) 4 0 _ (by omega) (fun i hi => absurd hi (Nat.not_lt_zero i))⟩)
  | succ d ih =>
    intro j tt tb tw hj hw
    refine pk_lt 4 (j + 1) (fun h => absurd h (by omega)) (fun _ => ?_)
    by_cases z : j + 1 ≤ L
    · refine ry_shortI hS hs hR hm hL (by omega) z (fun tt2 tb2 => ⟨vp_in_nI (by omega) (by omega), nm_r (rt_up (j + 1) rfl) (nm_r (nI_1 (j + 1)) (ih (j + 1) _ _ _ (by omega) (fun i h1 h2 => ?_)))⟩)
      by_cases y : i = j
      · subst y
        rw [pk_us, Nat.add_sub_cancel]
      · rw [pk_un (by omega)]
        exact hw i (by omega) h2
    · refine ry_shortN hS hs hR hm hL (fun _ => nI_ge (by omega) (by omega)) (fun tt2 tb2 => ⟨vp_in_nI (by omega) (by omega), nm_r (rt_up (j + 1) rfl) (nm_r (nI_1 (j + 1)) (ih (j + 1) _ _ _ (by omega) (fun i h1 h2 => ?_)))⟩)
      rw [pk_un (by omega)]
      exact hw i (by omega) h2
end
end
section
/-! setting one number of a rule or one first term -/
def rt_w (R : Nat → rt_F) (p : Nat) (x : rt_F) : Nat → rt_F := fun q => if q = p then x else R q
theorem rt_stR {o : Nat → Nat} {R Q : Nat → rt_F} {s j : Nat} {x : rt_F} {a b c : Nat → Int32} (hS : rt_St o R Q a b c) (hs : s < 3) (hj : j < o s) : rt_St o (rt_w R (4 * s + j) x) Q a (upd b (4 * s + j) (rt_e x)) c := by
  have h4 := hS.2.2.2.1 s hs
  refine ⟨hS.1, rt_uF hS.2.1, hS.2.2.1, hS.2.2.2.1, fun i k hi hk hk4 => ⟨?_, (hS.2.2.2.2 i k hi hk hk4).2⟩⟩
  show (if 4 * i + k = 4 * s + j then x else R (4 * i + k)) = 0
  by_cases z : i = s
  · subst z
    rw [if_neg (by omega)]
    exact (hS.2.2.2.2 i k hi hk hk4).1
  · rw [if_neg (by omega)]
    exact (hS.2.2.2.2 i k hi hk hk4).1
theorem rt_stQ {o : Nat → Nat} {R Q : Nat → rt_F} {s j : Nat} {x : rt_F} {a b c : Nat → Int32} (hS : rt_St o R Q a b c) (hs : s < 3) (hj : j < o s) : rt_St o R (rt_w Q (4 * s + j) x) a b (upd c (4 * s + j) (rt_e x)) := by
  have h4 := hS.2.2.2.1 s hs
  refine ⟨hS.1, hS.2.1, rt_uF hS.2.2.1, hS.2.2.2.1, fun i k hi hk hk4 => ⟨(hS.2.2.2.2 i k hi hk hk4).1, ?_⟩⟩
  show (if 4 * i + k = 4 * s + j then x else Q (4 * i + k)) = 0
  by_cases z : i = s
  · subst z
    rw [if_neg (by omega)]
    exact (hS.2.2.2.2 i k hi hk hk4).2
  · rw [if_neg (by omega)]
    exact (hS.2.2.2.2 i k hi hk hk4).2
theorem rt_firstC (P : Nat → Bool) : ∀ d n, n + d ≤ 1000 → rt_first P n d = -2 ∨ ∃ m, m ≤ 1000 ∧ rt_first P n d = nI m := by
  intro d
  induction d with
  | zero => exact fun n _ => Or.inl rfl
  | succ d ih =>
    intro n hn
    by_cases z : P n = true
    · exact Or.inr ⟨n, by omega, if_pos z⟩
    · have e : rt_first P n (d + 1) = rt_first P (n + 1) d := if_neg z
      rw [e]
      exact ih (n + 1) (by omega)
theorem rt_lt1 {x : Int32} (h : ¬ x < 1) : ∃ j : Nat, j < 2 ^ 31 ∧ 1 ≤ j ∧ x = nI j := by
  obtain ⟨j, hj, rfl⟩ := nI_of (x := x) (fun z => h (Int32.lt_trans z (by decide)))
  refine ⟨j, hj, ?_, rfl⟩
  have := mt (nI_ltI (a := j) (b := 1) hj (by omega)).mpr h
  omega
theorem rt_Lo {o : Nat → Nat} {R Q : Nat → rt_F} {s L N : Nat} (hm : ∀ L' c', rt_Rul L' c' (rt_U o R Q s) N → L ≤ L') : L ≤ o s := hm (o s) (fun i => R (4 * s + i)) (rt_Trul N)
theorem rt_srQ {o : Nat → Nat} {R Q : Nat → rt_F} {s L : Nat} (hL : L ≤ o s) : rt_sr (rt_U o R Q s) Q L s 4 = rt_sr (fun i => Q (4 * s + i)) Q L s 4 := by
  funext q
  show (if 4 * s ≤ q ∧ q < 4 * s + 4 then (if q - 4 * s < L then rt_U o R Q s (q - 4 * s) else 0) else Q q) = (if 4 * s ≤ q ∧ q < 4 * s + 4 then (if q - 4 * s < L then Q (4 * s + (q - 4 * s)) else 0) else Q q)
  by_cases z : q - 4 * s < L
  · rw [if_pos z, if_pos z, rt_Ulo (by omega)]
  · rw [if_neg z, if_neg z]
section
variable {f_size : Int32} {a_orders a_rules a_firsts a_modulus a_head a_power a_square a_product a_terms a_rule a_older a_kept a_fresh : Nat → Int32}
variable {post : Int32 → SX → Prop} {o : Nat → Nat} {R Q : Nat → rt_F} {s j : Nat} {v : Int32}
theorem rx_rule (hS : rt_St o R Q a_orders a_rules a_firsts) (hs : s < 3) (hj : j < o s)
    (H : ∀ b : Nat → Int32, rt_St o (rt_w R (4 * s + j) (rt_nm v)) Q a_orders b a_firsts → post (rt_e (R (4 * s + j))) (f_size, a_orders, b, a_firsts, a_modulus, a_head, a_power, a_square, a_product, a_terms, a_rule, a_older, a_kept, a_fresh)) : wpX_rule post (f_size, a_orders, a_rules, a_firsts, a_modulus, a_head, a_power, a_square, a_product, a_terms, a_rule, a_older, a_kept, a_fresh) (nI s) (nI (j + 1)) v := by
  have h4 := hS.2.2.2.1 s hs
  have ex : ((4 * nI s) + nI (j + 1)) - 1 = nI (4 * s + j) := by rw [rt_i4]; exact nI_pred (4 * s + j)
  unfold wpX_rule
  refine rt_gX hs ?_
  refine br_f (by decide) (pk_lt (j + 1) 1 (fun h => absurd h (by omega)) (fun _ => ⟨vp_in_nI hs (by omega), pk_le (j + 1) (o s) (fun _ => ⟨pk_in (4 * s + j) 12 (by omega) ex, nm_r (rt_rd (4 * s + j) (hS.2.1 _ (by omega)) ex) ?_⟩) (fun h => absurd h (by omega)) rfl (rt_rd s (hS.1 s hs))⟩))
  refine rt_moX ⟨pk_in (4 * s + j) 12 (by omega) ex, nm_r (rt_up (4 * s + j) rfl ex) ?_⟩
  exact H _ (rt_stR hS hs hj)
theorem rx_start (hS : rt_St o R Q a_orders a_rules a_firsts) (hs : s < 3) (hj : j < o s)
    (H : ∀ c : Nat → Int32, rt_St o R (rt_w Q (4 * s + j) (rt_nm v)) a_orders a_rules c → post (rt_e (Q (4 * s + j))) (f_size, a_orders, a_rules, c, a_modulus, a_head, a_power, a_square, a_product, a_terms, a_rule, a_older, a_kept, a_fresh)) : wpX_start post (f_size, a_orders, a_rules, a_firsts, a_modulus, a_head, a_power, a_square, a_product, a_terms, a_rule, a_older, a_kept, a_fresh) (nI s) (nI j) v := by
  have h4 := hS.2.2.2.1 s hs
  unfold wpX_start
  refine rt_gX hs ?_
  refine br_f (by decide) (br_f (nI_pos (by omega)) ⟨vp_in_nI hs (by omega), pk_lt j (o s) (fun _ => ⟨pk_in (4 * s + j) 12 (by omega) (rt_i4 s j), nm_r (rt_rd (4 * s + j) (hS.2.2.1 _ (by omega)) (rt_i4 s j)) ?_⟩) (fun h => absurd h (by omega)) rfl (rt_rd s (hS.1 s hs))⟩)
  refine rt_moX ⟨pk_in (4 * s + j) 12 (by omega) (rt_i4 s j), nm_r (rt_up (4 * s + j) rfl (rt_i4 s j)) ?_⟩
  exact H _ (rt_stQ hS hs hj)
end
section
variable {a_orders a_rules a_starts a_t a_table a_way a_square a_spare a_one a_two : Nat → Int32}
variable {post : Int32 → SY → Prop} {o : Nat → Nat} {R Q : Nat → rt_F} {s j : Nat} {v : Int32}
theorem ry_rule (hS : rt_St o R Q a_orders a_rules a_starts) (hs : s < 3) (hj : j < o s)
    (H : ∀ b : Nat → Int32, rt_St o (rt_w R (4 * s + j) (rt_nm v)) Q a_orders b a_starts → post (rt_e (R (4 * s + j))) (a_orders, b, a_starts, a_t, a_table, a_way, a_square, a_spare, a_one, a_two)) : wpY_rule post (a_orders, a_rules, a_starts, a_t, a_table, a_way, a_square, a_spare, a_one, a_two) (nI s) (nI (j + 1)) v := by
  have h4 := hS.2.2.2.1 s hs
  have ex : ((nI s * 4) + nI (j + 1)) - 1 = nI (4 * s + j) := by rw [rt_j4]; exact nI_pred (4 * s + j)
  unfold wpY_rule
  refine rt_gY hs ?_
  refine br_t rfl (pk_lt (j + 1) 1 (fun h => absurd h (by omega)) (fun _ => ⟨vp_in_nI hs (by omega), pk_le (j + 1) (o s) (fun _ => ⟨pk_in (4 * s + j) 12 (by omega) ex, nm_r (rt_rd (4 * s + j) (hS.2.1 _ (by omega)) ex) ?_⟩) (fun h => absurd h (by omega)) rfl (rt_rd s (hS.1 s hs))⟩))
  refine rt_moY ⟨pk_in (4 * s + j) 12 (by omega) ex, nm_r (rt_up (4 * s + j) rfl ex) ?_⟩
  exact H _ (rt_stR hS hs hj)
theorem ry_start (hS : rt_St o R Q a_orders a_rules a_starts) (hs : s < 3) (hj : j < o s)
    (H : ∀ c : Nat → Int32, rt_St o R (rt_w Q (4 * s + j) (rt_nm v)) a_orders a_rules c → post (rt_e (Q (4 * s + j))) (a_orders, a_rules, c, a_t, a_table, a_way, a_square, a_spare, a_one, a_two)) : wpY_start post (a_orders, a_rules, a_starts, a_t, a_table, a_way, a_square, a_spare, a_one, a_two) (nI s) (nI j) v := by
  have h4 := hS.2.2.2.1 s hs
  unfold wpY_start
  refine rt_gY hs ?_
  refine br_t rfl (br_f (nI_pos (by omega)) ⟨vp_in_nI hs (by omega), pk_lt j (o s) (fun _ => ⟨pk_in (4 * s + j) 12 (by omega) (rt_j4 s j), nm_r (rt_rd (4 * s + j) (hS.2.2.1 _ (by omega)) (rt_j4 s j)) ?_⟩) (fun h => absurd h (by omega)) rfl (rt_rd s (hS.1 s hs))⟩)
  refine rt_moY ⟨pk_in (4 * s + j) 12 (by omega) (rt_j4 s j), nm_r (rt_up (4 * s + j) rfl (rt_j4 s j)) ?_⟩
  exact H _ (rt_stQ hS hs hj)
end
end
section
/-! what is owed -/
def i_Rel (k : Nat) (u : SX) (v : SY) : Prop := ∃ (o : Nat → Nat) (R Q : Nat → rt_F), rt_St o R Q u.2.1 u.2.2.1 u.2.2.2.1 ∧ rt_St o R Q v.1 v.2.1 v.2.2.1
theorem i_up {k : Nat} {u : SX} {v : SY} (h : i_Rel k u v) : i_Rel (k + 4) u v := h
section
variable {f_size : Int32} {a_orders a_rules a_firsts a_modulus a_head a_power a_square a_product a_terms a_rule a_older a_kept a_fresh : Nat → Int32}
variable {b_orders b_rules b_starts b_t b_table b_way b_square b_spare b_one b_two : Nat → Int32}
theorem rt_mk {k : Nat} {o : Nat → Nat} {R Q : Nat → rt_F} (hX : rt_St o R Q a_orders a_rules a_firsts) (hY : rt_St o R Q b_orders b_rules b_starts) : i_Rel k (f_size, a_orders, a_rules, a_firsts, a_modulus, a_head, a_power, a_square, a_product, a_terms, a_rule, a_older, a_kept, a_fresh) (b_orders, b_rules, b_starts, b_t, b_table, b_way, b_square, b_spare, b_one, b_two) := ⟨o, R, Q, hX, hY⟩
end
theorem rt_St0 : rt_St (fun _ => 0) (fun _ => 0) (fun _ => 0) (fun _ => 0) (fun _ => 0) (fun _ => 0) :=
  ⟨fun _ _ => rfl, fun _ _ => rfl, fun _ _ => rfl, fun _ _ => Nat.zero_le 4, fun _ _ _ _ _ => ⟨rfl, rfl⟩⟩
theorem i_vc0 : wpX_init (fun u => wpY_init (fun v => i_Rel 0 u v)) := rt_mk (k := 0) rt_St0 rt_St0
theorem i_vc_order {k : Nat} {u : SX} {v : SY} (I : i_Rel k u v) (hk : k + 4 ≤ 2048) (v1 : Int32) (v2 : Int32) : wpX_order (fun r u' => wpY_order (fun r' v' => r' = r ∧ i_Rel (k + 4) u' v') v v1 v2) u v1 v2 := by
  obtain ⟨f_size, a_orders, a_rules, a_firsts, a_modulus, a_head, a_power, a_square, a_product, a_terms, a_rule, a_older, a_kept, a_fresh⟩ := u
  obtain ⟨b_orders, b_rules, b_starts, b_t, b_table, b_way, b_square, b_spare, b_one, b_two⟩ := v
  obtain ⟨o, R, Q, hX, hY⟩ := I
  replace hX : rt_St o R Q a_orders a_rules a_firsts := hX
  replace hY : rt_St o R Q b_orders b_rules b_starts := hY
  rcases rt_gc v1 with ⟨s, hs, rfl⟩ | ⟨gX, gY⟩
  · by_cases h0 : v2 < 0
    · unfold wpX_order
      refine rt_gX hs ?_
      refine br_f (by decide) (br_t h0 ?_)
      unfold wpY_order
      refine rt_gY hs ?_
      exact br_t rfl (br_t h0 ⟨rfl, rt_mk hX hY⟩)
    · by_cases h4 : v2 ≤ 4
      · obtain ⟨j, hj, rfl⟩ := nI_of2 (n := 4) (by decide) h0 h4
        refine rx_order hX hs hj (fun a b c h => ?_)
        refine ry_order hY hs hj (fun a' b' c' h' => ?_)
        exact ⟨rfl, rt_mk h h'⟩
      · unfold wpX_order
        refine rt_gX hs ?_
        refine br_f (by decide) (br_f h0 (br_f h4 ?_))
        unfold wpY_order
        refine rt_gY hs ?_
        exact br_t rfl (br_f h0 (br_f h4 ⟨rfl, rt_mk hX hY⟩))
  · unfold wpX_order
    refine gX _ ?_
    refine br_t rfl ?_
    unfold wpY_order
    refine gY _ _ ?_
    exact br_f (by decide) ⟨rfl, rt_mk hX hY⟩
theorem i_vc_rule {k : Nat} {u : SX} {v : SY} (I : i_Rel k u v) (hk : k + 4 ≤ 2048) (v1 : Int32) (v2 : Int32) (v3 : Int32) : wpX_rule (fun r u' => wpY_rule (fun r' v' => r' = r ∧ i_Rel (k + 4) u' v') v v1 v2 v3) u v1 v2 v3 := by
  obtain ⟨f_size, a_orders, a_rules, a_firsts, a_modulus, a_head, a_power, a_square, a_product, a_terms, a_rule, a_older, a_kept, a_fresh⟩ := u
  obtain ⟨b_orders, b_rules, b_starts, b_t, b_table, b_way, b_square, b_spare, b_one, b_two⟩ := v
  obtain ⟨o, R, Q, hX, hY⟩ := I
  replace hX : rt_St o R Q a_orders a_rules a_firsts := hX
  replace hY : rt_St o R Q b_orders b_rules b_starts := hY
  rcases rt_gc v1 with ⟨s, hs, rfl⟩ | ⟨gX, gY⟩
  · by_cases h1 : v2 < 1
    · unfold wpX_rule
      refine rt_gX hs ?_
      refine br_f (by decide) (br_t h1 ?_)
      unfold wpY_rule
      refine rt_gY hs ?_
      exact br_t rfl (br_t h1 ⟨rfl, rt_mk hX hY⟩)
    · obtain ⟨j, hj, hj1, rfl⟩ := rt_lt1 h1
      obtain ⟨i, rfl⟩ : ∃ i, j = i + 1 := ⟨j - 1, by omega⟩
      have h4 := hX.2.2.2.1 s hs
      by_cases hi : i < o s
      · refine rx_rule hX hs hi (fun b h => ?_)
        refine ry_rule hY hs hi (fun b' h' => ?_)
        exact ⟨rfl, rt_mk h h'⟩
      · unfold wpX_rule
        refine rt_gX hs ?_
        refine br_f (by decide) (br_f h1 ⟨vp_in_nI hs (by omega), pk_le (i + 1) (o s) (fun h => absurd h (by omega)) (fun _ => ?_) rfl (rt_rd s (hX.1 s hs))⟩)
        unfold wpY_rule
        refine rt_gY hs ?_
        exact br_t rfl (br_f h1 ⟨vp_in_nI hs (by omega), pk_le (i + 1) (o s) (fun h => absurd h (by omega)) (fun _ => ⟨rfl, rt_mk hX hY⟩) rfl (rt_rd s (hY.1 s hs))⟩)
  · unfold wpX_rule
    refine gX _ ?_
    refine br_t rfl ?_
    unfold wpY_rule
    refine gY _ _ ?_
    exact br_f (by decide) ⟨rfl, rt_mk hX hY⟩
theorem i_vc_start {k : Nat} {u : SX} {v : SY} (I : i_Rel k u v) (hk : k + 4 ≤ 2048) (v1 : Int32) (v2 : Int32) (v3 : Int32) : wpX_start (fun r u' => wpY_start (fun r' v' => r' = r ∧ i_Rel (k + 4) u' v') v v1 v2 v3) u v1 v2 v3 := by
  obtain ⟨f_size, a_orders, a_rules, a_firsts, a_modulus, a_head, a_power, a_square, a_product, a_terms, a_rule, a_older, a_kept, a_fresh⟩ := u
  obtain ⟨b_orders, b_rules, b_starts, b_t, b_table, b_way, b_square, b_spare, b_one, b_two⟩ := v
  obtain ⟨o, R, Q, hX, hY⟩ := I
  replace hX : rt_St o R Q a_orders a_rules a_firsts := hX
  replace hY : rt_St o R Q b_orders b_rules b_starts := hY
  rcases rt_gc v1 with ⟨s, hs, rfl⟩ | ⟨gX, gY⟩
  · by_cases h1 : v2 < 0
    · unfold wpX_start
      refine rt_gX hs ?_
      refine br_f (by decide) (br_t h1 ?_)
      unfold wpY_start
      refine rt_gY hs ?_
      exact br_t rfl (br_t h1 ⟨rfl, rt_mk hX hY⟩)
    · obtain ⟨i, hj, rfl⟩ := nI_of h1
      have h4 := hX.2.2.2.1 s hs
      by_cases hi : i < o s
      · refine rx_start hX hs hi (fun b h => ?_)
        refine ry_start hY hs hi (fun b' h' => ?_)
        exact ⟨rfl, rt_mk h h'⟩
      · unfold wpX_start
        refine rt_gX hs ?_
        refine br_f (by decide) (br_f h1 ⟨vp_in_nI hs (by omega), pk_lt i (o s) (fun h => absurd h (by omega)) (fun _ => ?_) rfl (rt_rd s (hX.1 s hs))⟩)
        unfold wpY_start
        refine rt_gY hs ?_
        exact br_t rfl (br_f h1 ⟨vp_in_nI hs (by omega), pk_lt i (o s) (fun h => absurd h (by omega)) (fun _ => ⟨rfl, rt_mk hX hY⟩) rfl (rt_rd s (hY.1 s hs))⟩)
  · unfold wpX_start
    refine gX _ ?_
    refine br_t rfl ?_
    unfold wpY_start
    refine gY _ _ ?_
    exact br_f (by decide) ⟨rfl, rt_mk hX hY⟩
theorem i_vc_orderOf {k : Nat} {u : SX} {v : SY} (I : i_Rel k u v) (hk : k + 4 ≤ 2048) (v1 : Int32) : wpX_orderOf (fun r => wpY_orderOf (fun r' => r' = r ∧ i_Rel (k + 4) u v) v v1) u v1 := by
  obtain ⟨f_size, a_orders, a_rules, a_firsts, a_modulus, a_head, a_power, a_square, a_product, a_terms, a_rule, a_older, a_kept, a_fresh⟩ := u
  obtain ⟨b_orders, b_rules, b_starts, b_t, b_table, b_way, b_square, b_spare, b_one, b_two⟩ := v
  obtain ⟨o, R, Q, hX, hY⟩ := I
  replace hX : rt_St o R Q a_orders a_rules a_firsts := hX
  replace hY : rt_St o R Q b_orders b_rules b_starts := hY
  rcases rt_gc v1 with ⟨s, hs, rfl⟩ | ⟨gX, gY⟩
  · unfold wpX_orderOf
    refine rt_gX hs ?_
    refine br_f (by decide) ⟨vp_in_nI hs (by omega), ?_⟩
    unfold wpY_orderOf
    refine rt_gY hs ?_
    refine br_t rfl ⟨vp_in_nI hs (by omega), ?_, rt_mk hX hY⟩
    rw [rt_rd (a := a_orders) s (hX.1 s hs), rt_rd (a := b_orders) s (hY.1 s hs)]
  · unfold wpX_orderOf
    refine gX _ ?_
    refine br_t rfl ?_
    unfold wpY_orderOf
    refine gY _ _ ?_
    exact br_f (by decide) ⟨rfl, rt_mk hX hY⟩
theorem i_vc_term {k : Nat} {u : SX} {v : SY} (I : i_Rel k u v) (hk : k + 4 ≤ 2048) (v1 : Int32) (v2 : Int32) : wpX_term (fun r u' => wpY_term (fun r' v' => r' = r ∧ i_Rel (k + 4) u' v') v v1 v2) u v1 v2 := by
  obtain ⟨f_size, a_orders, a_rules, a_firsts, a_modulus, a_head, a_power, a_square, a_product, a_terms, a_rule, a_older, a_kept, a_fresh⟩ := u
  obtain ⟨b_orders, b_rules, b_starts, b_t, b_table, b_way, b_square, b_spare, b_one, b_two⟩ := v
  obtain ⟨o, R, Q, hX, hY⟩ := I
  replace hX : rt_St o R Q a_orders a_rules a_firsts := hX
  replace hY : rt_St o R Q b_orders b_rules b_starts := hY
  rcases rt_gc v1 with ⟨s, hs, rfl⟩ | ⟨gX, gY⟩
  · by_cases h0 : 0 ≤ v2
    · obtain ⟨n, hn, rfl⟩ := nI_of (Int32.not_lt.mpr h0)
      unfold wpX_term
      refine rt_gX hs ?_
      refine br_f (by decide) (br_t h0 ?_)
      refine rx_termAt hX hs hn (fun sz m p pr => ?_)
      refine ry_term hY hs hn (fun tt wy sq sp => ?_)
      exact ⟨rfl, rt_mk hX hY⟩
    · unfold wpX_term
      refine rt_gX hs ?_
      refine br_f (by decide) (br_f h0 ?_)
      unfold wpY_term
      refine rt_gY hs ?_
      exact br_t rfl (br_f h0 ⟨rfl, rt_mk hX hY⟩)
  · unfold wpX_term
    refine gX _ ?_
    refine br_t rfl ?_
    unfold wpY_term
    refine gY _ _ ?_
    exact br_f (by decide) ⟨rfl, rt_mk hX hY⟩
theorem i_vc_sum {k : Nat} {u : SX} {v : SY} (I : i_Rel k u v) (hk : k + 4 ≤ 2048) (v1 : Int32) (v2 : Int32) : wpX_sum (fun r u' => wpY_sum (fun r' v' => r' = r ∧ i_Rel (k + 4) u' v') v v1 v2) u v1 v2 := by
  obtain ⟨f_size, a_orders, a_rules, a_firsts, a_modulus, a_head, a_power, a_square, a_product, a_terms, a_rule, a_older, a_kept, a_fresh⟩ := u
  obtain ⟨b_orders, b_rules, b_starts, b_t, b_table, b_way, b_square, b_spare, b_one, b_two⟩ := v
  obtain ⟨o, R, Q, hX, hY⟩ := I
  replace hX : rt_St o R Q a_orders a_rules a_firsts := hX
  replace hY : rt_St o R Q b_orders b_rules b_starts := hY
  rcases rt_gc v1 with ⟨s, hs, rfl⟩ | ⟨gX, gY⟩
  · by_cases h0 : v2 < 0
    · unfold wpX_sum
      refine rt_gX hs ?_
      refine br_f (by decide) (br_t h0 ?_)
      unfold wpY_sum
      refine rt_gY hs ?_
      exact br_t rfl (br_t h0 ⟨rfl, rt_mk hX hY⟩)
    · by_cases h4 : v2 ≤ 1000000
      · obtain ⟨n, hn, rfl⟩ := nI_of2 (n := 1000000) (by decide) h0 h4
        unfold wpX_sum
        refine rt_gX hs ?_
        refine br_f (by decide) (br_f h0 (br_t h4 ⟨vp_in_nI hs (by omega), nm_r (rt_rd s (hX.1 s hs)) ?_⟩))
        refine rx_sum hX hs hn (fun sz m h p q pr => ?_)
        refine ry_sum hY hs hn (fun tt wy sq sp => ?_)
        exact ⟨rfl, rt_mk hX hY⟩
      · unfold wpX_sum
        refine rt_gX hs ?_
        refine br_f (by decide) (br_f h0 (br_f h4 ?_))
        unfold wpY_sum
        refine rt_gY hs ?_
        exact br_t rfl (br_f h0 (br_f h4 ⟨rfl, rt_mk hX hY⟩))
  · unfold wpX_sum
    refine gX _ ?_
    refine br_t rfl ?_
    unfold wpY_sum
    refine gY _ _ ?_
    exact br_f (by decide) ⟨rfl, rt_mk hX hY⟩
theorem i_vc_rank {k : Nat} {u : SX} {v : SY} (I : i_Rel k u v) (hk : k + 4 ≤ 2048) (v1 : Int32) : wpX_rank (fun r u' => wpY_rank (fun r' v' => r' = r ∧ i_Rel (k + 4) u' v') v v1) u v1 := by
  obtain ⟨f_size, a_orders, a_rules, a_firsts, a_modulus, a_head, a_power, a_square, a_product, a_terms, a_rule, a_older, a_kept, a_fresh⟩ := u
  obtain ⟨b_orders, b_rules, b_starts, b_t, b_table, b_way, b_square, b_spare, b_one, b_two⟩ := v
  obtain ⟨o, R, Q, hX, hY⟩ := I
  replace hX : rt_St o R Q a_orders a_rules a_firsts := hX
  replace hY : rt_St o R Q b_orders b_rules b_starts := hY
  rcases rt_gc v1 with ⟨s, hs, rfl⟩ | ⟨gX, gY⟩
  · unfold wpX_rank
    refine rt_gX hs ?_
    refine br_f (by decide) ?_
    refine rx_findRule hX hs (fun L C sz m p pr tm r ol ke hr hR hm => ?_)
    have hLo := rt_Lo hm
    have h4 := hX.2.2.2.1 s hs
    refine ry_rank hY hs hR hm (by omega) (fun tt tb => ?_)
    exact ⟨rfl, rt_mk hX hY⟩
  · unfold wpX_rank
    refine gX _ ?_
    refine br_t rfl ?_
    unfold wpY_rank
    refine gY _ _ ?_
    exact br_f (by decide) ⟨rfl, rt_mk hX hY⟩
theorem i_vc_shortest {k : Nat} {u : SX} {v : SY} (I : i_Rel k u v) (hk : k + 4 ≤ 2048) (v1 : Int32) (v2 : Int32) : wpX_shortest (fun r u' => wpY_shortest (fun r' v' => r' = r ∧ i_Rel (k + 4) u' v') v v1 v2) u v1 v2 := by
  obtain ⟨f_size, a_orders, a_rules, a_firsts, a_modulus, a_head, a_power, a_square, a_product, a_terms, a_rule, a_older, a_kept, a_fresh⟩ := u
  obtain ⟨b_orders, b_rules, b_starts, b_t, b_table, b_way, b_square, b_spare, b_one, b_two⟩ := v
  obtain ⟨o, R, Q, hX, hY⟩ := I
  replace hX : rt_St o R Q a_orders a_rules a_firsts := hX
  replace hY : rt_St o R Q b_orders b_rules b_starts := hY
  rcases rt_gc v1 with ⟨s, hs, rfl⟩ | ⟨gX, gY⟩
  · unfold wpX_shortest
    refine rt_gX hs ?_
    refine br_f (by decide) ?_
    refine rx_findRule hX hs (fun L C sz m p pr tm r ol ke hr hR hm => ?_)
    have hLo := rt_Lo hm
    have h4 := hX.2.2.2.1 s hs
    by_cases h1 : v2 < 1
    · refine br_t h1 ?_
      refine ry_shortN hY hs hR hm (by omega) (fun z => absurd h1 z) (fun tt tb => ?_)
      exact ⟨rfl, rt_mk hX hY⟩
    · obtain ⟨j, hj, hj1, rfl⟩ := rt_lt1 h1
      have ex : nI j - 1 = nI (j - 1) := pk_sub (b := 1) hj1
      refine br_f h1 (pk_lt L j (fun h => ?_) (fun h => ⟨pk_in (j - 1) 40 (by omega) ex, ?_⟩))
      · refine ry_shortN hY hs hR hm (by omega) (fun _ => nI_ge h hj) (fun tt tb => ?_)
        exact ⟨rfl, rt_mk hX hY⟩
      · refine ry_shortI hY hs hR hm (by omega) hj1 h (fun tt tb => ?_)
        exact ⟨(rt_rd (j - 1) (hr (j - 1) (by omega)) ex).symm, rt_mk hX hY⟩
  · unfold wpX_shortest
    refine gX _ ?_
    refine br_t rfl ?_
    unfold wpY_shortest
    refine gY _ _ ?_
    exact br_f (by decide) ⟨rfl, rt_mk hX hY⟩
theorem i_vc_skip {k : Nat} {u : SX} {v : SY} (I : i_Rel k u v) (hk : k + 4 ≤ 2048) (v1 : Int32) (v2 : Int32) : wpX_skip (fun r u' => wpY_skip (fun r' v' => r' = r ∧ i_Rel (k + 4) u' v') v v1 v2) u v1 v2 := by
  obtain ⟨f_size, a_orders, a_rules, a_firsts, a_modulus, a_head, a_power, a_square, a_product, a_terms, a_rule, a_older, a_kept, a_fresh⟩ := u
  obtain ⟨b_orders, b_rules, b_starts, b_t, b_table, b_way, b_square, b_spare, b_one, b_two⟩ := v
  obtain ⟨o, R, Q, hX, hY⟩ := I
  replace hX : rt_St o R Q a_orders a_rules a_firsts := hX
  replace hY : rt_St o R Q b_orders b_rules b_starts := hY
  rcases rt_gc v1 with ⟨s, hs, rfl⟩ | ⟨gX, gY⟩
  · by_cases h0 : v2 < 0
    · unfold wpX_skip
      refine rt_gX hs ?_
      refine br_f (by decide) (br_t h0 ?_)
      unfold wpY_skip
      refine rt_gY hs ?_
      exact br_t rfl (br_t h0 ⟨rfl, rt_mk hX hY⟩)
    · by_cases h4 : v2 ≤ 1000000
      · obtain ⟨n, hn, rfl⟩ := nI_of2 (n := 1000000) (by decide) h0 h4
        unfold wpX_skip
        refine rt_gX hs ?_
        refine br_f (by decide) (br_f h0 (br_t h4 ⟨o s + 1, ?_⟩))
        refine rx_sk24 hX hs hn (fun sz m p pr fr c hX' => ?_) (o s) 0 _ _ _ _ _ (by omega) (fun i hi => absurd hi (Nat.not_lt_zero i))
        unfold wpY_skip
        refine rt_gY hs ?_
        refine br_t rfl (br_f h0 (br_t h4 ⟨5, ?_⟩))
        refine ry_sk25 hY hs hn (fun tt wy sq sp on c' hY' => ?_) 4 0 _ _ _ _ _ (by omega) (fun i hi => absurd hi (Nat.not_lt_zero i))
        exact ⟨rfl, rt_mk hX' hY'⟩
      · unfold wpX_skip
        refine rt_gX hs ?_
        refine br_f (by decide) (br_f h0 (br_f h4 ?_))
        unfold wpY_skip
        refine rt_gY hs ?_
        exact br_t rfl (br_f h0 (br_f h4 ⟨rfl, rt_mk hX hY⟩))
  · unfold wpX_skip
    refine gX _ ?_
    refine br_t rfl ?_
    unfold wpY_skip
    refine gY _ _ ?_
    exact br_f (by decide) ⟨rfl, rt_mk hX hY⟩
theorem i_vc_shorten {k : Nat} {u : SX} {v : SY} (I : i_Rel k u v) (hk : k + 4 ≤ 2048) (v1 : Int32) : wpX_shorten (fun r u' => wpY_shorten (fun r' v' => r' = r ∧ i_Rel (k + 4) u' v') v v1) u v1 := by
  obtain ⟨f_size, a_orders, a_rules, a_firsts, a_modulus, a_head, a_power, a_square, a_product, a_terms, a_rule, a_older, a_kept, a_fresh⟩ := u
  obtain ⟨b_orders, b_rules, b_starts, b_t, b_table, b_way, b_square, b_spare, b_one, b_two⟩ := v
  obtain ⟨o, R, Q, hX, hY⟩ := I
  replace hX : rt_St o R Q a_orders a_rules a_firsts := hX
  replace hY : rt_St o R Q b_orders b_rules b_starts := hY
  rcases rt_gc v1 with ⟨s, hs, rfl⟩ | ⟨gX, gY⟩
  · unfold wpX_shorten
    refine rt_gX hs ?_
    refine br_f (by decide) ?_
    refine rx_findRule hX hs (fun L C sz m p pr tm r ol ke hr hR hm => ?_)
    have hLo := rt_Lo hm
    have h4 := hX.2.2.2.1 s hs
    refine ⟨5, rx_sh17 (R := R) (Q := Q) hs (by omega) hr (fun b c h1 h2 => ?_) 4 0 _ _ (by omega) (rt_sr0 hX.2.1) (rt_sr0 hX.2.2.1)⟩
    unfold wpY_shorten
    refine rt_gY hs ?_
    refine br_t rfl ?_
    refine ry_rank hY hs hR hm (by omega) (fun tt tb => ⟨5, ?_⟩)
    refine ry_sh18 hY hs hR hm (by omega) (fun tt2 tb2 on tw a' b' c' h' => ?_) 4 0 _ _ _ (by omega) (fun i hi => absurd hi (Nat.not_lt_zero i))
    rw [rt_srQ hLo] at h'
    exact ⟨rfl, rt_mk (rt_stH hX hs (by omega) (rt_o1U hX.1) h1 h2) h'⟩
  · unfold wpX_shorten
    refine gX _ ?_
    refine br_t rfl ?_
    unfold wpY_shorten
    refine gY _ _ ?_
    exact br_f (by decide) ⟨rfl, rt_mk hX hY⟩
theorem i_vc_same {k : Nat} {u : SX} {v : SY} (I : i_Rel k u v) (hk : k + 4 ≤ 2048) (v1 : Int32) (v2 : Int32) : wpX_same (fun r u' => wpY_same (fun r' v' => r' = r ∧ i_Rel (k + 4) u' v') v v1 v2) u v1 v2 := by
  obtain ⟨f_size, a_orders, a_rules, a_firsts, a_modulus, a_head, a_power, a_square, a_product, a_terms, a_rule, a_older, a_kept, a_fresh⟩ := u
  obtain ⟨b_orders, b_rules, b_starts, b_t, b_table, b_way, b_square, b_spare, b_one, b_two⟩ := v
  obtain ⟨o, R, Q, hX, hY⟩ := I
  replace hX : rt_St o R Q a_orders a_rules a_firsts := hX
  replace hY : rt_St o R Q b_orders b_rules b_starts := hY
  rcases rt_gc v1 with ⟨s, hs, rfl⟩ | ⟨gX, gY⟩
  · rcases rt_gc v2 with ⟨t, ht, rfl⟩ | ⟨hX2, hY2⟩
    · unfold wpX_same
      refine rt_gX hs ?_
      refine br_f (by decide) ?_
      refine rt_gX ht ?_
      refine br_f (by decide) ?_
      refine rx_firstDifference hX hs ht (fun sz m p pr => ?_)
      rcases rt_firstC (fun n => decide (rt_U o R Q s n ≠ rt_U o R Q t n)) 8 0 (by omega) with e | ⟨d, hd, e⟩
      · rw [e]
        refine br_f (by decide) ?_
        unfold wpY_same
        refine ry_difference hY hs ht (fun tt on => ?_)
        rw [e]
        exact br_f (by decide) (br_t rfl ⟨rfl, rt_mk hX hY⟩)
      · rw [e]
        refine br_t (nI_pos' (by omega)) ?_
        unfold wpY_same
        refine ry_difference hY hs ht (fun tt on => ?_)
        rw [e]
        have hp := nI_pos (n := d) (by omega)
        exact br_f (fun z => hp (by rw [z]; decide)) (br_f (fun z => hp (by rw [z]; decide)) ⟨rfl, rt_mk hX hY⟩)
    · unfold wpX_same
      refine rt_gX hs ?_
      refine br_f (by decide) ?_
      refine hX2 _ ?_
      refine br_t rfl ?_
      unfold wpY_same
      dsimp only
      unfold wpY_difference
      refine rt_gY hs ?_
      refine br_t rfl ?_
      refine hY2 _ _ ?_
      refine br_f (by decide) ?_
      exact br_t rfl ⟨rfl, rt_mk hX hY⟩
  · unfold wpX_same
    refine gX _ ?_
    refine br_t rfl ?_
    unfold wpY_same
    dsimp only
    unfold wpY_difference
    refine gY _ _ ?_
    refine br_f (by decide) ?_
    exact br_t rfl ⟨rfl, rt_mk hX hY⟩
theorem i_vc_difference {k : Nat} {u : SX} {v : SY} (I : i_Rel k u v) (hk : k + 4 ≤ 2048) (v1 : Int32) (v2 : Int32) : wpX_difference (fun r u' => wpY_difference (fun r' v' => r' = r ∧ i_Rel (k + 4) u' v') v v1 v2) u v1 v2 := by
  obtain ⟨f_size, a_orders, a_rules, a_firsts, a_modulus, a_head, a_power, a_square, a_product, a_terms, a_rule, a_older, a_kept, a_fresh⟩ := u
  obtain ⟨b_orders, b_rules, b_starts, b_t, b_table, b_way, b_square, b_spare, b_one, b_two⟩ := v
  obtain ⟨o, R, Q, hX, hY⟩ := I
  replace hX : rt_St o R Q a_orders a_rules a_firsts := hX
  replace hY : rt_St o R Q b_orders b_rules b_starts := hY
  rcases rt_gc v1 with ⟨s, hs, rfl⟩ | ⟨gX, gY⟩
  · rcases rt_gc v2 with ⟨t, ht, rfl⟩ | ⟨hX2, hY2⟩
    · unfold wpX_difference
      refine rt_gX hs ?_
      refine br_f (by decide) ?_
      refine rt_gX ht ?_
      refine br_f (by decide) ?_
      refine rx_firstDifference hX hs ht (fun sz m p pr => ?_)
      refine ry_difference hY hs ht (fun tt on => ?_)
      exact ⟨rfl, rt_mk hX hY⟩
    · unfold wpX_difference
      refine rt_gX hs ?_
      refine br_f (by decide) ?_
      refine hX2 _ ?_
      refine br_t rfl ?_
      unfold wpY_difference
      refine rt_gY hs ?_
      refine br_t rfl ?_
      refine hY2 _ _ ?_
      exact br_f (by decide) ⟨rfl, rt_mk hX hY⟩
  · unfold wpX_difference
    refine gX _ ?_
    refine br_t rfl ?_
    unfold wpY_difference
    refine gY _ _ ?_
    exact br_f (by decide) ⟨rfl, rt_mk hX hY⟩
theorem i_vc_rankOfSum {k : Nat} {u : SX} {v : SY} (I : i_Rel k u v) (hk : k + 4 ≤ 2048) (v1 : Int32) (v2 : Int32) : wpX_rankOfSum (fun r u' => wpY_rankOfSum (fun r' v' => r' = r ∧ i_Rel (k + 4) u' v') v v1 v2) u v1 v2 := by
  obtain ⟨f_size, a_orders, a_rules, a_firsts, a_modulus, a_head, a_power, a_square, a_product, a_terms, a_rule, a_older, a_kept, a_fresh⟩ := u
  obtain ⟨b_orders, b_rules, b_starts, b_t, b_table, b_way, b_square, b_spare, b_one, b_two⟩ := v
  obtain ⟨o, R, Q, hX, hY⟩ := I
  replace hX : rt_St o R Q a_orders a_rules a_firsts := hX
  replace hY : rt_St o R Q b_orders b_rules b_starts := hY
  rcases rt_gc v1 with ⟨s, hs, rfl⟩ | ⟨gX, gY⟩
  · rcases rt_gc v2 with ⟨t, ht, rfl⟩ | ⟨hX2, hY2⟩
    · unfold wpX_rankOfSum
      refine rt_gX hs ?_
      refine br_f (by decide) ?_
      refine rt_gX ht ?_
      refine br_f (by decide) ?_
      refine ⟨17, rx_rs18 hX hs ht (fun L C sz m p pr tm r ol ke hR hm => ?_) 16 0 _ _ _ _ _ (by omega) (fun i hi => absurd hi (Nat.not_lt_zero i))⟩
      have hL : L ≤ 8 := by
        obtain ⟨j, c, hj, hc⟩ := rt_exSum (rt_Ukeep4 hX hs) (rt_Ukeep4 hX ht)
        exact Nat.le_trans (hm j c (hc 16)) hj
      unfold wpY_rankOfSum
      refine rt_gY hs ?_
      refine br_t rfl ?_
      refine rt_gY ht ?_
      refine br_t rfl ?_
      refine ry_mix (G := fun n => rt_U o R Q s n + rt_U o R Q t n) hY hs ht ⟨fun _ i => rg_ac _ _, fun h => absurd rfl h⟩ (fun tt htt => ?_)
      refine ry_rankOfTerms (w := 8) (t := fun n => rt_U o R Q s n + rt_U o R Q t n) (by omega) (fun i hi => htt i (by omega)) hR hm hL (fun tb => ?_)
      exact ⟨rfl, rt_mk hX hY⟩
    · unfold wpX_rankOfSum
      refine rt_gX hs ?_
      refine br_f (by decide) ?_
      refine hX2 _ ?_
      refine br_t rfl ?_
      unfold wpY_rankOfSum
      refine rt_gY hs ?_
      refine br_t rfl ?_
      refine hY2 _ _ ?_
      exact br_f (by decide) ⟨rfl, rt_mk hX hY⟩
  · unfold wpX_rankOfSum
    refine gX _ ?_
    refine br_t rfl ?_
    unfold wpY_rankOfSum
    refine gY _ _ ?_
    exact br_f (by decide) ⟨rfl, rt_mk hX hY⟩
theorem i_vc_rankOfProduct {k : Nat} {u : SX} {v : SY} (I : i_Rel k u v) (hk : k + 4 ≤ 2048) (v1 : Int32) (v2 : Int32) : wpX_rankOfProduct (fun r u' => wpY_rankOfProduct (fun r' v' => r' = r ∧ i_Rel (k + 4) u' v') v v1 v2) u v1 v2 := by
  obtain ⟨f_size, a_orders, a_rules, a_firsts, a_modulus, a_head, a_power, a_square, a_product, a_terms, a_rule, a_older, a_kept, a_fresh⟩ := u
  obtain ⟨b_orders, b_rules, b_starts, b_t, b_table, b_way, b_square, b_spare, b_one, b_two⟩ := v
  obtain ⟨o, R, Q, hX, hY⟩ := I
  replace hX : rt_St o R Q a_orders a_rules a_firsts := hX
  replace hY : rt_St o R Q b_orders b_rules b_starts := hY
  rcases rt_gc v1 with ⟨s, hs, rfl⟩ | ⟨gX, gY⟩
  · rcases rt_gc v2 with ⟨t, ht, rfl⟩ | ⟨hX2, hY2⟩
    · unfold wpX_rankOfProduct
      refine rt_gX hs ?_
      refine br_f (by decide) ?_
      refine rt_gX ht ?_
      refine br_f (by decide) ?_
      refine ⟨33, rx_rp18 hX hs ht (fun L C sz m p pr tm r ol ke hR hm => ?_) 32 0 _ _ _ _ _ (by omega) (fun i hi => absurd hi (Nat.not_lt_zero i))⟩
      have hL : L ≤ 16 := by
        obtain ⟨j, c, hj, hc⟩ := rt_exProd (rt_Ukeep4 hX hs) (rt_Ukeep4 hX ht)
        exact Nat.le_trans (hm j c (hc 32)) hj
      unfold wpY_rankOfProduct
      refine rt_gY hs ?_
      refine br_t rfl ?_
      refine rt_gY ht ?_
      refine br_t rfl ?_
      refine ry_mix (G := fun n => rt_U o R Q s n * rt_U o R Q t n) hY hs ht ⟨fun h => absurd h (by decide), fun _ i => rg_mc _ _⟩ (fun tt htt => ?_)
      refine ry_rankOfTerms (w := 16) (t := fun n => rt_U o R Q s n * rt_U o R Q t n) (by omega) (fun i hi => htt i (by omega)) hR hm hL (fun tb => ?_)
      exact ⟨rfl, rt_mk hX hY⟩
    · unfold wpX_rankOfProduct
      refine rt_gX hs ?_
      refine br_f (by decide) ?_
      refine hX2 _ ?_
      refine br_t rfl ?_
      unfold wpY_rankOfProduct
      refine rt_gY hs ?_
      refine br_t rfl ?_
      refine hY2 _ _ ?_
      exact br_f (by decide) ⟨rfl, rt_mk hX hY⟩
  · unfold wpX_rankOfProduct
    refine gX _ ?_
    refine br_t rfl ?_
    unfold wpY_rankOfProduct
    refine gY _ _ ?_
    exact br_f (by decide) ⟨rfl, rt_mk hX hY⟩
theorem i_vc_zero {k : Nat} {u : SX} {v : SY} (I : i_Rel k u v) (hk : k + 4 ≤ 2048) (v1 : Int32) : wpX_zero (fun r u' => wpY_zero (fun r' v' => r' = r ∧ i_Rel (k + 4) u' v') v v1) u v1 := by
  obtain ⟨f_size, a_orders, a_rules, a_firsts, a_modulus, a_head, a_power, a_square, a_product, a_terms, a_rule, a_older, a_kept, a_fresh⟩ := u
  obtain ⟨b_orders, b_rules, b_starts, b_t, b_table, b_way, b_square, b_spare, b_one, b_two⟩ := v
  obtain ⟨o, R, Q, hX, hY⟩ := I
  replace hX : rt_St o R Q a_orders a_rules a_firsts := hX
  replace hY : rt_St o R Q b_orders b_rules b_starts := hY
  rcases rt_gc v1 with ⟨s, hs, rfl⟩ | ⟨gX, gY⟩
  · refine rx_zero hX hs (fun fr => ?_)
    refine ry_zero hY hs (fun tt => ?_)
    exact ⟨rfl, rt_mk hX hY⟩
  · unfold wpX_zero
    refine gX _ ?_
    refine br_t rfl ?_
    unfold wpY_zero
    refine gY _ _ ?_
    exact br_f (by decide) ⟨rfl, rt_mk hX hY⟩
theorem i_vc_rankOfStep {k : Nat} {u : SX} {v : SY} (I : i_Rel k u v) (hk : k + 4 ≤ 2048) (v1 : Int32) (v2 : Int32) : wpX_rankOfStep (fun r u' => wpY_rankOfStep (fun r' v' => r' = r ∧ i_Rel (k + 4) u' v') v v1 v2) u v1 v2 := by
  obtain ⟨f_size, a_orders, a_rules, a_firsts, a_modulus, a_head, a_power, a_square, a_product, a_terms, a_rule, a_older, a_kept, a_fresh⟩ := u
  obtain ⟨b_orders, b_rules, b_starts, b_t, b_table, b_way, b_square, b_spare, b_one, b_two⟩ := v
  obtain ⟨o, R, Q, hX, hY⟩ := I
  replace hX : rt_St o R Q a_orders a_rules a_firsts := hX
  replace hY : rt_St o R Q b_orders b_rules b_starts := hY
  rcases rt_gc v1 with ⟨s, hs, rfl⟩ | ⟨gX, gY⟩
  · by_cases h1 : v2 < 1
    · unfold wpX_rankOfStep
      refine rt_gX hs ?_
      refine br_f (by decide) (br_t h1 ?_)
      unfold wpY_rankOfStep
      refine rt_gY hs ?_
      exact br_t rfl (br_t h1 ⟨rfl, rt_mk hX hY⟩)
    · by_cases h4 : v2 ≤ 1000
      · obtain ⟨st, hst, rfl⟩ := nI_of2 (n := 1000) (by decide) (fun z => h1 (Int32.lt_trans z (by decide))) h4
        unfold wpX_rankOfStep
        refine rt_gX hs ?_
        refine br_f (by decide) (br_f h1 (br_t h4 ⟨9, ?_⟩))
        refine rx_rt26 hX hs hst (fun L C sz m p pr tm r ol ke hR hm => ?_) 8 0 _ _ _ _ _ (by omega) (fun i hi => absurd hi (Nat.not_lt_zero i))
        have hL : L ≤ 4 := by
          obtain ⟨j, c, hj, hc⟩ := rt_exStep st (rt_Ukeep4 hX hs)
          exact Nat.le_trans (hm j c (hc 8)) hj
        unfold wpY_rankOfStep
        refine rt_gY hs ?_
        refine br_t rfl (br_f h1 (br_t h4 ⟨8, ?_⟩))
        refine ry_rs27 hY hs hst hR hm hL (fun tt tb wy sq sp on => ?_) 7 0 _ _ _ _ _ (by omega) (fun i hi => absurd hi (Nat.not_lt_zero i))
        exact ⟨rfl, rt_mk hX hY⟩
      · unfold wpX_rankOfStep
        refine rt_gX hs ?_
        refine br_f (by decide) (br_f h1 (br_f h4 ?_))
        unfold wpY_rankOfStep
        refine rt_gY hs ?_
        exact br_t rfl (br_f h1 (br_f h4 ⟨rfl, rt_mk hX hY⟩))
  · unfold wpX_rankOfStep
    refine gX _ ?_
    refine br_t rfl ?_
    unfold wpY_rankOfStep
    refine gY _ _ ?_
    exact br_f (by decide) ⟨rfl, rt_mk hX hY⟩
end
