section
/-- the residues mod 997 -/
abbrev rt_F : Type := Fin 997
def rt_I (x : rt_F) : Int32 := nI x.val
def rt_A (f : Nat → rt_F) : Nat → Int32 := fun j => rt_I (f j)
def rt_u (f : Nat → rt_F) (k : Nat) (x : rt_F) : Nat → rt_F := fun j => if j = k then x else f j
def rt_o (n : Nat) : rt_F := Fin.ofNat 997 n
theorem rt_I0 : rt_I 0 = 0 := rfl
theorem rt_I1 : rt_I 1 = 1 := rfl
theorem rt_Ieq {x y : rt_F} : rt_I x = rt_I y ↔ x = y := by
  unfold rt_I
  rw [nI_eq (by have := x.isLt; omega) (by have := y.isLt; omega)]
  exact ⟨fun h => Fin.ext h, fun h => by rw [h]⟩
theorem rt_ov (n : Nat) : (rt_o n).val = n % 997 := rfl
theorem rt_us (f : Nat → rt_F) (k : Nat) (x : rt_F) : rt_u f k x k = x := if_pos rfl
theorem rt_un (f : Nat → rt_F) {k j : Nat} (x : rt_F) (h : j ≠ k) : rt_u f k x j = f j := if_neg h
theorem rt_upd {m : Nat → rt_F} {y : rt_F} {x v : Int32} (i : Nat) (hv : v = rt_I y) (hx : x = nI i := by rfl) (hi : i < 2 ^ 31 := by omega) : upd (rt_A m) x.toNatClampNeg v = rt_A (rt_u m i y) := by
  subst hx hv
  rw [nI_clamp hi]
  funext j
  unfold upd rt_A rt_u
  by_cases h : j = i
  · rw [if_pos h, if_pos h]
  · rw [if_neg h, if_neg h]
theorem rt_get {m : Nat → rt_F} (i : Nat) {x : Int32} (hx : x = nI i := by rfl) (hi : i < 2 ^ 31 := by omega) : rt_A m x.toNatClampNeg = rt_I (m i) := by
  subst hx
  rw [nI_clamp hi]
  rfl
theorem rt_rem {x : Int32} {z : rt_F} (a : Nat) (hx : x = nI a) (ha : a < 2 ^ 31) (hz : z.val = a % 997) : x - x / 997 * 997 = rt_I z := by
  rw [hx]
  have h := pk_rem (a := a) (d := 997) ha (by omega) (by omega)
  unfold rt_I
  rw [hz]
  exact h
theorem rt_pl (a b : rt_F) : a.val * b.val ≤ 992016 := by
  have h1 := a.isLt
  have h2 := b.isLt
  exact Nat.mul_le_mul (show a.val ≤ 996 by omega) (show b.val ≤ 996 by omega)
theorem rt_add (x y : rt_F) : (rt_I x + rt_I y) - (rt_I x + rt_I y) / 997 * 997 = rt_I (x + y) :=
  rt_rem (x.val + y.val) (nI_add _ _) (by have := x.isLt; have := y.isLt; omega) (Fin.val_add x y)
theorem rt_mul (x y : rt_F) : (rt_I x * rt_I y) - (rt_I x * rt_I y) / 997 * 997 = rt_I (x * y) :=
  rt_rem (x.val * y.val) (pk_mul _ _) (by have := rt_pl x y; omega) (Fin.val_mul x y)
theorem rt_mad (z x y : rt_F) : (rt_I z + rt_I x * rt_I y) - (rt_I z + rt_I x * rt_I y) / 997 * 997 = rt_I (z + x * y) :=
  rt_rem (z.val + x.val * y.val) (by unfold rt_I; rw [pk_mul, nI_add]) (by have := rt_pl x y; have := z.isLt; omega) (by rw [Fin.val_add, Fin.val_mul]; omega)
theorem rt_mm2 (a b c d : rt_F) : (rt_I a * rt_I b + rt_I c * rt_I d) - (rt_I a * rt_I b + rt_I c * rt_I d) / 997 * 997 = rt_I (a * b + c * d) :=
  rt_rem (a.val * b.val + c.val * d.val) (by unfold rt_I; rw [pk_mul, pk_mul, nI_add]) (by have := rt_pl a b; have := rt_pl c d; omega) (by rw [Fin.val_add, Fin.val_mul, Fin.val_mul]; omega)
theorem rt_mms (z x y : rt_F) : (rt_I z + (997 - rt_I x) * rt_I y) - (rt_I z + (997 - rt_I x) * rt_I y) / 997 * 997 = rt_I (z - x * y) := by
  refine rt_rem (z.val + (997 - x.val) * y.val) ?_ ?_ ?_
  · have e : (997 : Int32) - rt_I x = nI (997 - x.val) := pk_sub (a := 997) (b := x.val) (by have := x.isLt; omega)
    rw [e]
    unfold rt_I
    rw [pk_mul, nI_add]
  · have h : (997 - x.val) * y.val ≤ 997 * 996 := Nat.mul_le_mul (by omega) (by have := y.isLt; omega)
    have := z.isLt
    omega
  · rw [Fin.val_sub, Fin.val_mul, Nat.sub_mul]
    have h : x.val * y.val ≤ 997 * y.val := Nat.mul_le_mul_right _ (by have := x.isLt; omega)
    omega
theorem rt_les (x y z : rt_F) : (((rt_I x + 997) - rt_I y) + rt_I z) - (((rt_I x + 997) - rt_I y) + rt_I z) / 997 * 997 = rt_I (x - y + z) := by
  have hx := x.isLt
  have hy := y.isLt
  have hz := z.isLt
  refine rt_rem (((x.val + 997) - y.val) + z.val) ?_ (by omega) ?_
  · have e : (rt_I x + 997) - rt_I y = nI ((x.val + 997) - y.val) := by
      rw [show rt_I x + 997 = nI (x.val + 997) from nI_add x.val 997]
      exact pk_sub (by omega)
    rw [e]
    exact nI_add _ _
  · rw [Fin.val_add, Fin.val_sub]
    omega
/-! norm -/
def rt_N (p : Int32) : rt_F := rt_o (p.toInt % 997).toNat
theorem rt_tmod (a : Int) : (0 ≤ a.tmod 997 ∧ a.tmod 997 = a % 997) ∨ (a.tmod 997 < 0 ∧ a.tmod 997 + 997 = a % 997) := by
  rcases Int.le_total 0 a with h | h
  · left
    rw [Int.tmod_eq_emod_of_nonneg h]
    omega
  · have e : a.tmod 997 = -((-a) % 997) := by
      rw [← Int.tmod_eq_emod_of_nonneg (show 0 ≤ -a by omega), Int.neg_tmod, Int.neg_neg]
    rw [e]
    omega
theorem rt_normI (p : Int32) : (rt_I (rt_N p)).toInt = p.toInt % 997 := by
  unfold rt_I rt_N
  rw [rt_ov, nI_toInt (by omega)]
  omega
theorem rt_norm0 {post : Int32 → Prop} {p : Int32} (H : post (rt_I (rt_N p))) : ¬ (997 : Int32) = 0 ∧ (∀ x : Int32, x = p - p / 997 * 997 → (((0 ≤ x → (post x)) ∧ (¬ 0 ≤ x → (post (x + 997)))))) := by
  refine ⟨by decide, fun x hx => ?_⟩
  have hN := rt_normI p
  have hr : x.toInt = p.toInt.tmod 997 := by
    rw [hx]
    exact rem_toInt p 997
  have ht := rt_tmod p.toInt
  have h0 : (0 : Int32).toInt = 0 := by decide
  have h9 : (997 : Int32).toInt = 997 := by decide
  refine br_c (fun h => ?_) (fun h => ?_)
  · rw [Int32.le_iff_toInt_le, h0] at h
    have e : x = rt_I (rt_N p) := Int32.toInt_inj.mp (by omega)
    rw [e]
    exact H
  · rw [Int32.le_iff_toInt_le, h0] at h
    have e : x + 997 = rt_I (rt_N p) := by
      apply Int32.toInt_inj.mp
      rw [Int32.toInt_add, h9, Int.bmod_eq_of_le (by omega) (by omega)]
      omega
    rw [e]
    exact H
theorem rt_norm {post : Int32 → Prop} {u : St0} {p : Int32} (H : post (rt_I (rt_N p))) : wpL_norm post u p := rt_norm0 H
theorem rt_modulo {post : Int32 → Prop} {u : St0} {p : Int32} (H : post (rt_I (rt_N p))) : wpX_modulo post u p := rt_norm0 H
theorem rt_NI (x : rt_F) : rt_N (rt_I x) = x := by
  apply Fin.ext
  unfold rt_N rt_I
  have h := x.isLt
  rw [rt_ov, nI_toInt (by omega)]
  omega
theorem rt_Nsub {A B : Nat} (ha : A < 2 ^ 30) (hb : B < 2 ^ 30) : rt_N (nI A - nI B) = rt_o A - rt_o B := by
  apply Fin.ext
  unfold rt_N
  rw [Fin.val_sub, rt_ov, rt_ov, rt_ov, pk_sub_toInt ha hb]
  omega
theorem rt_oM (x y : rt_F) : rt_o (x.val * y.val) = x * y := rfl
theorem rt_oA (A B : Nat) : rt_o (A + B) = rt_o A + rt_o B := by
  apply Fin.ext
  rw [Fin.val_add, rt_ov, rt_ov, rt_ov]
  omega
theorem rt_oMu (A B : Nat) : rt_o (A * B) = rt_o A * rt_o B := by
  apply Fin.ext
  rw [Fin.val_mul, rt_ov, rt_ov, rt_ov]
  exact Nat.mul_mod A B 997
theorem rt_Ndet (a b c d : rt_F) : rt_N (rt_I a * rt_I b - rt_I c * rt_I d) = a * b - c * d := by
  unfold rt_I
  rw [pk_mul, pk_mul, rt_Nsub (by have := rt_pl a b; omega) (by have := rt_pl c d; omega), rt_oM, rt_oM]
theorem rt_Ndet3 (a b c d e f : rt_F) : rt_N ((rt_I a * rt_I b - rt_I c * rt_I d) + rt_I e * rt_I f) = a * b - c * d + e * f := by
  have h : (rt_I a * rt_I b - rt_I c * rt_I d) + rt_I e * rt_I f = nI (a.val * b.val + e.val * f.val) - nI (c.val * d.val) := by
    unfold rt_I
    rw [pk_mul, pk_mul, pk_mul, ← nI_add]
    grind
  rw [h, rt_Nsub (by have := rt_pl a b; have := rt_pl e f; omega) (by have := rt_pl c d; omega), rt_oA, rt_oM, rt_oM, rt_oM]
  grind
/-! inverses -/
theorem rt_fermat : ∀ x, x < 997 → x ≠ 0 → (x * (x ^ 995 % 997)) % 997 = 1 := by decide +kernel
def rt_inv (x : rt_F) : rt_F := rt_o (x.val ^ 995)
theorem rt_inv_mul {x : rt_F} (h : x ≠ 0) : x * rt_inv x = 1 := by
  apply Fin.ext
  rw [Fin.val_mul]
  exact rt_fermat x.val x.isLt (fun e => h (Fin.ext e))
theorem rt_nzd {x y : rt_F} (h : x * y = 0) : x = 0 ∨ y = 0 := by
  by_cases hx : x = 0
  · exact Or.inl hx
  · have e := rt_inv_mul hx
    have e2 : y = (x * y) * rt_inv x := by grind
    rw [h] at e2
    right
    grind
/-! sums -/
def rt_S (f : Nat → rt_F) : Nat → rt_F
  | 0 => 0
  | n + 1 => rt_S f n + f n
theorem rt_S0 (f : Nat → rt_F) : rt_S f 0 = 0 := rfl
theorem rt_Ss (f : Nat → rt_F) (n : Nat) : rt_S f (n + 1) = rt_S f n + f n := rfl
theorem rt_Sc {f g : Nat → rt_F} {n : Nat} (h : ∀ i, i < n → f i = g i) : rt_S f n = rt_S g n := by
  induction n with
  | zero => rfl
  | succ n ih => rw [rt_Ss, rt_Ss, ih (fun i hi => h i (by omega)), h n (by omega)]
theorem rt_Sz {f : Nat → rt_F} {n : Nat} (h : ∀ i, i < n → f i = 0) : rt_S f n = 0 := by
  induction n with
  | zero => rfl
  | succ n ih =>
    rw [rt_Ss, ih (fun i hi => h i (by omega)), h n (by omega)]
    rfl
theorem rt_Sa (f g : Nat → rt_F) (n : Nat) : rt_S (fun i => f i + g i) n = rt_S f n + rt_S g n := by
  induction n with
  | zero => rfl
  | succ n ih =>
    rw [rt_Ss, rt_Ss, rt_Ss, ih]
    grind
theorem rt_Sm (c : rt_F) (f : Nat → rt_F) (n : Nat) : rt_S (fun i => c * f i) n = c * rt_S f n := by
  induction n with
  | zero =>
    rw [rt_S0, rt_S0]
    grind
  | succ n ih =>
    rw [rt_Ss, rt_Ss, ih]
    grind
theorem rt_Sh (f : Nat → rt_F) (n : Nat) : rt_S f (n + 1) = f 0 + rt_S (fun i => f (i + 1)) n := by
  induction n with
  | zero =>
    rw [rt_Ss, rt_S0, rt_S0]
    grind
  | succ n ih =>
    rw [rt_Ss, ih, rt_Ss]
    grind
theorem rt_Sx {f : Nat → rt_F} {n m : Nat} (h : n ≤ m) (hz : ∀ i, n ≤ i → i < m → f i = 0) : rt_S f m = rt_S f n := by
  induction m with
  | zero => rw [show n = 0 by omega]
  | succ m ih =>
    by_cases e : n = m + 1
    · rw [e]
    · rw [rt_Ss, ih (by omega) (fun i h1 h2 => hz i h1 (by omega)), hz m (by omega) (by omega)]
      grind
theorem rt_Sw (f : Nat → Nat → rt_F) (n m : Nat) : rt_S (fun i => rt_S (fun j => f i j) m) n = rt_S (fun j => rt_S (fun i => f i j) n) m := by
  induction n with
  | zero =>
    rw [rt_S0]
    exact (rt_Sz (fun i _ => rfl)).symm
  | succ n ih =>
    rw [rt_Ss, ih, ← rt_Sa]
    rfl
theorem rt_Su (c g : Nat → rt_F) {a n : Nat} (x : rt_F) (h : a < n) : rt_S (fun i => rt_u c a (c a + x) i * g i) n = rt_S (fun i => c i * g i) n + x * g a := by
  induction n with
  | zero => omega
  | succ n ih =>
    rw [rt_Ss, rt_Ss]
    by_cases e : a = n
    · subst e
      rw [rt_us, rt_Sc (g := fun i => c i * g i) (fun i hi => by rw [rt_un _ _ (by omega)])]
      grind
    · rw [rt_un _ _ (show n ≠ a by omega), ih (by omega)]
      grind
end
section
/-! the value of a polynomial p (n places) at the sequence w from q on -/
def rt_E (p w : Nat → rt_F) (n q : Nat) : rt_F := rt_S (fun i => p i * w (q + i)) n
theorem rt_E0 (p w : Nat → rt_F) (q : Nat) : rt_E p w 0 q = 0 := rfl
theorem rt_Es (p w : Nat → rt_F) (n q : Nat) : rt_E p w (n + 1) q = rt_E p w n q + p n * w (q + n) := rfl
theorem rt_Eu (p w : Nat → rt_F) {a n : Nat} (q : Nat) (x : rt_F) (h : a < n) : rt_E (rt_u p a (p a + x)) w n q = rt_E p w n q + x * w (q + a) :=
  rt_Su p (fun i => w (q + i)) x h
theorem rt_Ec {p p' w : Nat → rt_F} {n q : Nat} (h : ∀ i, i < n → p i = p' i) : rt_E p w n q = rt_E p' w n q :=
  rt_Sc (fun i hi => by rw [h i hi])
theorem rt_Ez {p w : Nat → rt_F} {n q : Nat} (h : ∀ i, i < n → p i = 0) : rt_E p w n q = 0 :=
  rt_Sz (fun i hi => by rw [h i hi]; exact Fin.zero_mul _)
/-- the power times X -/
def rt_lo (p : Nat → rt_F) : Nat → rt_F
  | 0 => 0
  | i + 1 => p i
theorem rt_Ex {p p' m w : Nat → rt_F} {k q : Nat} (hp : ∀ t, t < k + 1 → p' t = rt_lo p t + p k * m t) (hw : rt_E m w (k + 1) q = w (q + (k + 1))) : rt_E p' w (k + 1) q = rt_E p w (k + 1) (q + 1) := by
  have e1 : rt_E p' w (k + 1) q = rt_S (fun i => rt_lo p i * w (q + i) + p k * (m i * w (q + i))) (k + 1) :=
    rt_Sc (fun i hi => by rw [hp i hi]; grind)
  have e2 : rt_S (fun i => p k * (m i * w (q + i))) (k + 1) = p k * w (q + (k + 1)) := by
    rw [rt_Sm]
    exact congrArg (fun z => p k * z) hw
  have e3 : rt_S (fun i => rt_lo p i * w (q + i)) (k + 1) = rt_E p w k (q + 1) := by
    rw [rt_Sh]
    have e4 : rt_S (fun i => rt_lo p (i + 1) * w (q + (i + 1))) k = rt_E p w k (q + 1) :=
      rt_Sc (fun i hi => by rw [show q + (i + 1) = q + 1 + i by omega]; rfl)
    rw [e4]
    show (0 : rt_F) * w (q + 0) + rt_E p w k (q + 1) = rt_E p w k (q + 1)
    grind
  rw [e1, rt_Sa, e2, e3, rt_Es, show q + 1 + k = q + (k + 1) by omega]
/-! Berlekamp and Massey -/
def rt_D (c s : Nat → rt_F) (j : Nat) : rt_F := s j - rt_S (fun i => c i * s (j - 1 - i)) j
theorem rt_Du (c s : Nat → rt_F) {a j : Nat} (x : rt_F) (h : a < j) : rt_D (rt_u c a (c a + x)) s j = rt_D c s j - x * s (j - 1 - a) := by
  unfold rt_D
  rw [rt_Su c (fun i => s (j - 1 - i)) x h]
  grind
theorem rt_Dl {b s : Nat → rt_F} {p o : Nat} (h : o ≤ p) (hp : p ≤ 40) (hb : ∀ i, o ≤ i → i < 40 → b i = 0) : rt_D b s p = s p - rt_S (fun i => b i * s (p - 1 - i)) o := by
  unfold rt_D
  rw [rt_Sx h (fun i h1 h2 => by rw [hb i h1 (by omega)]; exact Fin.zero_mul _)]
theorem rt_Dc {b c s : Nat → rt_F} {j : Nat} (hj : j ≤ 40) (h : ∀ i, i < 40 → b i = c i) : rt_D b s j = rt_D c s j := by
  unfold rt_D
  rw [rt_Sc (fun i hi => by rw [h i (by omega)])]
/-- what repair leaves -/
def rt_Rp (s c b c' : Nat → rt_F) (f : rt_F) (g o : Nat) : Prop :=
  (∀ j, g + o ≤ j → rt_D c' s j = rt_D c s j - f * (s (j - g) - rt_S (fun t => b t * s (j - g - 1 - t)) o)) ∧ (∀ t, g + o ≤ t → c' t = c t)
theorem rt_Rp0 (s c b : Nat → rt_F) (f : rt_F) {g : Nat} (hg : 1 ≤ g) : rt_Rp s c b (rt_u c (g - 1) (c (g - 1) + f)) f g 0 := by
  refine ⟨fun j hj => ?_, fun t ht => rt_un _ _ (by omega)⟩
  rw [rt_Du c s f (by omega), rt_S0, show j - 1 - (g - 1) = j - g by omega]
  grind
theorem rt_RpS {s c b c' : Nat → rt_F} {f : rt_F} {g o : Nat} (hg : 1 ≤ g) (h : rt_Rp s c b c' f g o) : rt_Rp s c b (rt_u c' (g + o) (c' (g + o) - f * b o)) f g (o + 1) := by
  obtain ⟨h1, h2⟩ := h
  refine ⟨fun j hj => ?_, fun t ht => ?_⟩
  · have e : c' (g + o) - f * b o = c' (g + o) + (-(f * b o)) := by grind
    rw [e, rt_Du c' s _ (by omega), h1 j (by omega), rt_Ss, show j - 1 - (g + o) = j - g - 1 - o by omega]
    grind
  · rw [rt_un _ _ (by omega)]
    exact h2 t (by omega)
/-- the invariant: after n terms the rule c of length L, the older rule b of length o, broken g terms before by e -/
def rt_BM (s : Nat → rt_F) (n L o g : Nat) (e : rt_F) (c b : Nat → rt_F) : Prop :=
  1 ≤ g ∧ g + o + L = n + 1 ∧ e ≠ 0 ∧ (∀ i, L ≤ i → i < 40 → c i = 0) ∧ (∀ i, o ≤ i → i < 40 → b i = 0) ∧ (∀ j, L ≤ j → j < n → rt_D c s j = 0) ∧
  (g ≤ n → (∀ j, o ≤ j → j < n - g → rt_D b s j = 0) ∧ rt_D b s (n - g) = e)
theorem rt_BM0 {s c b : Nat → rt_F} (hc : ∀ i, i < 40 → c i = 0) (hb : ∀ i, i < 40 → b i = 0) : rt_BM s 0 0 0 1 1 c b :=
  ⟨by omega, by omega, by decide, fun i _ h => hc i h, fun i _ h => hb i h, fun j _ h => absurd h (by omega), fun h => absurd h (by omega)⟩
theorem rt_BMz {s c b : Nat → rt_F} {n L o g : Nat} {e : rt_F} (h : rt_BM s n L o g e c b) (hz : rt_D c s n = 0) : rt_BM s (n + 1) L o (g + 1) e c b := by
  obtain ⟨h1, h2, h3, h4, h5, h6, h7⟩ := h
  refine ⟨by omega, by omega, h3, h4, h5, fun j hj hn => ?_, fun hg => ?_⟩
  · by_cases ej : j = n
    · rw [ej]
      exact hz
    · exact h6 j hj (by omega)
  · rw [show n + 1 - (g + 1) = n - g by omega]
    exact h7 (by omega)
theorem rt_BMr {s c b c' : Nat → rt_F} {n L o g : Nat} {e f : rt_F} (h : rt_BM s n L o g e c b) (hn : n < 40) (hf : f = rt_D c s n * rt_inv e) (hr : rt_Rp s c b c' f g o) {j : Nat} (hj : L ≤ j) (hj2 : g + o ≤ j) (hjn : j < n + 1) : rt_D c' s j = 0 := by
  obtain ⟨h1, h2, h3, h4, h5, h6, h7⟩ := h
  obtain ⟨h8, h9⟩ := h7 (by omega)
  rw [hr.1 j hj2, ← rt_Dl (b := b) (s := s) (p := j - g) (o := o) (by omega) (by omega) h5]
  by_cases ej : j = n
  · rw [ej, h9, hf]
    have hi := rt_inv_mul h3
    grind
  · rw [h6 j hj (by omega), h8 (j - g) (by omega) (by omega)]
    grind
theorem rt_BMk {s c b c' : Nat → rt_F} {n L o g : Nat} {e f : rt_F} (h : rt_BM s n L o g e c b) (hn : n < 40) (hf : f = rt_D c s n * rt_inv e) (hr : rt_Rp s c b c' f g o) (hL : n < 2 * L) : rt_BM s (n + 1) L o (g + 1) e c' b := by
  have key := fun j a b2 d => rt_BMr h hn hf hr (j := j) a b2 d
  obtain ⟨h1, h2, h3, h4, h5, h6, h7⟩ := h
  refine ⟨by omega, by omega, h3, fun i hi h40 => ?_, h5, fun j hj hjn => key j hj (by omega) hjn, fun hg => ?_⟩
  · rw [hr.2 i (by omega)]
    exact h4 i hi h40
  · rw [show n + 1 - (g + 1) = n - g by omega]
    exact h7 (by omega)
theorem rt_BMg {s c b c' b' : Nat → rt_F} {n L o g : Nat} {e f : rt_F} (h : rt_BM s n L o g e c b) (hn : n < 40) (hd : rt_D c s n ≠ 0) (hf : f = rt_D c s n * rt_inv e) (hr : rt_Rp s c b c' f g o) (hL : 2 * L ≤ n) (hb : ∀ i, i < 40 → b' i = c i) : rt_BM s (n + 1) (n + 1 - L) L 1 (rt_D c s n) c' b' := by
  have key := fun j a b2 d => rt_BMr h hn hf hr (j := j) a b2 d
  obtain ⟨h1, h2, h3, h4, h5, h6, h7⟩ := h
  refine ⟨by omega, by omega, hd, fun i hi h40 => ?_, fun i hi h40 => ?_, fun j hj hjn => key j (by omega) (by omega) hjn, fun _ => ⟨fun j hj hjn => ?_, ?_⟩⟩
  · rw [hr.2 i (by omega)]
    exact h4 i (by omega) h40
  · rw [hb i h40]
    exact h4 i hi h40
  · rw [rt_Dc (by omega) hb]
    exact h6 j hj (by omega)
  · rw [show n + 1 - 1 = n by omega, rt_Dc (by omega) hb]
/-- what mend answers: a rule of length L for the first N terms, and none is shorter -/
def rt_M (s : Nat → rt_F) (N L : Nat) (c : Nat → rt_F) : Prop :=
  (∀ j, L ≤ j → j < N → s j = rt_S (fun i => c i * s (j - 1 - i)) L) ∧ L ≤ N ∧
  (∀ L' (c' : Nat → rt_F), (∀ j, L' ≤ j → j < N → s j = rt_S (fun i => c' i * s (j - 1 - i)) L') → L ≤ L')
theorem rt_massey {s b c' : Nat → rt_F} {p o L' : Nat} (hb : ∀ j, o ≤ j → j < p → s j = rt_S (fun i => b i * s (j - 1 - i)) o) (hc : ∀ j, L' ≤ j → j ≤ p → s j = rt_S (fun i => c' i * s (j - 1 - i)) L') (h : L' + o ≤ p) : s p = rt_S (fun i => b i * s (p - 1 - i)) o := by
  have e1 : rt_S (fun i => b i * s (p - 1 - i)) o = rt_S (fun i => rt_S (fun k => c' k * (b i * s (p - 1 - k - 1 - i))) L') o := by
    refine rt_Sc (fun i hi => ?_)
    rw [hc (p - 1 - i) (by omega) (by omega), ← rt_Sm]
    refine rt_Sc (fun k hk => ?_)
    rw [show p - 1 - i - 1 - k = p - 1 - k - 1 - i by omega]
    grind
  have e2 : rt_S (fun k => rt_S (fun i => c' k * (b i * s (p - 1 - k - 1 - i))) o) L' = rt_S (fun k => c' k * s (p - 1 - k)) L' := by
    refine rt_Sc (fun k hk => ?_)
    rw [rt_Sm, ← hb (p - 1 - k) (by omega) (by omega)]
  rw [e1, rt_Sw, e2]
  exact hc p (by omega) (Nat.le_refl p)
theorem rt_BMe {s c b : Nat → rt_F} {N L o g : Nat} {e : rt_F} (h : rt_BM s N L o g e c b) (hN : N ≤ 40) : rt_M s N L c := by
  obtain ⟨h1, h2, h3, h4, h5, h6, h7⟩ := h
  have hz : ∀ x y : rt_F, x - y = 0 → x = y := fun x y h => by grind
  refine ⟨fun j hj hjn => ?_, by omega, fun L' c' hc => ?_⟩
  · have e1 := h6 j hj hjn
    rw [rt_Dl hj (by omega) h4] at e1
    exact hz _ _ e1
  · by_cases hlt : L ≤ L'
    · exact hlt
    · exfalso
      obtain ⟨h8, h9⟩ := h7 (by omega)
      have e1 := rt_massey (s := s) (b := b) (c' := c') (p := N - g) (o := o) (L' := L') (fun j hj hjp => by
        have e2 := h8 j hj hjp
        rw [rt_Dl hj (by omega) h5] at e2
        exact hz _ _ e2) (fun j hj hjp => hc j hj (by omega)) (by omega)
      rw [rt_Dl (by omega) (by omega) h5, ← e1] at h9
      exact h3 (by rw [← h9]; grind)
end
section
theorem rt_S1 (f : Nat → rt_F) : rt_S f 1 = f 0 := by
  rw [rt_Ss, rt_S0]
  grind
theorem rt_S2 (f : Nat → rt_F) : rt_S f 2 = f 0 + f 1 := by
  rw [rt_Ss, rt_S1]
theorem rt_S3 (f : Nat → rt_F) : rt_S f 3 = f 0 + f 1 + f 2 := by
  rw [rt_Ss, rt_S2]
def rt_c2 (a b : rt_F) : Nat → rt_F
  | 0 => a
  | _ + 1 => b
def rt_c3 (a b c : rt_F) : Nat → rt_F
  | 0 => a
  | 1 => b
  | _ + 2 => c
/-! a rule for all terms bounds the answer -/
theorem rt_le0 {s c : Nat → rt_F} {N L : Nat} (hM : rt_M s N L c) (h : ∀ j, s j = 0) : L = 0 := by
  have h1 := hM.2.2 0 c (fun j _ _ => by rw [rt_S0]; exact h j)
  omega
theorem rt_le1 {s c : Nat → rt_F} {N L : Nat} (hM : rt_M s N L c) (k : rt_F) (h : ∀ j, s (j + 1) = k * s j) : L ≤ 1 := by
  refine hM.2.2 1 (fun _ => k) (fun j hj _ => ?_)
  obtain ⟨t, rfl⟩ : ∃ t, j = t + 1 := ⟨j - 1, by omega⟩
  rw [rt_S1]
  exact h t
theorem rt_le2 {s c : Nat → rt_F} {N L : Nat} (hM : rt_M s N L c) (a b : rt_F) (h : ∀ j, s (j + 2) = a * s (j + 1) + b * s j) : L ≤ 2 := by
  refine hM.2.2 2 (rt_c2 a b) (fun j hj _ => ?_)
  obtain ⟨t, rfl⟩ : ∃ t, j = t + 2 := ⟨j - 2, by omega⟩
  rw [rt_S2]
  exact h t
theorem rt_le3 {s c : Nat → rt_F} {N L : Nat} (hM : rt_M s N L c) (a b d : rt_F) (h : ∀ j, s (j + 3) = a * s (j + 2) + b * s (j + 1) + d * s j) : L ≤ 3 := by
  refine hM.2.2 3 (rt_c3 a b d) (fun j hj _ => ?_)
  obtain ⟨t, rfl⟩ : ∃ t, j = t + 3 := ⟨j - 3, by omega⟩
  rw [rt_S3]
  exact h t
/-! what an answer says of the first terms -/
theorem rt_at0 {s c : Nat → rt_F} {N : Nat} (hM : rt_M s N 0 c) {j : Nat} (h : j < N) : s j = 0 := hM.1 j (by omega) h
theorem rt_at1 {s c : Nat → rt_F} {N : Nat} (hM : rt_M s N 1 c) {j : Nat} (h : j + 1 < N) : s (j + 1) = c 0 * s j := by
  have e := hM.1 (j + 1) (by omega) h
  rw [rt_S1] at e
  exact e
theorem rt_at2 {s c : Nat → rt_F} {N : Nat} (hM : rt_M s N 2 c) {j : Nat} (h : j + 2 < N) : s (j + 2) = c 0 * s (j + 1) + c 1 * s j := by
  have e := hM.1 (j + 2) (by omega) h
  rw [rt_S2] at e
  exact e
/-! sequences -/
theorem rt_two {P : Nat → Prop} (h0 : P 0) (h1 : P 1) (hs : ∀ j, P j → P (j + 1) → P (j + 2)) : ∀ j, P j := by
  have h : ∀ j, P j ∧ P (j + 1) := by
    intro j
    induction j with
    | zero => exact ⟨h0, h1⟩
    | succ j ih => exact ⟨ih.2, hs j ih.1 ih.2⟩
  exact fun j => (h j).1
theorem rt_three {P : Nat → Prop} (h0 : P 0) (h1 : P 1) (h2 : P 2) (hs : ∀ j, P j → P (j + 1) → P (j + 2) → P (j + 3)) : ∀ j, P j := by
  have h : ∀ j, P j ∧ P (j + 1) ∧ P (j + 2) := by
    intro j
    induction j with
    | zero => exact ⟨h0, h1, h2⟩
    | succ j ih => exact ⟨ih.2.1, ih.2.2, hs j ih.1 ih.2.1 ih.2.2⟩
  exact fun j => (h j).1
/-! plain algebra over the residues -/
theorem rt_sq0 {x : rt_F} (h : x * x = 0) : x = 0 := by
  rcases rt_nzd h with h | h <;> exact h
theorem rt_can {d x : rt_F} (hd : d ≠ 0) (h : d * x = 0) : x = 0 := by
  rcases rt_nzd h with h | h
  · exact absurd h hd
  · exact h
theorem rt_q1 {s0 s1 s2 : rt_F} (h0 : s0 ≠ 0) (hd : s0 * s2 - s1 * s1 = 0) : s1 = (s1 * rt_inv s0) * s0 ∧ s2 = (s1 * rt_inv s0) * s1 := by
  have hi := rt_inv_mul h0
  generalize rt_inv s0 = v at hi
  have e1 : (s1 * v) * s0 = s1 * (s0 * v) := by grind
  have e2 : (s1 * v) * s1 = s2 * (s0 * v) - v * (s0 * s2 - s1 * s1) := by grind
  rw [hi] at e1 e2
  rw [hd] at e2
  rw [e1, e2]
  constructor <;> grind
theorem rt_q2 {s0 s1 s2 s3 : rt_F} (hd : s0 * s2 - s1 * s1 ≠ 0) :
    s2 = ((s0 * s3 - s1 * s2) * rt_inv (s0 * s2 - s1 * s1)) * s1 + ((s2 * s2 - s1 * s3) * rt_inv (s0 * s2 - s1 * s1)) * s0 ∧
    s3 = ((s0 * s3 - s1 * s2) * rt_inv (s0 * s2 - s1 * s1)) * s2 + ((s2 * s2 - s1 * s3) * rt_inv (s0 * s2 - s1 * s1)) * s1 := by
  have hi := rt_inv_mul hd
  generalize rt_inv (s0 * s2 - s1 * s1) = v at hi
  have e1 : ((s0 * s3 - s1 * s2) * v) * s1 + ((s2 * s2 - s1 * s3) * v) * s0 = s2 * ((s0 * s2 - s1 * s1) * v) := by
    clear hi hd
    grind
  have e2 : ((s0 * s3 - s1 * s2) * v) * s2 + ((s2 * s2 - s1 * s3) * v) * s1 = s3 * ((s0 * s2 - s1 * s1) * v) := by
    clear hi hd e1
    grind
  rw [e1, e2, hi]
  exact ⟨(Fin.mul_one _).symm, (Fin.mul_one _).symm⟩
theorem rt_al1 {y0 y1 y2 y3 a b k : rt_F} (p0 : y1 = k * y0) (p1 : y2 = k * y1) (q0 : y2 = a * y1 + b * y0) (q1 : y3 = a * y2 + b * y1) : y3 = k * y2 := by
  have e : a * (k * y1) + b * (k * y0) = k * (a * y1 + b * y0) := by
    clear p0 p1 q0 q1
    grind
  rw [← p0, ← p1, ← q0] at e
  rw [q1, e]
theorem rt_al2 {y0 y1 y2 y3 y4 a b d k : rt_F} (p0 : y1 = k * y0) (p1 : y2 = k * y1) (p2 : y3 = k * y2) (q0 : y3 = a * y2 + b * y1 + d * y0) (q1 : y4 = a * y3 + b * y2 + d * y1) : y4 = k * y3 := by
  have e : a * (k * y2) + b * (k * y1) + d * (k * y0) = k * (a * y2 + b * y1 + d * y0) := by
    clear p0 p1 p2 q0 q1
    grind
  rw [← p0, ← p1, ← p2, ← q0] at e
  rw [q1, e]
theorem rt_al3 {y0 y1 y2 y3 y4 y5 a b d x y : rt_F} (p0 : y2 = x * y1 + y * y0) (p1 : y3 = x * y2 + y * y1) (p2 : y4 = x * y3 + y * y2) (q0 : y3 = a * y2 + b * y1 + d * y0) (q1 : y4 = a * y3 + b * y2 + d * y1) (q2 : y5 = a * y4 + b * y3 + d * y2) : y5 = x * y4 + y * y3 := by
  have e : a * (x * y3 + y * y2) + b * (x * y2 + y * y1) + d * (x * y1 + y * y0) = x * (a * y3 + b * y2 + d * y1) + y * (a * y2 + b * y1 + d * y0) := by
    clear p0 p1 p2 q0 q1 q2
    grind
  rw [← p0, ← p1, ← p2, ← q0, ← q1] at e
  rw [q2, e]
theorem rt_z1 {s1 s2 : rt_F} (h : 0 * s2 - s1 * s1 = 0) : s1 * s1 = 0 := by grind
theorem rt_z2 {x y : rt_F} (h : x = y) : x - y = 0 := by grind
theorem rt_z3 {x y : rt_F} (h : x - y = 0) : x = y := by grind
theorem rt_z4 {x y w : rt_F} (h : x = y + w) : x - y - w = 0 := by grind
theorem rt_z5 {x y w : rt_F} (h : x - y - w = 0) : x = y + w := by grind
theorem rt_z6 {u v w d : rt_F} (h : 0 = 0 * u - 0 * v + w * d) : d * w = 0 := by grind
theorem rt_z7 {x : rt_F} (h : 0 = -x) : x = 0 := by grind
theorem rt_z8 {x : rt_F} (h : -x = 0) : x = 0 := by grind
theorem rt_d0 (s2 : rt_F) : (0 : rt_F) * s2 - 0 * 0 = 0 := by grind
theorem rt_d1 (k s0 : rt_F) : s0 * (k * (k * s0)) - k * s0 * (k * s0) = 0 := by grind
theorem rt_n0 (x y v : rt_F) : (0 : rt_F) * x - 0 * y + 0 * v = 0 := by grind
theorem rt_n1 (x y : rt_F) : x * (0 : rt_F) + y * 0 = 0 := by grind
theorem rt_n2 (x y v : rt_F) : x * (0 : rt_F) + y * 0 + v * 0 = 0 := by grind
theorem rt_n3 (x y : rt_F) : -(x * ((y - y) * (y - y))) = 0 := by grind
theorem rt_n4 : -((0 : rt_F) * (0 * 0)) = 0 := by grind
def rt_t3 (s0 s1 s2 s3 s4 : rt_F) : rt_F := s0 * (s2 * s4 - s3 * s3) - s1 * (s1 * s4 - s2 * s3) + s2 * (s1 * s3 - s2 * s2)
theorem rt_t3a (s0 s1 s2 s3 s4 a b : rt_F) : rt_t3 s0 s1 s2 s3 s4 = (s2 - a * s1 - b * s0) * (s1 * s3 - s2 * s2) - (s3 - a * s2 - b * s1) * (s0 * s3 - s1 * s2) + (s4 - a * s3 - b * s2) * (s0 * s2 - s1 * s1) := by
  unfold rt_t3
  grind
theorem rt_t3b (s0 s3 s4 k : rt_F) : rt_t3 s0 (k * s0) (k * (k * s0)) s3 s4 = -(s0 * ((s3 - k * (k * (k * s0))) * (s3 - k * (k * (k * s0))))) := by
  unfold rt_t3
  grind
theorem rt_t3c (s2 s3 s4 : rt_F) : rt_t3 0 0 s2 s3 s4 = -(s2 * (s2 * s2)) := by
  unfold rt_t3
  grind
/-- the rank of a sequence with a rule of two -/
theorem rt_rank2 {s c : Nat → rt_F} {N L : Nat} (hM : rt_M s N L c) (hN : 5 ≤ N) (a b : rt_F) (hs : ∀ j, s (j + 2) = a * s (j + 1) + b * s j) :
    (s 0 * s 2 - s 1 * s 1 ≠ 0 → L = 2) ∧ (s 0 * s 2 - s 1 * s 1 = 0 → s 0 ≠ 0 → L = 1) ∧ (s 0 * s 2 - s 1 * s 1 = 0 → s 0 = 0 → L = 0) := by
  have hL := rt_le2 hM a b hs
  have c01 : L = 0 ∨ L = 1 ∨ L = 2 := by omega
  refine ⟨fun hd => ?_, fun hd h0 => ?_, fun hd h0 => ?_⟩
  · rcases c01 with e | e | e
    · subst e
      exfalso
      apply hd
      rw [rt_at0 hM (j := 0) (by omega), rt_at0 hM (j := 1) (by omega)]
      exact rt_d0 _
    · subst e
      exfalso
      apply hd
      have e1 : s 1 = c 0 * s 0 := rt_at1 hM (j := 0) (by omega)
      have e2 : s 2 = c 0 * s 1 := rt_at1 hM (j := 1) (by omega)
      rw [e2, e1]
      exact rt_d1 _ _
    · exact e
  · obtain ⟨e1, e2⟩ := rt_q1 h0 hd
    generalize s 1 * rt_inv (s 0) = k at e1 e2
    have h : ∀ j, s (j + 1) = k * s j := rt_two e1 e2 (fun j p0 p1 => rt_al1 p0 p1 (hs j) (hs (j + 1)))
    have h1 := rt_le1 hM k h
    rcases c01 with e | e | e
    · subst e
      exact absurd (rt_at0 hM (j := 0) (by omega)) h0
    · exact e
    · omega
  · rw [h0] at hd
    have h1 : s 1 = 0 := rt_sq0 (rt_z1 hd)
    exact rt_le0 hM (rt_two h0 h1 (fun j p0 p1 => by rw [hs j, p0, p1]; exact rt_n1 a b))
/-- the rank of a sequence with a rule of three -/
theorem rt_rank3 {s c : Nat → rt_F} {N L : Nat} (hM : rt_M s N L c) (hN : 6 ≤ N) (a b d : rt_F) (hs : ∀ j, s (j + 3) = a * s (j + 2) + b * s (j + 1) + d * s j) :
    (rt_t3 (s 0) (s 1) (s 2) (s 3) (s 4) ≠ 0 → L = 3) ∧
    (rt_t3 (s 0) (s 1) (s 2) (s 3) (s 4) = 0 → (s 0 * s 2 - s 1 * s 1 ≠ 0 → L = 2) ∧ (s 0 * s 2 - s 1 * s 1 = 0 → s 0 ≠ 0 → L = 1) ∧ (s 0 * s 2 - s 1 * s 1 = 0 → s 0 = 0 → L = 0)) := by
  have hL := rt_le3 hM a b d hs
  have c01 : L = 0 ∨ L = 1 ∨ L = 2 ∨ L = 3 := by omega
  have hd2 : L ≤ 1 → s 0 * s 2 - s 1 * s 1 = 0 := by
    intro hl
    rcases (show L = 0 ∨ L = 1 by omega) with e | e
    · subst e
      rw [rt_at0 hM (j := 0) (by omega), rt_at0 hM (j := 1) (by omega)]
      exact rt_d0 _
    · subst e
      have e1 : s 1 = c 0 * s 0 := rt_at1 hM (j := 0) (by omega)
      have e2 : s 2 = c 0 * s 1 := rt_at1 hM (j := 1) (by omega)
      rw [e2, e1]
      exact rt_d1 _ _
  refine ⟨fun h3 => ?_, fun h3 => ⟨fun hd => ?_, fun hd h0 => ?_, fun hd h0 => ?_⟩⟩
  · rcases c01 with e | e | e | e
    · subst e
      exfalso
      apply h3
      rw [rt_at0 hM (j := 0) (by omega), rt_at0 hM (j := 1) (by omega), rt_t3c, rt_at0 hM (j := 2) (by omega)]
      exact rt_n4
    · subst e
      exfalso
      apply h3
      have e1 : s 1 = c 0 * s 0 := rt_at1 hM (j := 0) (by omega)
      have e2 : s 2 = c 0 * s 1 := rt_at1 hM (j := 1) (by omega)
      have e3 : s 3 = c 0 * s 2 := rt_at1 hM (j := 2) (by omega)
      rw [e3, e2, e1, rt_t3b]
      exact rt_n3 _ _
    · subst e
      exfalso
      apply h3
      have z2 := rt_z4 (rt_at2 hM (j := 0) (by omega))
      have z3 := rt_z4 (rt_at2 hM (j := 1) (by omega))
      have z4 := rt_z4 (rt_at2 hM (j := 2) (by omega))
      have z2' : s 2 - c 0 * s 1 - c 1 * s 0 = 0 := z2
      have z3' : s 3 - c 0 * s 2 - c 1 * s 1 = 0 := z3
      have z4' : s 4 - c 0 * s 3 - c 1 * s 2 = 0 := z4
      rw [rt_t3a _ _ _ _ _ (c 0) (c 1), z2', z3', z4']
      exact rt_n0 _ _ _
    · exact e
  · obtain ⟨e2, e3⟩ := rt_q2 (s3 := s 3) hd
    generalize (s 0 * s 3 - s 1 * s 2) * rt_inv (s 0 * s 2 - s 1 * s 1) = x at e2 e3
    generalize (s 2 * s 2 - s 1 * s 3) * rt_inv (s 0 * s 2 - s 1 * s 1) = y at e2 e3
    have z2 : s 2 - x * s 1 - y * s 0 = 0 := rt_z4 e2
    have z3 : s 3 - x * s 2 - y * s 1 = 0 := rt_z4 e3
    have h4 := rt_t3a (s 0) (s 1) (s 2) (s 3) (s 4) x y
    rw [h3, z2, z3] at h4
    have e4 : s 4 = x * s 3 + y * s 2 := rt_z5 (rt_can hd (rt_z6 h4))
    have h : ∀ j, s (j + 2) = x * s (j + 1) + y * s j := rt_three e2 e3 e4 (fun j p0 p1 p2 => rt_al3 p0 p1 p2 (hs j) (hs (j + 1)) (hs (j + 2)))
    have h2 := rt_le2 hM x y h
    rcases c01 with e | e | e | e
    · exact absurd (hd2 (by omega)) hd
    · exact absurd (hd2 (by omega)) hd
    · exact e
    · omega
  · obtain ⟨e1, e2⟩ := rt_q1 h0 hd
    generalize s 1 * rt_inv (s 0) = k at e1 e2
    have e3 : s 3 = k * s 2 := by
      have h4 := rt_t3b (s 0) (s 3) (s 4) k
      rw [← e1, ← e2, h3] at h4
      exact rt_z3 (rt_sq0 (rt_can h0 (rt_z7 h4)))
    have h : ∀ j, s (j + 1) = k * s j := rt_three e1 e2 e3 (fun j p0 p1 p2 => rt_al2 p0 p1 p2 (hs j) (hs (j + 1)))
    have h1 := rt_le1 hM k h
    rcases c01 with e | e | e | e
    · subst e
      exact absurd (rt_at0 hM (j := 0) (by omega)) h0
    · exact e
    · omega
    · omega
  · rw [h0] at hd
    have h1 : s 1 = 0 := rt_sq0 (rt_z1 hd)
    have h2 : s 2 = 0 := by
      rw [h0, h1, rt_t3c] at h3
      rcases rt_nzd (rt_z8 h3) with h | h
      · exact h
      · exact rt_sq0 h
    exact rt_le0 hM (rt_three h0 h1 h2 (fun j p0 p1 p2 => by rw [hs j, p0, p1, p2]; exact rt_n2 a b d))
/-- a rule of two is the only one where the rank is two -/
theorem rt_uni {s0 s1 s2 s3 a b x y : rt_F} (hd : s0 * s2 - s1 * s1 ≠ 0) (h2 : s2 = a * s1 + b * s0) (h3 : s3 = a * s2 + b * s1) (g2 : s2 = x * s1 + y * s0) (g3 : s3 = x * s2 + y * s1) : x = a ∧ y = b := by
  have k2 : (x - a) * s1 + (y - b) * s0 = 0 := by grind
  have k3 : (x - a) * s2 + (y - b) * s1 = 0 := by grind
  have ex : (s0 * s2 - s1 * s1) * (x - a) = 0 := by
    have e : (s0 * s2 - s1 * s1) * (x - a) = s0 * ((x - a) * s2 + (y - b) * s1) - s1 * ((x - a) * s1 + (y - b) * s0) := by grind
    rw [e, k2, k3]
    grind
  have ey : (s0 * s2 - s1 * s1) * (y - b) = 0 := by
    have e : (s0 * s2 - s1 * s1) * (y - b) = s2 * ((x - a) * s1 + (y - b) * s0) - s1 * ((x - a) * s2 + (y - b) * s1) := by grind
    rw [e, k2, k3]
    grind
  have fx := rt_can hd ex
  have fy := rt_can hd ey
  constructor <;> grind
/-! the law's sequences -/
def rt_T (a b : rt_F) : rt_F → rt_F → Nat → rt_F
  | x, _, 0 => x
  | x, y, n + 1 => rt_T a b y (a * y + b * x) n
def rt_U (g h : rt_F) : Nat → rt_F
  | 0 => h
  | n + 1 => rt_U g h n * g
theorem rt_T0 (a b x y : rt_F) : rt_T a b x y 0 = x := rfl
theorem rt_T1 (a b x y : rt_F) (n : Nat) : rt_T a b x y (n + 1) = rt_T a b y (a * y + b * x) n := rfl
theorem rt_Tr (a b x y : rt_F) (n : Nat) : rt_T a b x y (n + 2) = a * rt_T a b x y (n + 1) + b * rt_T a b x y n := by
  induction n generalizing x y with
  | zero => rfl
  | succ n ih => exact ih y (a * y + b * x)
theorem rt_Ur (g h : rt_F) (n : Nat) : rt_U g h (n + 1) = rt_U g h n * g := rfl
theorem rt_step (a b x y : rt_F) (j : Nat) : rt_T a b x y ((j + 2) * 2) = (a * a + b + b) * rt_T a b x y ((j + 1) * 2) + (-(b * b)) * rt_T a b x y (j * 2) := by
  have e0 := rt_Tr a b x y (j * 2)
  have e1 := rt_Tr a b x y (j * 2 + 1)
  have e2 := rt_Tr a b x y (j * 2 + 2)
  have e1' : rt_T a b x y (j * 2 + 3) = a * rt_T a b x y (j * 2 + 2) + b * rt_T a b x y (j * 2 + 1) := e1
  have e2' : rt_T a b x y (j * 2 + 4) = a * rt_T a b x y (j * 2 + 3) + b * rt_T a b x y (j * 2 + 2) := e2
  rw [show (j + 2) * 2 = j * 2 + 4 by omega, show (j + 1) * 2 = j * 2 + 2 by omega, e2', e1', e0]
  grind
theorem rt_prod (a b x y g h : rt_F) (j : Nat) : rt_T a b x y (j + 2) * rt_U g h (j + 2) = (a * g) * (rt_T a b x y (j + 1) * rt_U g h (j + 1)) + (b * (g * g)) * (rt_T a b x y j * rt_U g h j) := by
  rw [rt_Tr, rt_Ur g h (j + 1), rt_Ur g h j]
  grind
theorem rt_summ (a b x y g h : rt_F) (j : Nat) : rt_T a b x y (j + 3) + rt_U g h (j + 3) = (a + g) * (rt_T a b x y (j + 2) + rt_U g h (j + 2)) + (b - a * g) * (rt_T a b x y (j + 1) + rt_U g h (j + 1)) + (-(b * g)) * (rt_T a b x y j + rt_U g h j) := by
  have e0 := rt_Tr a b x y j
  have e1 : rt_T a b x y (j + 3) = a * rt_T a b x y (j + 2) + b * rt_T a b x y (j + 1) := rt_Tr a b x y (j + 1)
  rw [e1, e0, rt_Ur g h (j + 2), rt_Ur g h (j + 1), rt_Ur g h j]
  grind
/-- the first terms added -/
theorem rt_part (a b x y : rt_F) (q : Nat) : rt_S (rt_T a b x y) (q + 3 + 1) = (a + 1) * rt_S (rt_T a b x y) (q + 2 + 1) + (b - a) * rt_S (rt_T a b x y) (q + 1 + 1) + (-b) * rt_S (rt_T a b x y) (q + 1) := by
  have e0 := rt_Tr a b x y q
  have e1 : rt_T a b x y (q + 3) = a * rt_T a b x y (q + 2) + b * rt_T a b x y (q + 1) := rt_Tr a b x y (q + 1)
  rw [rt_Ss _ (q + 3), rt_Ss _ (q + 2), rt_Ss _ (q + 1), e1, e0]
  grind
end
section
theorem rt_997 : ¬ (997 : Int32) = 0 := by decide
theorem rt_fill {P : Nat → rt_F → Prop} {m : Nat → rt_F} {i : Nat} {v : rt_F} (h : ∀ j, j < i → P j (m j)) (hv : P i v) : ∀ j, j < i + 1 → P j (rt_u m i v j) := by
  intro j hj
  by_cases e : j = i
  · subst e
    rw [rt_us]
    exact hv
  · rw [rt_un _ _ e]
    exact h j (by omega)
theorem rt_ix4 (s i : Nat) : (4 : Int32) * nI s + nI i = nI (4 * s + i) := by
  rw [show (4 : Int32) * nI s = nI (4 * s) from pk_mul 4 s, nI_add]
theorem rt_ixr {s k i : Nat} (h : i + 1 ≤ 4 * s + k) : (((4 : Int32) * nI s + nI k) - 1) - nI i = nI (4 * s + k - 1 - i) := by
  rw [rt_ix4, show nI (4 * s + k) - 1 = nI (4 * s + k - 1) from pk_sub (b := 1) (by omega), pk_sub (by omega)]
theorem rt_2k (k : Nat) : ((2 : Int32) * nI (k + 1)) - 2 = nI (k + k) := by
  rw [show (2 : Int32) * nI (k + 1) = nI (2 * (k + 1)) from pk_mul 2 (k + 1), show nI (2 * (k + 1)) - 2 = nI (2 * (k + 1) - 2) from pk_sub (b := 2) (by omega), show 2 * (k + 1) - 2 = k + k by omega]
theorem rt_ixd {k d : Nat} (j : Nat) : (nI (k + (d + 1)) - nI (k + 1)) + nI j = nI (d + j) := by
  rw [pk_sub (by omega), show k + (d + 1) - (k + 1) = d by omega, nI_add]
theorem rt_shl : ∀ n, n < 32 → ((nI n &&& 31).toBitVec.smod 32).toNat = n := by decide +kernel
theorem rt_bit {N d : Nat} (hN : N < 2 ^ 31) (hd : d < 32) : (nI N >>> (nI d &&& 31)) &&& 1 = nI (N / 2 ^ d % 2) := by
  rw [pk_shrN hN (nI d &&& 31) d (rt_shl d hd)]
  have h : N / 2 ^ d ≤ N := Nat.div_le_self _ _
  exact pk_andN (by omega) 1 (by decide)
theorem rt_al4 (b x e y v : rt_F) : b + x * e + x * y * v = b + x * (e + y * v) := by grind
theorem rt_al5 (b x : rt_F) : b = b + x * 0 := by grind
section
variable {post : St2 → Prop} {z : Int32} {a1 a2 a3 a4 a5 a6 a7 a8 a9 a10 a11 a12 a13 : Nat → Int32}
theorem rt_tr9 {f2 m0 : Nat → rt_F} {s k : Nat} (hs : s < 3) (hk : k ≤ 4) (H : ∀ m, (∀ j, j < k → m j = f2 (4 * s + k - 1 - j)) → post (z, a1, rt_A f2, a3, rt_A m, a5, a6, a7, a8, a9, a10, a11, a12, a13)) : ∃ n, wX_takeRule_9 post (nI s) (nI k) z n 0 a1 (rt_A f2) a3 (rt_A m0) a5 a6 a7 a8 a9 a10 a11 a12 a13 :=
  pk_loop (fun n i m => wX_takeRule_9 post (nI s) (nI k) z n (nI i) a1 (rt_A f2) a3 (rt_A m) a5 a6 a7 a8 a9 a10 a11 a12 a13) (fun i m => ∀ j, j < i → (j < k → m j = f2 (4 * s + k - 1 - j))) 6 0 m0 (by omega) (fun j hj => absurd hj (by omega))
    (fun n m h => pk_le 6 6 (fun _ => H m (fun j hj => h j (by omega) hj)) (fun z => absurd z (by omega)))
    (fun n i m hi h hw => pk_le 6 i (fun z => absurd z (by omega)) (fun _ => pk_le k i
      (fun g => ⟨pk_in i 6 hi, nm_r (rt_upd i rt_I0.symm) (nm_r (nI_1 i) (hw _ (rt_fill (P := fun j y => j < k → y = f2 (4 * s + k - 1 - j)) h (fun z => absurd z (by omega)))))⟩)
      (fun g => ⟨pk_in (4 * s + k - 1 - i) 12 (by omega) (rt_ixr (by omega)), pk_in i 6 hi, nm_r (rt_upd i (rt_get (4 * s + k - 1 - i) (rt_ixr (by omega)))) (nm_r (nI_1 i) (hw _ (rt_fill (P := fun j y => j < k → y = f2 (4 * s + k - 1 - j)) h (fun _ => rfl))))⟩)))
theorem rt_takeRule {f2 m0 : Nat → rt_F} {s k : Nat} (hs : s < 3) (hk : k ≤ 4) (ho : a1 s = nI k) (H : ∀ m, (∀ j, j < k → m j = f2 (4 * s + k - 1 - j)) → post (z, a1, rt_A f2, a3, rt_A m, a5, a6, a7, a8, a9, a10, a11, a12, a13)) : wpX_takeRule post (z, a1, rt_A f2, a3, rt_A m0, a5, a6, a7, a8, a9, a10, a11, a12, a13) (nI s) := by
  unfold wpX_takeRule
  exact ⟨pk_in s 3 hs, nm_r (e' := nI k) (by rw [nI_clamp (by omega)]; exact ho) (rt_tr9 hs hk H)⟩
/-! squarePower -/
theorem rt_sq2 {r0 : Nat → rt_F} (H : ∀ r : Nat → rt_F, (∀ j, j < 10 → r j = 0) → ∃ n, wX_squarePower_23 post z n 0 a1 a2 a3 a4 a5 a6 a7 (rt_A r) a9 a10 a11 a12 a13) : ∃ n, wX_squarePower_2 post z n 0 a1 a2 a3 a4 a5 a6 a7 (rt_A r0) a9 a10 a11 a12 a13 :=
  pk_loop (fun n i r => wX_squarePower_2 post z n (nI i) a1 a2 a3 a4 a5 a6 a7 (rt_A r) a9 a10 a11 a12 a13) (fun i r => ∀ j, j < i → r j = 0) 10 0 r0 (by omega) (fun j hj => absurd hj (by omega))
    (fun n r h => pk_le 10 10 (fun _ => H r h) (fun z => absurd z (by omega)))
    (fun n i r hi h hw => pk_le 10 i (fun z => absurd z (by omega)) (fun _ => ⟨pk_in i 10 hi, nm_r (rt_upd i rt_I0.symm) (nm_r (nI_1 i) (hw _ (rt_fill (P := fun _ y => y = 0) h rfl)))⟩))
theorem rt_sq33 {J : Int32 → (Nat → Int32) → (Nat → Int32) → (Nat → Int32) → (Nat → Int32) → (Nat → Int32) → (Nat → Int32) → (Nat → Int32) → (Nat → Int32) → (Nat → Int32) → (Nat → Int32) → (Nat → Int32) → (Nat → Int32) → (Nat → Int32) → Prop} {p w r0 B : Nat → rt_F} {k i : Nat} (hk : k ≤ 4) (hi : i < k + 1) (h0 : ∀ q, rt_E r0 w (k + k + 1) q = B q)
    (H : ∀ r, (∀ q, rt_E r w (k + k + 1) q = B q + p i * rt_E p w (k + 1) (q + i)) → J (nI (i + 1)) a1 a2 a3 a4 a5 (rt_A p) a7 (rt_A r) a9 a10 a11 a12 a13) : ∃ n, wX_squarePower_33 post J (nI i) (nI (k + 1)) n 0 a1 a2 a3 a4 a5 (rt_A p) a7 (rt_A r0) a9 a10 a11 a12 a13 := by
  refine pk_loop (fun n j r => wX_squarePower_33 post J (nI i) (nI (k + 1)) n (nI j) a1 a2 a3 a4 a5 (rt_A p) a7 (rt_A r) a9 a10 a11 a12 a13) (fun j r => ∀ q, rt_E r w (k + k + 1) q = B q + p i * rt_E p w j (q + i)) (k + 1) 0 r0 (by omega) (fun q => ?_)
    (fun n r h => pk_le (k + 1) (k + 1) (fun _ => nm_r (nI_1 i) (H r h)) (fun z => absurd z (by omega)))
    (fun n j r hj h hw => pk_le (k + 1) j (fun z => absurd z (by omega)) (fun _ => ⟨pk_in (i + j) 10 (by omega) (nI_add i j), pk_in i 5 (by omega), pk_in j 5 (by omega), rt_997, pk_in (i + j) 10 (by omega) (nI_add i j), nm_r (rt_upd (y := r (i + j) + p i * p j) (i + j) ?_ (nI_add i j)) (nm_r (nI_1 j) (hw _ (fun q => ?_)))⟩))
  · rw [h0, rt_E0]
    exact rt_al5 _ _
  · rw [rt_get (i + j) (nI_add i j), rt_get i, rt_get j]
    exact rt_mad _ _ _
  · rw [rt_Eu r w q _ (by omega), h q, rt_Es, show q + (i + j) = q + i + j by omega]
    exact rt_al4 _ _ _ _ _
theorem rt_sq23 {p w r0 T : Nat → rt_F} {k : Nat} (hk : k ≤ 4) (h0 : ∀ j, j < 10 → r0 j = 0) (hT : ∀ q, rt_S (fun t => p t * rt_E p w (k + 1) (q + t)) (k + 1) = T q)
    (H : ∀ r, (∀ q, rt_E r w (k + k + 1) q = T q) → ∃ n, wX_squarePower_96 post (nI (k + 1)) n (nI (k + k)) a1 a2 a3 a4 a5 (rt_A p) a7 (rt_A r) a9 a10 a11 a12 a13) : ∃ n, wX_squarePower_23 post (nI (k + 1)) n 0 a1 a2 a3 a4 a5 (rt_A p) a7 (rt_A r0) a9 a10 a11 a12 a13 :=
  pk_loop (fun n i r => wX_squarePower_23 post (nI (k + 1)) n (nI i) a1 a2 a3 a4 a5 (rt_A p) a7 (rt_A r) a9 a10 a11 a12 a13) (fun i r => ∀ q, rt_E r w (k + k + 1) q = rt_S (fun t => p t * rt_E p w (k + 1) (q + t)) i) (k + 1) 0 r0 (by omega) (fun q => by rw [rt_S0]; exact rt_Ez (fun i hi => h0 i (by omega)))
    (fun n r h => pk_le (k + 1) (k + 1) (fun _ => nm_r (rt_2k k) (H r (fun q => by rw [h q, hT]))) (fun z => absurd z (by omega)))
    (fun n i r hi h hw => pk_le (k + 1) i (fun z => absurd z (by omega)) (fun _ => rt_sq33 hk hi h (fun r' h' => hw r' (fun q => by rw [h' q, rt_Ss]))))
theorem rt_sq106 {J : Int32 → (Nat → Int32) → (Nat → Int32) → (Nat → Int32) → (Nat → Int32) → (Nat → Int32) → (Nat → Int32) → (Nat → Int32) → (Nat → Int32) → (Nat → Int32) → (Nat → Int32) → (Nat → Int32) → (Nat → Int32) → (Nat → Int32) → Prop} {m w r0 T : Nat → rt_F} {k d : Nat} (hk : k ≤ 4) (hd : d < k) (hm : ∀ q, rt_E m w (k + 1) q = w (q + (k + 1))) (h0 : ∀ q, rt_E r0 w (k + (d + 1) + 1) q = T q)
    (H : ∀ r, (∀ q, rt_E r w (k + d + 1) q = T q) → J (nI (k + d)) a1 a2 a3 (rt_A m) a5 a6 a7 (rt_A r) a9 a10 a11 a12 a13) : ∃ n, wX_squarePower_106 post J (nI (k + (d + 1))) (nI (k + 1)) n 0 a1 a2 a3 (rt_A m) a5 a6 a7 (rt_A r0) a9 a10 a11 a12 a13 := by
  refine pk_loop (fun n j r => wX_squarePower_106 post J (nI (k + (d + 1))) (nI (k + 1)) n (nI j) a1 a2 a3 (rt_A m) a5 a6 a7 (rt_A r) a9 a10 a11 a12 a13) (fun j r => r (k + (d + 1)) = r0 (k + (d + 1)) ∧ ∀ q, rt_E r w (k + d + 1) q = rt_E r0 w (k + d + 1) q + r0 (k + (d + 1)) * rt_E m w j (q + d)) (k + 1) 0 r0 (by omega) ⟨rfl, fun q => ?_⟩
    (fun n r h => pk_le (k + 1) (k + 1) (fun _ => nm_r (pk_m1 (k + d)) (H r (fun q => ?_))) (fun z => absurd z (by omega)))
    (fun n j r hj h hw => pk_le (k + 1) j (fun z => absurd z (by omega)) (fun _ => ⟨pk_in (d + j) 10 (by omega) (rt_ixd j), pk_in (k + (d + 1)) 10 (by omega), pk_in j 6 (by omega), rt_997, pk_in (d + j) 10 (by omega) (rt_ixd j), nm_r (rt_upd (y := r (d + j) + r (k + (d + 1)) * m j) (d + j) ?_ (rt_ixd j)) (nm_r (nI_1 j) (hw _ ⟨?_, fun q => ?_⟩))⟩))
  · rw [rt_E0]
    exact rt_al5 _ _
  · rw [h.2 q, hm, ← h0 q, rt_Es, show q + d + (k + 1) = q + (k + (d + 1)) by omega]
    rfl
  · rw [rt_get (d + j) (rt_ixd j), rt_get (k + (d + 1)), rt_get j]
    exact rt_mad _ _ _
  · rw [rt_un _ _ (by omega)]
    exact h.1
  · rw [rt_Eu r w q _ (by omega), h.2 q, h.1, rt_Es, show q + (d + j) = q + d + j by omega]
    exact rt_al4 _ _ _ _ _
theorem rt_sq96 {m w r0 T : Nat → rt_F} {k : Nat} (hk : k ≤ 4) (hm : ∀ q, rt_E m w (k + 1) q = w (q + (k + 1))) (h0 : ∀ q, rt_E r0 w (k + k + 1) q = T q)
    (H : ∀ r, (∀ q, rt_E r w (k + 1) q = T q) → ∃ n, wX_squarePower_172 post (nI (k + 1)) n 0 a1 a2 a3 (rt_A m) a5 a6 a7 (rt_A r) a9 a10 a11 a12 a13) : ∃ n, wX_squarePower_96 post (nI (k + 1)) n (nI (k + k)) a1 a2 a3 (rt_A m) a5 a6 a7 (rt_A r0) a9 a10 a11 a12 a13 :=
  ⟨_, pk_loopD (fun n d r => wX_squarePower_96 post (nI (k + 1)) n (nI (k + d)) a1 a2 a3 (rt_A m) a5 a6 a7 (rt_A r) a9 a10 a11 a12 a13) (fun d r => d ≤ k ∧ ∀ q, rt_E r w (k + d + 1) q = T q)
    (fun n r h => pk_lt (k + 0) (k + 1) (fun _ => H r h.2) (fun z => absurd z (by omega)))
    (fun n d r h hw => by
      have h1 : d + 1 ≤ k := h.1
      exact pk_lt (k + (d + 1)) (k + 1) (fun z => absurd z (by omega)) (fun _ => rt_sq106 hk (by omega) hm h.2 (fun r' h' => hw r' ⟨by omega, h'⟩))) k r0 ⟨Nat.le_refl k, h0⟩⟩
theorem rt_sq172 {p0 r : Nat → rt_F} {k : Nat} (hk : k ≤ 4) (H : ∀ p, (∀ j, j < k + 1 → p j = r j) → post (nI (k + 1), a1, a2, a3, a4, a5, rt_A p, a7, rt_A r, a9, a10, a11, a12, a13)) : ∃ n, wX_squarePower_172 post (nI (k + 1)) n 0 a1 a2 a3 a4 a5 (rt_A p0) a7 (rt_A r) a9 a10 a11 a12 a13 :=
  pk_loop (fun n i p => wX_squarePower_172 post (nI (k + 1)) n (nI i) a1 a2 a3 a4 a5 (rt_A p) a7 (rt_A r) a9 a10 a11 a12 a13) (fun i p => ∀ j, j < i → p j = r j) (k + 1) 0 p0 (by omega) (fun j hj => absurd hj (by omega))
    (fun n p h => pk_le (k + 1) (k + 1) (fun _ => H p h) (fun z => absurd z (by omega)))
    (fun n i p hi h hw => pk_le (k + 1) i (fun z => absurd z (by omega)) (fun _ => ⟨pk_in i 10 (by omega), pk_in i 5 (by omega), nm_r (rt_upd i (rt_get i)) (nm_r (nI_1 i) (hw _ (rt_fill (P := fun j y => y = r j) h rfl)))⟩))
theorem rt_square {m p w r0 : Nat → rt_F} {k M : Nat} (hk : k ≤ 4) (hm : ∀ q, rt_E m w (k + 1) q = w (q + (k + 1))) (hp : ∀ q, rt_E p w (k + 1) q = w (q + M))
    (H : ∀ p' r' : Nat → rt_F, (∀ q, rt_E p' w (k + 1) q = w (q + (M + M))) → post (nI (k + 1), a1, a2, a3, rt_A m, a5, rt_A p', a7, rt_A r', a9, a10, a11, a12, a13)) : wpX_squarePower post (nI (k + 1), a1, a2, a3, rt_A m, a5, rt_A p, a7, rt_A r0, a9, a10, a11, a12, a13) := by
  have hT : ∀ q, rt_S (fun t => p t * rt_E p w (k + 1) (q + t)) (k + 1) = w (q + (M + M)) := by
    intro q
    have e : rt_S (fun t => p t * rt_E p w (k + 1) (q + t)) (k + 1) = rt_E p w (k + 1) (q + M) := rt_Sc (fun t ht => by rw [hp, show q + t + M = q + M + t by omega])
    rw [e, hp, show q + M + M = q + (M + M) by omega]
  unfold wpX_squarePower
  exact rt_sq2 (fun r h => rt_sq23 (T := fun q => w (q + (M + M))) hk h hT (fun r1 h1 => rt_sq96 hk hm h1 (fun r2 h2 => rt_sq172 hk (fun p' h' => H p' r2 (fun q => by rw [rt_Ec h', h2 q])))))
/-! timesX -/
theorem rt_tx19 {m p : Nat → rt_F} {top : rt_F} {k : Nat} (hk : k ≤ 4) (H : ∀ p', (∀ t, t < k + 1 → p' t = rt_lo p t + top * m t) → post (nI (k + 1), a1, a2, a3, rt_A m, a5, rt_A p', a7, a8, a9, a10, a11, a12, a13)) : ∃ n, wX_timesX_19 post (rt_I top) (nI (k + 1)) n (nI k) a1 a2 a3 (rt_A m) a5 (rt_A p) a7 a8 a9 a10 a11 a12 a13 := by
  have t := pk_loopD (fun n d p' => wX_timesX_19 post (rt_I top) (nI (k + 1)) n (nI d + (-1)) a1 a2 a3 (rt_A m) a5 (rt_A p') a7 a8 a9 a10 a11 a12 a13) (fun d p' => d ≤ k + 1 ∧ (∀ t, t < d → p' t = p t) ∧ (∀ t, d ≤ t → t < k + 1 → p' t = rt_lo p t + top * m t))
    (fun n p' h => br_t (by decide) (H p' (fun t ht => h.2.2 t (by omega) ht)))
    (fun n d p' h hw => by
      have h1 : d + 1 ≤ k + 1 := h.1
      have h2 : ∀ t, t < d + 1 → p' t = p t := h.2.1
      have h3 : ∀ t, d + 1 ≤ t → t < k + 1 → p' t = rt_lo p t + top * m t := h.2.2
      show wX_timesX_19 post (rt_I top) (nI (k + 1)) (n + 1) (nI (d + 1) + (-1)) a1 a2 a3 (rt_A m) a5 (rt_A p') a7 a8 a9 a10 a11 a12 a13
      rw [pk_m1]
      have key : ∀ y : rt_F, y = rt_lo p d → wX_timesX_39 post (wX_timesX_19 post (rt_I top) (nI (k + 1)) n) (rt_I top) (nI d) (rt_I y) (nI (k + 1)) a1 a2 a3 (rt_A m) a5 (rt_A p') a7 a8 a9 a10 a11 a12 a13 := by
        intro y hy
        refine ⟨pk_in d 6 (by omega), rt_997, pk_in d 5 (by omega), nm_r (rt_upd (y := y + top * m d) d ?_) (nm_e (hw _ ⟨by omega, fun t ht => ?_, fun t ht htk => ?_⟩))⟩
        · rw [rt_get d]
          exact rt_mad _ _ _
        · rw [rt_un _ _ (by omega)]
          exact h2 t (by omega)
        · by_cases e : t = d
          · rw [e, rt_us, hy]
          · rw [rt_un _ _ e]
            exact h3 t (by omega) htk
      refine pk_lt d 0 (fun z => absurd z (by omega)) (fun _ => pk_le d 0 (fun z => ?_) (fun z => ⟨pk_in (d - 1) 5 (by omega) (pk_sub (b := 1) (by omega)), ?_⟩))
      · exact key 0 (by rw [show d = 0 by omega]; rfl)
      · have e1 : nI d - 1 = nI (d - 1) := pk_sub (b := 1) (by omega)
        rw [rt_get (d - 1) e1]
        refine key (p' (d - 1)) ?_
        obtain ⟨e, rfl⟩ : ∃ e, d = e + 1 := ⟨d - 1, by omega⟩
        exact h2 e (by omega)) (k + 1) p ⟨Nat.le_refl _, fun t _ => rfl, fun t ht htk => absurd ht (by omega)⟩
  have t' : wX_timesX_19 post (rt_I top) (nI (k + 1)) (k + 1 + 1) (nI (k + 1) + (-1)) a1 a2 a3 (rt_A m) a5 (rt_A p) a7 a8 a9 a10 a11 a12 a13 := t
  rw [pk_m1] at t'
  exact ⟨_, t'⟩
theorem rt_timesX {m p w : Nat → rt_F} {k M : Nat} (hk : k ≤ 4) (hm : ∀ q, rt_E m w (k + 1) q = w (q + (k + 1))) (hp : ∀ q, rt_E p w (k + 1) q = w (q + M))
    (H : ∀ p', (∀ q, rt_E p' w (k + 1) q = w (q + (M + 1))) → post (nI (k + 1), a1, a2, a3, rt_A m, a5, rt_A p', a7, a8, a9, a10, a11, a12, a13)) : wpX_timesX post (nI (k + 1), a1, a2, a3, rt_A m, a5, rt_A p, a7, a8, a9, a10, a11, a12, a13) := by
  have e : nI (k + 1) - 1 = nI k := nI_pred k
  unfold wpX_timesX
  refine ⟨pk_in k 5 (by omega) e, nm_r (rt_get k e) (nm_r e (rt_tx19 hk (fun p' h => H p' (fun q => ?_))))⟩
  rw [rt_Ex h (hm q), hp, show q + 1 + M = q + (M + 1) by omega]
/-! raise -/
def rt_one : Nat → rt_F
  | 0 => 1
  | _ + 1 => 0
theorem rt_E1 {p w : Nat → rt_F} {k q : Nat} (h : ∀ t, t < k + 1 → p t = rt_one t) : rt_E p w (k + 1) q = w q := by
  rw [rt_Ec h]
  unfold rt_E
  rw [rt_Sh, rt_Sz (f := fun i => rt_one (i + 1) * w (q + (i + 1))) (fun i _ => Fin.zero_mul _)]
  show (1 : rt_F) * w (q + 0) + 0 = w q
  rw [Nat.add_zero]
  grind
theorem rt_ra2 {x : Int32} {p0 : Nat → rt_F} {k : Nat} (hk : k ≤ 4) (H : ∀ p : Nat → rt_F, (∀ t, t < 5 → p t = rt_one t) → ∃ n, wX_raise_38 post x n 30 (nI (k + 1)) a1 a2 a3 a4 a5 (rt_A p) a7 a8 a9 a10 a11 a12 a13) : ∃ n, wX_raise_2 post x (nI (k + 1)) n 0 a1 a2 a3 a4 a5 (rt_A p0) a7 a8 a9 a10 a11 a12 a13 :=
  pk_loop (fun n i p => wX_raise_2 post x (nI (k + 1)) n (nI i) a1 a2 a3 a4 a5 (rt_A p) a7 a8 a9 a10 a11 a12 a13) (fun i p => ∀ t, t < i → p t = rt_one t) 5 0 p0 (by omega) (fun j hj => absurd hj (by omega))
    (fun n p h => pk_le 5 5 (fun _ => H p h) (fun z => absurd z (by omega)))
    (fun n i p hi h hw => pk_le 5 i (fun z => absurd z (by omega)) (fun _ => pk_eq i 0
      (fun e => pk_le (k + 1) 0 (fun z => absurd z (by omega)) (fun _ => ⟨pk_in i 5 hi, nm_r (rt_upd i rt_I1.symm) (nm_r (nI_1 i) (hw _ (rt_fill (P := fun t y => y = rt_one t) h (by rw [e]; rfl))))⟩))
      (fun e => ⟨pk_in i 5 hi, nm_r (rt_upd i rt_I0.symm) (nm_r (nI_1 i) (hw _ (rt_fill (P := fun t y => y = rt_one t) h (by obtain ⟨i', rfl⟩ : ∃ i', i = i' + 1 := ⟨i - 1, by omega⟩; rfl))))⟩)))
theorem rt_half (N d : Nat) : N / 2 ^ d = N / 2 ^ (d + 1) + N / 2 ^ (d + 1) + N / 2 ^ d % 2 := by
  rw [Nat.pow_succ, ← Nat.div_div_eq_div_mul]
  omega
theorem rt_ra38 {m w p0 r0 : Nat → rt_F} {k N : Nat} (hk : k ≤ 4) (hN : N < 2 ^ 31) (hm : ∀ q, rt_E m w (k + 1) q = w (q + (k + 1))) (h0 : ∀ q, rt_E p0 w (k + 1) q = w q)
    (H : ∀ p r : Nat → rt_F, (∀ q, rt_E p w (k + 1) q = w (q + N)) → post (nI (k + 1), a1, a2, a3, rt_A m, a5, rt_A p, a7, rt_A r, a9, a10, a11, a12, a13)) : ∃ n, wX_raise_38 post (nI N) n 30 (nI (k + 1)) a1 a2 a3 (rt_A m) a5 (rt_A p0) a7 (rt_A r0) a9 a10 a11 a12 a13 := by
  have t := pk_loopD (σ := (Nat → rt_F) × (Nat → rt_F)) (fun n d s => wX_raise_38 post (nI N) n (nI d + (-1)) (nI (k + 1)) a1 a2 a3 (rt_A m) a5 (rt_A s.1) a7 (rt_A s.2) a9 a10 a11 a12 a13) (fun d s => d ≤ 31 ∧ ∀ q, rt_E s.1 w (k + 1) q = w (q + N / 2 ^ d))
    (fun n s h => br_t (by decide) (H s.1 s.2 (fun q => by rw [h.2 q, Nat.pow_zero, Nat.div_one])))
    (fun n d s h hw => by
      have h1 : d + 1 ≤ 31 := h.1
      have h2 : ∀ q, rt_E s.1 w (k + 1) q = w (q + N / 2 ^ (d + 1)) := h.2
      have hh := rt_half N d
      show wX_raise_38 post (nI N) (n + 1) (nI (d + 1) + (-1)) (nI (k + 1)) a1 a2 a3 (rt_A m) a5 (rt_A s.1) a7 (rt_A s.2) a9 a10 a11 a12 a13
      rw [pk_m1]
      refine pk_lt d 0 (fun z => absurd z (by omega)) (fun _ => pk_le (k + 1) 0 (fun z => absurd z (by omega)) (fun _ => rt_square hk hm h2 (fun p r hpr => ?_)))
      refine pk_eq (N / 2 ^ d % 2) 1 (fun e => rt_timesX hk hm hpr (fun p' hp' => nm_e (hw (p', r) ⟨by omega, fun q => ?_⟩))) (fun e => nm_e (hw (p, r) ⟨by omega, fun q => ?_⟩)) (rt_bit hN (by omega)) rfl (by omega) (by omega)
      · show rt_E p' w (k + 1) q = w (q + N / 2 ^ d)
        rw [hp' q, hh, e]
      · show rt_E p w (k + 1) q = w (q + N / 2 ^ d)
        rw [hpr q, hh, show N / 2 ^ d % 2 = 0 by omega, Nat.add_zero (N / 2 ^ (d + 1) + N / 2 ^ (d + 1))]) 31 (p0, r0) ⟨Nat.le_refl _, fun q => by rw [show N / 2 ^ 31 = 0 from Nat.div_eq_of_lt hN, Nat.add_zero]; exact h0 q⟩
  have t' : wX_raise_38 post (nI N) (31 + 1) (nI (30 + 1) + (-1)) (nI (k + 1)) a1 a2 a3 (rt_A m) a5 (rt_A p0) a7 (rt_A r0) a9 a10 a11 a12 a13 := t
  rw [pk_m1] at t'
  exact ⟨_, t'⟩
theorem rt_raise {m w p0 r0 : Nat → rt_F} {k N : Nat} (hk : k ≤ 4) (hN : N < 2 ^ 31) (hm : ∀ q, rt_E m w (k + 1) q = w (q + (k + 1)))
    (H : ∀ p r : Nat → rt_F, (∀ q, rt_E p w (k + 1) q = w (q + N)) → post (nI (k + 1), a1, a2, a3, rt_A m, a5, rt_A p, a7, rt_A r, a9, a10, a11, a12, a13)) : wpX_raise post (nI (k + 1), a1, a2, a3, rt_A m, a5, rt_A p0, a7, rt_A r0, a9, a10, a11, a12, a13) (nI N) := by
  unfold wpX_raise
  exact rt_ra2 hk (fun p hp => rt_ra38 hk hN hm (fun q => rt_E1 (fun t ht => hp t (by omega))) H)
end
end
section
section
variable {post : Int32 → St2 → Prop} {z : Int32} {a1 a2 a3 a4 a5 a6 a7 a8 a9 a10 a11 a12 a13 : Nat → Int32}
theorem rt_ta44 {f3 p : Nat → rt_F} {s k : Nat} {v : rt_F} (hs : s < 3) (hk : k ≤ 3) (hv : rt_S (fun t => p t * f3 (4 * s + t)) (k + 1) = v) (H : post (rt_I v) (nI (k + 1), a1, a2, rt_A f3, a4, a5, rt_A p, a7, a8, a9, a10, a11, a12, a13)) : ∃ n, wX_termAt_44 post (nI s) (nI (k + 1)) a1 a2 (rt_A f3) a4 a5 (rt_A p) a7 a8 a9 a10 a11 a12 a13 n 0 0 := by
  refine pk_loop (σ := Unit) (fun n i _ => wX_termAt_44 post (nI s) (nI (k + 1)) a1 a2 (rt_A f3) a4 a5 (rt_A p) a7 a8 a9 a10 a11 a12 a13 n (rt_I (rt_S (fun t => p t * f3 (4 * s + t)) i)) (nI i)) (fun _ _ => True) (k + 1) 0 () (by omega) trivial
    (fun n _ _ => pk_le (k + 1) (k + 1) (fun _ => ?_) (fun z => absurd z (by omega)))
    (fun n i _ hi _ hw => pk_le (k + 1) i (fun z => absurd z (by omega)) (fun _ => ⟨pk_in i 5 (by omega), pk_in (4 * s + i) 12 (by omega) (rt_ix4 s i), rt_997, nm_r (e' := rt_I (rt_S (fun t => p t * f3 (4 * s + t)) (i + 1))) ?_ (nm_r (nI_1 i) (hw () trivial))⟩))
  · rw [hv]
    exact H
  · rw [rt_get i, rt_get (4 * s + i) (rt_ix4 s i)]
    exact rt_mad _ _ _
/-- the sequence w is the one in place s: its first terms, its rule -/
def rt_is (f2 f3 w : Nat → rt_F) (s k : Nat) : Prop := (∀ i, i < k + 1 → w i = f3 (4 * s + i)) ∧ (∀ q, w (q + (k + 1)) = rt_S (fun j => f2 (4 * s + (k + 1) - 1 - j) * w (q + j)) (k + 1))
theorem rt_isE {f2 f3 w m : Nat → rt_F} {s k : Nat} (h : rt_is f2 f3 w s k) (hm : ∀ j, j < k + 1 → m j = f2 (4 * s + (k + 1) - 1 - j)) (q : Nat) : rt_E m w (k + 1) q = w (q + (k + 1)) := by
  rw [h.2 q]
  exact rt_Sc (fun j hj => by rw [hm j hj])
theorem rt_isV {f2 f3 w p : Nat → rt_F} {s k n : Nat} (h : rt_is f2 f3 w s k) (hp : ∀ q, rt_E p w (k + 1) q = w (q + n)) : rt_S (fun t => p t * f3 (4 * s + t)) (k + 1) = w n := by
  have e : rt_S (fun t => p t * f3 (4 * s + t)) (k + 1) = rt_E p w (k + 1) 0 := rt_Sc (fun t ht => by rw [Nat.zero_add, h.1 t ht])
  rw [e, hp, Nat.zero_add]
theorem rt_termAt {f2 f3 w m0 p0 r0 : Nat → rt_F} {s k n : Nat} (hs : s < 3) (hk : k ≤ 3) (hn : n < 2 ^ 31) (ho : a1 s = nI (k + 1)) (hw : rt_is f2 f3 w s k)
    (H : ∀ (z' : Int32) (m p r : Nat → rt_F), post (rt_I (w n)) (z', a1, rt_A f2, rt_A f3, rt_A m, a5, rt_A p, a7, rt_A r, a9, a10, a11, a12, a13)) : wpX_termAt post (z, a1, rt_A f2, rt_A f3, rt_A m0, a5, rt_A p0, a7, rt_A r0, a9, a10, a11, a12, a13) (nI s) (nI n) := by
  unfold wpX_termAt
  refine ⟨pk_in s 3 hs, nm_r (e' := nI (k + 1)) (by rw [nI_clamp (by omega)]; exact ho) (pk_le (k + 1) n (fun h => rt_takeRule hs (by omega) ho (fun m hm => rt_raise (w := w) (by omega) hn (rt_isE hw hm) (fun p r hp => rt_ta44 hs hk (rt_isV hw hp) (H _ m p r)))) (fun h => ⟨pk_in (4 * s + n) 12 (by omega) (rt_ix4 s n), ?_⟩))⟩
  rw [rt_get (4 * s + n) (rt_ix4 s n), ← hw.1 n h]
  exact H z m0 p0 r0
theorem rt_ft9 {f5 p : Nat → rt_F} {k : Nat} {v : rt_F} (hk : k ≤ 4) (hv : rt_S (fun t => p t * f5 t) (k + 1) = v) (H : post (rt_I v) (nI (k + 1), a1, a2, a3, a4, rt_A f5, rt_A p, a7, a8, a9, a10, a11, a12, a13)) : ∃ n, wX_farTerm_9 post (nI (k + 1)) a1 a2 a3 a4 (rt_A f5) (rt_A p) a7 a8 a9 a10 a11 a12 a13 n 0 0 := by
  refine pk_loop (σ := Unit) (fun n i _ => wX_farTerm_9 post (nI (k + 1)) a1 a2 a3 a4 (rt_A f5) (rt_A p) a7 a8 a9 a10 a11 a12 a13 n (rt_I (rt_S (fun t => p t * f5 t) i)) (nI i)) (fun _ _ => True) (k + 1) 0 () (by omega) trivial
    (fun n _ _ => pk_le (k + 1) (k + 1) (fun _ => ?_) (fun z => absurd z (by omega)))
    (fun n i _ hi _ hw => pk_le (k + 1) i (fun z => absurd z (by omega)) (fun _ => ⟨pk_in i 5 (by omega), pk_in i 5 (by omega), rt_997, nm_r (e' := rt_I (rt_S (fun t => p t * f5 t) (i + 1))) ?_ (nm_r (nI_1 i) (hw () trivial))⟩))
  · rw [hv]
    exact H
  · rw [rt_get i, rt_get i]
    exact rt_mad _ _ _
theorem rt_farTerm {f5 w m p0 r0 : Nat → rt_F} {k n : Nat} (hk : k ≤ 4) (hn : n < 2 ^ 31) (hm : ∀ q, rt_E m w (k + 1) q = w (q + (k + 1))) (h5 : ∀ i, i < k + 1 → f5 i = w i)
    (H : ∀ (p r : Nat → rt_F), post (rt_I (w n)) (nI (k + 1), a1, a2, a3, rt_A m, rt_A f5, rt_A p, a7, rt_A r, a9, a10, a11, a12, a13)) : wpX_farTerm post (nI (k + 1), a1, a2, a3, rt_A m, rt_A f5, rt_A p0, a7, rt_A r0, a9, a10, a11, a12, a13) (nI n) := by
  unfold wpX_farTerm
  refine rt_raise (w := w) hk hn hm (fun p r hp => rt_ft9 hk (v := w n) ?_ (H p r))
  have e : rt_S (fun t => p t * f5 t) (k + 1) = rt_E p w (k + 1) 0 := rt_Sc (fun t ht => by rw [Nat.zero_add, h5 t ht])
  rw [e, hp, Nat.zero_add]
end
section
variable {post : St2 → Prop} {z : Int32} {a1 a2 a3 a4 a5 a6 a7 a8 a9 a10 a11 a12 a13 : Nat → Int32}
/-! timesLess -/
def rt_tl (m : Nat → rt_F) (k j : Nat) : rt_F := rt_lo m j - (if j < k then m j else 0) + (if j = k then 1 else 0)
theorem rt_tl81 {m0 sq : Nat → rt_F} {k : Nat} (hk : k ≤ 4) (H : ∀ m, (∀ j, j < k + 1 → m j = sq j) → post (z, a1, a2, a3, rt_A m, a5, a6, rt_A sq, a8, a9, a10, a11, a12, a13)) : ∃ n, wX_timesLess_81 post (nI k) z n 0 a1 a2 a3 (rt_A m0) a5 a6 (rt_A sq) a8 a9 a10 a11 a12 a13 :=
  pk_loop (fun n i m => wX_timesLess_81 post (nI k) z n (nI i) a1 a2 a3 (rt_A m) a5 a6 (rt_A sq) a8 a9 a10 a11 a12 a13) (fun i m => ∀ j, j < i → m j = sq j) (k + 1) 0 m0 (by omega) (fun j hj => absurd hj (by omega))
    (fun n m h => pk_lt k (k + 1) (fun _ => H m h) (fun z => absurd z (by omega)))
    (fun n i m hi h hw => pk_lt k i (fun z => absurd z (by omega)) (fun _ => ⟨pk_in i 5 (by omega), pk_in i 6 (by omega), nm_r (rt_upd i (rt_get i)) (nm_r (nI_1 i) (hw _ (rt_fill (P := fun j y => y = sq j) h rfl)))⟩))
theorem rt_tl2 {m sq0 : Nat → rt_F} {k : Nat} (hk : k ≤ 4) (H : ∀ sq, (∀ t, t < k + 1 → sq t = rt_tl m k t) → ∃ n, wX_timesLess_81 post (nI k) z n 0 a1 a2 a3 (rt_A m) a5 a6 (rt_A sq) a8 a9 a10 a11 a12 a13) : ∃ n, wX_timesLess_2 post (nI k) z n (nI k) a1 a2 a3 (rt_A m) a5 a6 (rt_A sq0) a8 a9 a10 a11 a12 a13 := by
  have t := pk_loopD (fun n d sq => wX_timesLess_2 post (nI k) z n (nI d + (-1)) a1 a2 a3 (rt_A m) a5 a6 (rt_A sq) a8 a9 a10 a11 a12 a13) (fun d sq => d ≤ k + 1 ∧ (∀ t, d ≤ t → t < k + 1 → sq t = rt_tl m k t))
    (fun n sq h => br_t (by decide) (H sq (fun t ht => h.2 t (by omega) ht)))
    (fun n d sq h hw => by
      have h1 : d + 1 ≤ k + 1 := h.1
      have h3 : ∀ t, d + 1 ≤ t → t < k + 1 → sq t = rt_tl m k t := h.2
      show wX_timesLess_2 post (nI k) z (n + 1) (nI (d + 1) + (-1)) a1 a2 a3 (rt_A m) a5 a6 (rt_A sq) a8 a9 a10 a11 a12 a13
      rw [pk_m1]
      have key50 : ∀ x y o : rt_F, x - y + o = rt_tl m k d → wX_timesLess_50 post (wX_timesLess_2 post (nI k) z n) (nI k) (nI d) (rt_I x) (rt_I y) (rt_I o) z a1 a2 a3 (rt_A m) a5 a6 (rt_A sq) a8 a9 a10 a11 a12 a13 := by
        intro x y o hx
        refine ⟨rt_997, pk_in d 5 (by omega), nm_r (rt_upd (y := x - y + o) d (rt_les x y o)) (nm_e (hw _ ⟨by omega, fun t ht htk => ?_⟩))⟩
        by_cases e : t = d
        · rw [e, rt_us, hx]
        · rw [rt_un _ _ e]
          exact h3 t (by omega) htk
      have key22 : ∀ x : rt_F, x = rt_lo m d → wX_timesLess_22 post (wX_timesLess_2 post (nI k) z n) (nI k) (nI d) (rt_I x) z a1 a2 a3 (rt_A m) a5 a6 (rt_A sq) a8 a9 a10 a11 a12 a13 := by
        intro x hx
        refine pk_le k d (fun g => pk_eq d k (fun e => key50 x 0 1 ?_) (fun e => absurd e (by omega))) (fun g => ⟨pk_in d 6 (by omega), ?_⟩)
        · unfold rt_tl
          rw [if_neg (by omega), if_pos e, hx]
        · rw [rt_get d]
          refine pk_eq d k (fun e => absurd e (by omega)) (fun e => key50 x (m d) 0 ?_)
          unfold rt_tl
          rw [if_pos g, if_neg e, hx]
      refine pk_lt d 0 (fun z => absurd z (by omega)) (fun _ => pk_le d 0 (fun z => ?_) (fun z => ⟨pk_in (d - 1) 6 (by omega) (pk_sub (b := 1) (by omega)), ?_⟩))
      · exact key22 0 (by rw [show d = 0 by omega]; rfl)
      · have e1 : nI d - 1 = nI (d - 1) := pk_sub (b := 1) (by omega)
        rw [rt_get (d - 1) e1]
        refine key22 (m (d - 1)) ?_
        obtain ⟨e, rfl⟩ : ∃ e, d = e + 1 := ⟨d - 1, by omega⟩
        rfl) (k + 1) sq0 ⟨Nat.le_refl _, fun t ht htk => absurd ht (by omega)⟩
  have t' : wX_timesLess_2 post (nI k) z (k + 1 + 1) (nI (k + 1) + (-1)) a1 a2 a3 (rt_A m) a5 a6 (rt_A sq0) a8 a9 a10 a11 a12 a13 := t
  rw [pk_m1] at t'
  exact ⟨_, t'⟩
theorem rt_timesLess {m0 sq0 : Nat → rt_F} {k : Nat} (hk : k ≤ 4) (H : ∀ m sq : Nat → rt_F, (∀ j, j < k + 1 → m j = rt_tl m0 k j) → post (z, a1, a2, a3, rt_A m, a5, a6, rt_A sq, a8, a9, a10, a11, a12, a13)) : wpX_timesLess post (z, a1, a2, a3, rt_A m0, a5, a6, rt_A sq0, a8, a9, a10, a11, a12, a13) (nI k) := by
  unfold wpX_timesLess
  exact rt_tl2 hk (fun sq hsq => rt_tl81 hk (fun m hm => H m sq (fun j hj => by rw [hm j hj, hsq j hj])))
end
section
variable {post : Int32 → St2 → Prop} {z : Int32} {a1 a2 a3 a4 a5 a6 a7 a8 a9 a10 a11 a12 a13 : Nat → Int32}
theorem rt_good {post : Int32 → Prop} {u : St0} {s : Nat} (hs : s < 3) (H : post 1) : wpX_isGood post u (nI s) :=
  pk_lt s 0 (fun z => absurd z (by omega)) (fun _ => pk_lt 2 s (fun z => absurd z (by omega)) (fun _ => H))
/-- sum: the first n + 1 terms added -/
theorem rt_sum {f2 f3 w m0 h0 p0 q0 r0 : Nat → rt_F} {s k n : Nat} (hs : s < 3) (hk : k ≤ 3) (hn : n ≤ 1000000) (ho : a1 s = nI (k + 1)) (hw : rt_is f2 f3 w s k)
    (hS : ∀ m, (∀ j, j < k + 1 → m j = f2 (4 * s + (k + 1) - 1 - j)) → ∀ q, rt_E (rt_tl m (k + 1)) (fun t => rt_S w (t + 1)) (k + 1 + 1) q = rt_S w (q + (k + 1 + 1) + 1))
    (H : ∀ (z' : Int32) (m h p sq r : Nat → rt_F), post (rt_I (rt_S w (n + 1))) (z', a1, rt_A f2, rt_A f3, rt_A m, rt_A h, rt_A p, rt_A sq, rt_A r, a9, a10, a11, a12, a13)) : wpX_sum post (z, a1, rt_A f2, rt_A f3, rt_A m0, rt_A h0, rt_A p0, rt_A q0, rt_A r0, a9, a10, a11, a12, a13) (nI s) (nI n) := by
  unfold wpX_sum
  refine rt_good hs (br_f (by decide) (pk_lt n 0 (fun z => absurd z (by omega)) (fun _ => pk_le n 1000000 (fun _ => ⟨pk_in s 3 hs, nm_r (e' := nI (k + 1)) (by rw [nI_clamp (by omega)]; exact ho) ?_⟩) (fun z => absurd z (by omega)))))
  refine pk_loop (σ := Int32 × (Nat → rt_F) × (Nat → rt_F) × (Nat → rt_F) × (Nat → rt_F)) (fun n' i t => wX_sum_35 post (nI s) (nI n) (nI (k + 1)) n' (rt_I (rt_S w i)) (nI i) t.1 a1 (rt_A f2) (rt_A f3) (rt_A t.2.1) (rt_A t.2.2.1) (rt_A t.2.2.2.1) (rt_A q0) (rt_A t.2.2.2.2) a9 a10 a11 a12 a13) (fun i t => ∀ j, j < i → t.2.2.1 j = rt_S w (j + 1)) (k + 1 + 1) 0 (z, m0, h0, p0, r0) (by omega) (fun j hj => absurd hj (by omega))
    (fun n' t h => pk_lt (k + 1) (k + 1 + 1) (fun _ => ?_) (fun z => absurd z (by omega)))
    (fun n' i t hi h hw' => pk_lt (k + 1) i (fun z => absurd z (by omega)) (fun _ => rt_termAt hs hk (by omega) ho hw (fun z' m p r => ⟨rt_997, nm_r (e' := rt_I (rt_S w (i + 1))) (rt_add _ _) ⟨pk_in i 5 (by omega), nm_r (rt_upd i rfl) (nm_r (nI_1 i) (hw' (z', m, _, p, r) (rt_fill (P := fun j y => y = rt_S w (j + 1)) h rfl)))⟩⟩)))
  refine rt_takeRule hs (by omega) ho (fun m hm => rt_timesLess (by omega) (fun m' sq hm' => nm_r (nI_1 (k + 1)) (rt_farTerm (w := fun t => rt_S w (t + 1)) (by omega) (by omega) (fun q => ?_) h (fun p r => H _ m' _ p sq r))))
  rw [rt_Ec hm']
  exact hS m hm q
/-- term -/
theorem rt_term {f2 f3 w m0 p0 r0 : Nat → rt_F} {s k n : Nat} (hs : s < 3) (hk : k ≤ 3) (hn : n < 2 ^ 31) (ho : a1 s = nI (k + 1)) (hw : rt_is f2 f3 w s k)
    (H : ∀ (z' : Int32) (m p r : Nat → rt_F), post (rt_I (w n)) (z', a1, rt_A f2, rt_A f3, rt_A m, a5, rt_A p, a7, rt_A r, a9, a10, a11, a12, a13)) : wpX_term post (z, a1, rt_A f2, rt_A f3, rt_A m0, a5, rt_A p0, a7, rt_A r0, a9, a10, a11, a12, a13) (nI s) (nI n) := by
  unfold wpX_term
  exact rt_good hs (br_f (by decide) (pk_le 0 n (fun _ => rt_termAt hs hk hn ho hw H) (fun z => absurd z (by omega))))
end
end
section
theorem rt_pwe (x i : Nat) (h : 995 / 2 ^ i % 2 = 1) : x ^ (995 % 2 ^ i) * x ^ (2 ^ i) = x ^ (995 % 2 ^ (i + 1)) := by
  rw [Nat.mod_pow_succ, h, Nat.mul_one, Nat.pow_add]
theorem rt_pwz (x i : Nat) (h : ¬ 995 / 2 ^ i % 2 = 1) : x ^ (995 % 2 ^ i) = x ^ (995 % 2 ^ (i + 1)) := by
  rw [Nat.mod_pow_succ, show 995 / 2 ^ i % 2 = 0 by omega, Nat.mul_zero, Nat.add_zero]
theorem rt_pwd (x i : Nat) : x ^ (2 ^ i) * x ^ (2 ^ i) = x ^ (2 ^ (i + 1)) := by
  rw [← Nat.pow_add, Nat.pow_succ, Nat.mul_two]
theorem rt_inverse {post : Int32 → Prop} {u : St0} {x : rt_F} (H : post (rt_I (rt_inv x))) : wpX_inverse post u (rt_I x) := by
  have t := pk_loop (σ := Unit) (fun n i _ => wX_inverse_11 post 995 n (rt_I (rt_o (x.val ^ (995 % 2 ^ i)))) (rt_I (rt_o (x.val ^ (2 ^ i)))) (nI i)) (fun _ _ => True) 10 0 () (by omega) trivial
    (fun n _ _ => pk_le 10 10 (fun _ => by rw [show 995 % 2 ^ 10 = 995 by decide]; exact H) (fun z => absurd z (by omega)))
    (fun n i _ hi _ hw => by
      have key : ∀ y : rt_F, y = rt_o (x.val ^ (995 % 2 ^ (i + 1))) → wX_inverse_36 post (wX_inverse_11 post 995 n) (rt_I y) (rt_I (rt_o (x.val ^ (2 ^ i)))) 995 (nI i) := by
        intro y hy
        refine ⟨rt_997, nm_r (e' := rt_I (rt_o (x.val ^ (2 ^ (i + 1))))) ?_ (nm_r (nI_1 i) ?_)⟩
        · rw [rt_mul, ← rt_oMu, rt_pwd]
        · rw [hy]
          exact hw () trivial
      refine pk_le 10 i (fun z => absurd z (by omega)) (fun _ => pk_eq (995 / 2 ^ i % 2) 1 (fun e => ⟨rt_997, nm_r (rt_mul _ _) (key _ ?_)⟩) (fun e => key _ ?_) (rt_bit (N := 995) (by omega) (by omega)) rfl (by omega) (by omega))
      · rw [← rt_oMu, rt_pwe _ _ e]
      · rw [rt_pwz _ _ e])
  obtain ⟨n, hn⟩ := t
  have hn' : wX_inverse_11 post 995 n (rt_I (rt_o (x.val ^ (995 % 2 ^ 0)))) (rt_I (rt_o (x.val ^ (2 ^ 0)))) (nI 0) := hn
  have e1 : rt_o (x.val ^ (995 % 2 ^ 0)) = 1 := by
    rw [show 995 % 2 ^ 0 = 0 by decide, Nat.pow_zero]
    rfl
  have e2 : rt_o (x.val ^ (2 ^ 0)) = x := by
    rw [Nat.pow_zero, Nat.pow_one]
    exact Fin.ext (Nat.mod_eq_of_lt x.isLt)
  rw [e1, e2] at hn'
  exact ⟨n, hn'⟩
section
variable {post : St2 → Prop} {z : Int32} {a1 a2 a3 a4 a5 a6 a7 a8 a9 a10 a11 a12 a13 : Nat → Int32}
theorem rt_rp25 {s c b c0 : Nat → rt_F} {f : rt_F} {g o : Nat} (hg : 1 ≤ g) (hgo : g + o ≤ 40) (h0 : rt_Rp s c b c0 f g 0) (H : ∀ c', rt_Rp s c b c' f g o → post (z, a1, a2, a3, a4, a5, a6, a7, a8, a9, rt_A c', rt_A b, a12, a13)) : ∃ n, wX_repair_25 post (rt_I f) (nI g) (nI o) z n 1 a1 a2 a3 a4 a5 a6 a7 a8 a9 (rt_A c0) (rt_A b) a12 a13 := by
  have e0 : ∀ t, nI (t + 1) - 1 = nI t := nI_pred
  have e1 : ∀ t, (nI g + nI (t + 1)) - 1 = nI (g + t) := fun t => by rw [nI_add]; exact nI_pred (g + t)
  refine pk_loop (fun n t c' => wX_repair_25 post (rt_I f) (nI g) (nI o) z n (nI (t + 1)) a1 a2 a3 a4 a5 a6 a7 a8 a9 (rt_A c') (rt_A b) a12 a13) (fun t c' => rt_Rp s c b c' f g t) o 0 c0 (by omega) h0
    (fun n c' h => pk_lt o (o + 1) (fun _ => H c' h) (fun z => absurd z (by omega)))
    (fun n t c' ht h hw => pk_lt o (t + 1) (fun z => absurd z (by omega)) (fun _ => pk_lt 40 (g + (t + 1)) (fun z => absurd z (by omega)) (fun _ => nm_r (e1 t) ⟨pk_in (g + t) 40 (by omega), pk_in t 40 (by omega) (e0 t), rt_997, pk_in (g + t) 40 (by omega), nm_r (rt_upd (y := c' (g + t) - f * b t) (g + t) ?_) (nm_r (nI_1 (t + 1)) (hw _ (rt_RpS hg h)))⟩) rfl (nI_add g (t + 1))))
  rw [rt_get (g + t), rt_get t (e0 t)]
  exact rt_mms _ _ _
theorem rt_repair {s c b : Nat → rt_F} {f : rt_F} {g o : Nat} (hg : 1 ≤ g) (hgo : g + o ≤ 40) (H : ∀ c', rt_Rp s c b c' f g o → post (z, a1, a2, a3, a4, a5, a6, a7, a8, a9, rt_A c', rt_A b, a12, a13)) : wpX_repair post (z, a1, a2, a3, a4, a5, a6, a7, a8, a9, rt_A c, rt_A b, a12, a13) (rt_I f) (nI g) (nI o) := by
  have e : nI g - 1 = nI (g - 1) := pk_sub (b := 1) hg
  unfold wpX_repair
  refine ⟨pk_in (g - 1) 40 (by omega) e, rt_997, pk_in (g - 1) 40 (by omega) e, nm_r (rt_upd (y := c (g - 1) + f) (g - 1) ?_ e) (rt_rp25 hg hgo (rt_Rp0 s c b f hg) H)⟩
  rw [rt_get (g - 1) e]
  exact rt_add _ _
theorem rt_takeOlder {b0 kp : Nat → rt_F} (H : ∀ b, (∀ j, j < 40 → b j = kp j) → post (z, a1, a2, a3, a4, a5, a6, a7, a8, a9, a10, rt_A b, rt_A kp, a13)) : wpX_takeOlder post (z, a1, a2, a3, a4, a5, a6, a7, a8, a9, a10, rt_A b0, rt_A kp, a13) := by
  unfold wpX_takeOlder
  exact pk_loop (fun n i b => wX_takeOlder_2 post z n (nI i) a1 a2 a3 a4 a5 a6 a7 a8 a9 a10 (rt_A b) (rt_A kp) a13) (fun i b => ∀ j, j < i → b j = kp j) 40 0 b0 (by omega) (fun j hj => absurd hj (by omega))
    (fun n b h => pk_le 40 40 (fun _ => H b h) (fun z => absurd z (by omega)))
    (fun n i b hi h hw => pk_le 40 i (fun z => absurd z (by omega)) (fun _ => ⟨pk_in i 40 hi, pk_in i 40 hi, nm_r (rt_upd i (rt_get i)) (nm_r (nI_1 i) (hw _ (rt_fill (P := fun j y => y = kp j) h rfl)))⟩))
end
section
variable {post : Int32 → St2 → Prop} {z x1 : Int32} {a1 a2 a3 a4 a5 a6 a7 a8 a9 a10 a11 a12 a13 : Nat → Int32}
theorem rt_me118 {J : Int32 → Int32 → Int32 → Int32 → Int32 → Int32 → (Nat → Int32) → (Nat → Int32) → (Nat → Int32) → (Nat → Int32) → (Nat → Int32) → (Nat → Int32) → (Nat → Int32) → (Nat → Int32) → (Nat → Int32) → (Nat → Int32) → (Nat → Int32) → (Nat → Int32) → (Nat → Int32) → Prop} {s c b k0 : Nat → rt_F} {n L o g : Nat} {e : rt_F} (hb : rt_BM s n L o g e c b) (hn : n < 32) (hd : rt_D c s n ≠ 0)
    (H : ∀ (L' o' g' : Nat) (e' : rt_F) (c' b' k' : Nat → rt_F), rt_BM s (n + 1) L' o' g' e' c' b' → J (nI L') (nI o') (rt_I e') (nI g') (nI (n + 1)) z a1 a2 a3 a4 a5 a6 a7 a8 (rt_A s) (rt_A c') (rt_A b') (rt_A k') a13) :
    ∃ fu, wX_mend_118 post J x1 (nI L) (nI o) (rt_I e) (nI g) (nI n) (rt_I (rt_D c s n)) z fu 0 a1 a2 a3 a4 a5 a6 a7 a8 (rt_A s) (rt_A c) (rt_A b) (rt_A k0) a13 := by
  have b1 : 1 ≤ g := hb.1
  have b2 : g + o + L = n + 1 := hb.2.1
  refine pk_loop (fun fu i k => wX_mend_118 post J x1 (nI L) (nI o) (rt_I e) (nI g) (nI n) (rt_I (rt_D c s n)) z fu (nI i) a1 a2 a3 a4 a5 a6 a7 a8 (rt_A s) (rt_A c) (rt_A b) (rt_A k) a13) (fun i k => ∀ j, j < i → k j = c j) 40 0 k0 (by omega) (fun j hj => absurd hj (by omega))
    (fun fu k h => pk_le 40 40 (fun _ => rt_inverse ⟨rt_997, ?_⟩) (fun z => absurd z (by omega)))
    (fun fu i k hi h hw => pk_le 40 i (fun z => absurd z (by omega)) (fun _ => ⟨pk_in i 40 hi, pk_in i 40 hi, nm_r (rt_upd i (rt_get i)) (nm_r (nI_1 i) (hw _ (rt_fill (P := fun j y => y = c j) h rfl)))⟩))
  rw [rt_mul]
  refine rt_repair (s := s) b1 (by omega) (fun c' hr => ?_)
  refine pk_lt n (2 * L) (fun hl => nm_r (nI_1 g) (nm_r (nI_1 n) (H _ _ _ _ _ _ k (rt_BMk hb (by omega) rfl hr hl)))) (fun hl => nm_r (e' := nI (n + 1 - L)) ?_ (rt_takeOlder (fun b' hb' => nm_r (nI_1 n) (H _ _ _ _ _ _ k (rt_BMg hb (by omega) hd rfl hr hl (fun i hi => by rw [hb' i hi, h i hi])))))) rfl (pk_mul 2 L)
  rw [nI_1]
  exact pk_sub (by omega)
theorem rt_me59 {J : Int32 → Int32 → Int32 → Int32 → Int32 → Int32 → (Nat → Int32) → (Nat → Int32) → (Nat → Int32) → (Nat → Int32) → (Nat → Int32) → (Nat → Int32) → (Nat → Int32) → (Nat → Int32) → (Nat → Int32) → (Nat → Int32) → (Nat → Int32) → (Nat → Int32) → (Nat → Int32) → Prop} {s c b k0 : Nat → rt_F} {n L o g : Nat} {e : rt_F} (hb : rt_BM s n L o g e c b) (hn : n < 32)
    (H : ∀ (L' o' g' : Nat) (e' : rt_F) (c' b' k' : Nat → rt_F), rt_BM s (n + 1) L' o' g' e' c' b' → J (nI L') (nI o') (rt_I e') (nI g') (nI (n + 1)) z a1 a2 a3 a4 a5 a6 a7 a8 (rt_A s) (rt_A c') (rt_A b') (rt_A k') a13) :
    ∃ fu, wX_mend_59 post J x1 (nI L) (nI o) (rt_I e) (nI g) (nI n) z a1 a2 a3 a4 a5 a6 a7 a8 (rt_A s) (rt_A c) (rt_A b) (rt_A k0) a13 fu (rt_I (s n)) 1 := by
  have b1 : 1 ≤ g := hb.1
  have b2 : g + o + L = n + 1 := hb.2.1
  have e0 : ∀ t, nI (t + 1) - 1 = nI t := nI_pred
  have e1 : ∀ t, t < L → nI n - nI (t + 1) = nI (n - 1 - t) := fun t ht => by
    rw [pk_sub (by omega), show n - (t + 1) = n - 1 - t by omega]
  have t := pk_loop (σ := Unit) (fun fu t _ => wX_mend_59 post J x1 (nI L) (nI o) (rt_I e) (nI g) (nI n) z a1 a2 a3 a4 a5 a6 a7 a8 (rt_A s) (rt_A c) (rt_A b) (rt_A k0) a13 fu (rt_I (s n - rt_S (fun i => c i * s (n - 1 - i)) t)) (nI (t + 1))) (fun _ _ => True) L 0 () (by omega) trivial
    (fun fu _ _ => pk_lt L (L + 1) (fun _ => by
      rw [← rt_Dl (b := c) (s := s) (p := n) (o := L) (by omega) (by omega) hb.2.2.2.1]
      by_cases hz : rt_D c s n = 0
      · exact br_t (by rw [hz]; rfl) (nm_r (nI_1 g) (nm_r (nI_1 n) (H _ _ _ _ _ _ _ (rt_BMz hb hz))))
      · exact br_f (fun h => hz (rt_Ieq.mp h)) (rt_me118 hb hn hz H)) (fun z => absurd z (by omega)))
    (fun fu t _ ht _ hw => pk_lt L (t + 1) (fun z => absurd z (by omega)) (fun _ => ⟨pk_in t 40 (by omega) (e0 t), pk_in (n - 1 - t) 40 (by omega) (e1 t ht), rt_997, nm_r (e' := rt_I (s n - rt_S (fun i => c i * s (n - 1 - i)) (t + 1))) (by
      rw [rt_get t (e0 t), rt_get (n - 1 - t) (e1 t ht), rt_mms, rt_Ss]
      exact congrArg rt_I (by grind)) (nm_r (nI_1 (t + 1)) (hw () trivial))⟩))
  obtain ⟨fu, h⟩ := t
  have h' : wX_mend_59 post J x1 (nI L) (nI o) (rt_I e) (nI g) (nI n) z a1 a2 a3 a4 a5 a6 a7 a8 (rt_A s) (rt_A c) (rt_A b) (rt_A k0) a13 fu (rt_I (s n - rt_S (fun i => c i * s (n - 1 - i)) 0)) (nI (0 + 1)) := h
  rw [rt_S0, show s n - 0 = s n by grind] at h'
  exact ⟨fu, h'⟩
theorem rt_me41 {s c0 b0 k0 : Nat → rt_F} {N : Nat} (hN : N ≤ 32) (hc : ∀ i, i < 40 → c0 i = 0) (hb : ∀ i, i < 40 → b0 i = 0)
    (H : ∀ (L : Nat) (c b k : Nat → rt_F), rt_M s N L c → post (nI L) (z, a1, a2, a3, a4, a5, a6, a7, a8, rt_A s, rt_A c, rt_A b, rt_A k, a13)) : ∃ fu, wX_mend_41 post (nI N) fu 0 0 1 1 0 z a1 a2 a3 a4 a5 a6 a7 a8 (rt_A s) (rt_A c0) (rt_A b0) (rt_A k0) a13 :=
  pk_loop (σ := Nat × Nat × Nat × rt_F × (Nat → rt_F) × (Nat → rt_F) × (Nat → rt_F)) (fun fu n t => wX_mend_41 post (nI N) fu (nI t.1) (nI t.2.1) (rt_I t.2.2.2.1) (nI t.2.2.1) (nI n) z a1 a2 a3 a4 a5 a6 a7 a8 (rt_A s) (rt_A t.2.2.2.2.1) (rt_A t.2.2.2.2.2.1) (rt_A t.2.2.2.2.2.2) a13)
    (fun n t => rt_BM s n t.1 t.2.1 t.2.2.1 t.2.2.2.1 t.2.2.2.2.1 t.2.2.2.2.2.1) N 0 (0, 0, 1, 1, c0, b0, k0) (by omega) (rt_BM0 hc hb)
    (fun fu t h => pk_le N N (fun _ => H _ _ _ _ (rt_BMe h (by omega))) (fun z => absurd z (by omega)))
    (fun fu n t hn h hw => pk_le N n (fun z => absurd z (by omega)) (fun _ => ⟨pk_in n 40 (by omega), nm_r (rt_get n) (rt_me59 h (by omega) (fun L' o' g' e' c' b' k' h' => hw (L', o', g', e', c', b', k') h'))⟩))
theorem rt_mend {s c0 b0 k0 : Nat → rt_F} {N : Nat} (hN : N ≤ 32)
    (H : ∀ (L : Nat) (c b k : Nat → rt_F), rt_M s N L c → post (nI L) (z, a1, a2, a3, a4, a5, a6, a7, a8, rt_A s, rt_A c, rt_A b, rt_A k, a13)) : wpX_mend post (z, a1, a2, a3, a4, a5, a6, a7, a8, rt_A s, rt_A c0, rt_A b0, rt_A k0, a13) (nI N) := by
  unfold wpX_mend
  exact pk_loop (σ := (Nat → rt_F) × (Nat → rt_F)) (fun fu i t => wX_mend_2 post (nI N) z fu (nI i) a1 a2 a3 a4 a5 a6 a7 a8 (rt_A s) (rt_A t.1) (rt_A t.2) (rt_A k0) a13) (fun i t => (∀ j, j < i → t.1 j = 0) ∧ (∀ j, j < i → t.2 j = 0)) 40 0 (c0, b0) (by omega) ⟨fun j hj => absurd hj (by omega), fun j hj => absurd hj (by omega)⟩
    (fun fu t h => pk_le 40 40 (fun _ => rt_me41 hN h.1 h.2 H) (fun z => absurd z (by omega)))
    (fun fu i t hi h hw => pk_le 40 i (fun z => absurd z (by omega)) (fun _ => ⟨pk_in i 40 hi, nm_r (rt_upd i rt_I0.symm) ⟨pk_in i 40 hi, nm_r (rt_upd i rt_I0.symm) (nm_r (nI_1 i) (hw (_, _) ⟨rt_fill (P := fun _ y => y = 0) h.1 rfl, rt_fill (P := fun _ y => y = 0) h.2 rfl⟩))⟩⟩))
end
end
section
/-! the twins of the print say the same -/
theorem rt_tw0 : @wX_takeRule_2_9 = @wX_takeRule_9 := by
  delta wX_takeRule_2_9 wX_takeRule_9
  rfl
theorem rt_tw1 : @wpX_takeRule_2 = @wpX_takeRule := by
  delta wpX_takeRule_2 wpX_takeRule
  rw [rt_tw0]
theorem rt_tw2 : @wX_squarePower_2_172 = @wX_squarePower_172 := by
  delta wX_squarePower_2_172 wX_squarePower_172
  rfl
theorem rt_tw3 : @wX_squarePower_2_106 = @wX_squarePower_106 := by
  delta wX_squarePower_2_106 wX_squarePower_106
  rfl
theorem rt_tw4 : @wX_squarePower_2_96 = @wX_squarePower_96 := by
  delta wX_squarePower_2_96 wX_squarePower_96 wX_squarePower_2_96._f wX_squarePower_96._f
  rw [rt_tw2, rt_tw3]
theorem rt_tw5 : @wX_squarePower_2_33 = @wX_squarePower_33 := by
  delta wX_squarePower_2_33 wX_squarePower_33
  rfl
theorem rt_tw6 : @wX_squarePower_2_23 = @wX_squarePower_23 := by
  delta wX_squarePower_2_23 wX_squarePower_23 wX_squarePower_2_23._f wX_squarePower_23._f
  rw [rt_tw4, rt_tw5]
theorem rt_tw7 : @wX_squarePower_2_2 = @wX_squarePower_2 := by
  delta wX_squarePower_2_2 wX_squarePower_2 wX_squarePower_2_2._f wX_squarePower_2._f
  rw [rt_tw6]
theorem rt_tw8 : @wpX_squarePower_2 = @wpX_squarePower := by
  delta wpX_squarePower_2 wpX_squarePower
  rw [rt_tw7]
theorem rt_tw9 : @wX_timesX_2_39 = @wX_timesX_39 := by
  delta wX_timesX_2_39 wX_timesX_39
  rfl
theorem rt_tw10 : @wX_timesX_2_19 = @wX_timesX_19 := by
  delta wX_timesX_2_19 wX_timesX_19 wX_timesX_2_19._f wX_timesX_19._f
  rw [rt_tw9]
theorem rt_tw11 : @wpX_timesX_2 = @wpX_timesX := by
  delta wpX_timesX_2 wpX_timesX
  rw [rt_tw10]
theorem rt_tw12 : @wX_raise_2_38 = @wX_raise_38 := by
  delta wX_raise_2_38 wX_raise_38 wX_raise_2_38._f wX_raise_38._f
  rw [rt_tw8, rt_tw11]
theorem rt_tw13 : @wX_raise_2_2 = @wX_raise_2 := by
  delta wX_raise_2_2 wX_raise_2 wX_raise_2_2._f wX_raise_2._f
  rw [rt_tw12]
theorem rt_tw14 : @wpX_raise_2 = @wpX_raise := by
  delta wpX_raise_2 wpX_raise
  rw [rt_tw13]
theorem rt_tw15 : @wX_termAt_2_44 = @wX_termAt_44 := by
  delta wX_termAt_2_44 wX_termAt_44
  rfl
theorem rt_twin : @wpX_termAt_2 = @wpX_termAt := by
  delta wpX_termAt_2 wpX_termAt
  rw [rt_tw1, rt_tw14, rt_tw15]
theorem rt_Mc {s s' c : Nat → rt_F} {N L : Nat} (h : ∀ j, j < N → s j = s' j) (hM : rt_M s N L c) : rt_M s' N L c := by
  obtain ⟨h1, h2, h3⟩ := hM
  refine ⟨fun j hj hjN => ?_, h2, fun L' c' hc => h3 L' c' (fun j hj hjN => ?_)⟩
  · rw [← h j hjN, h1 j hj hjN]
    exact rt_Sc (fun i hi => by rw [h (j - 1 - i) (by omega)])
  · rw [h j hjN, hc j hj hjN]
    exact rt_Sc (fun i hi => by rw [h (j - 1 - i) (by omega)])
section
variable {post : Int32 → St2 → Prop} {z : Int32} {a1 a2 a3 a4 a5 a6 a7 a8 a9 a10 a11 a12 a13 : Nat → Int32}
theorem rt_termAt2 {f2 f3 w m0 p0 r0 : Nat → rt_F} {s k : Nat} {x : Int32} (n : Nat) (hs : s < 3) (hk : k ≤ 3) (ho : a1 s = nI (k + 1)) (hw : rt_is f2 f3 w s k)
    (H : ∀ (z' : Int32) (m p r : Nat → rt_F), post (rt_I (w n)) (z', a1, rt_A f2, rt_A f3, rt_A m, a5, rt_A p, a7, rt_A r, a9, a10, a11, a12, a13)) (hx : x = nI n := by rfl) (hn : n < 2 ^ 31 := by omega) : wpX_termAt_2 post (z, a1, rt_A f2, rt_A f3, rt_A m0, a5, rt_A p0, a7, rt_A r0, a9, a10, a11, a12, a13) (nI s) x := by
  subst hx
  rw [rt_twin]
  exact rt_termAt hs hk hn ho hw H
theorem rt_findRule {f2 f3 w m0 p0 r0 t0 c0 b0 k0 : Nat → rt_F} {s k : Nat} (hs : s < 3) (hk : k ≤ 3) (ho : a1 s = nI (k + 1)) (hw : rt_is f2 f3 w s k)
    (H : ∀ (z' : Int32) (m p r t : Nat → rt_F) (L : Nat) (c b k' : Nat → rt_F), rt_M w 8 L c → post (nI L) (z', a1, rt_A f2, rt_A f3, rt_A m, a5, rt_A p, a7, rt_A r, rt_A t, rt_A c, rt_A b, rt_A k', a13)) :
    wpX_findRule post (z, a1, rt_A f2, rt_A f3, rt_A m0, a5, rt_A p0, a7, rt_A r0, rt_A t0, rt_A c0, rt_A b0, rt_A k0, a13) (nI s) := by
  unfold wpX_findRule
  exact pk_loop (σ := Int32 × (Nat → rt_F) × (Nat → rt_F) × (Nat → rt_F) × (Nat → rt_F)) (fun fu n t => wX_findRule_2 post (nI s) fu (nI n) t.1 a1 (rt_A f2) (rt_A f3) (rt_A t.2.1) a5 (rt_A t.2.2.1) a7 (rt_A t.2.2.2.1) (rt_A t.2.2.2.2) (rt_A c0) (rt_A b0) (rt_A k0) a13) (fun n t => ∀ j, j < n → t.2.2.2.2 j = w j) 8 0 (z, m0, p0, r0, t0) (by omega) (fun j hj => absurd hj (by omega))
    (fun fu t h => pk_le 8 8 (fun _ => rt_mend (N := 8) (by omega) (fun L c b k' hM => H _ _ _ _ _ L c b k' (rt_Mc h hM))) (fun z => absurd z (by omega)))
    (fun fu n t hn h hw' => pk_le 8 n (fun z => absurd z (by omega)) (fun _ => rt_termAt2 n hs hk ho hw (fun z' m p r => ⟨pk_in n 40 (by omega), nm_r (rt_upd n rfl) (nm_r (nI_1 n) (hw' (z', m, p, r, _) (rt_fill (P := fun j y => y = w j) h rfl)))⟩)))
theorem rt_rank {f2 f3 w m0 p0 r0 t0 c0 b0 k0 : Nat → rt_F} {s k : Nat} (hs : s < 3) (hk : k ≤ 3) (ho : a1 s = nI (k + 1)) (hw : rt_is f2 f3 w s k)
    (H : ∀ (z' : Int32) (m p r t : Nat → rt_F) (L : Nat) (c b k' : Nat → rt_F), rt_M w 8 L c → post (nI L) (z', a1, rt_A f2, rt_A f3, rt_A m, a5, rt_A p, a7, rt_A r, rt_A t, rt_A c, rt_A b, rt_A k', a13)) :
    wpX_rank post (z, a1, rt_A f2, rt_A f3, rt_A m0, a5, rt_A p0, a7, rt_A r0, rt_A t0, rt_A c0, rt_A b0, rt_A k0, a13) (nI s) := by
  unfold wpX_rank
  exact rt_good hs (br_f (by decide) (rt_findRule hs hk ho hw H))
def rt_sh (L : Nat) (c : Nat → rt_F) (i : Nat) : Int32 := if i ≤ L then rt_I (c (i - 1)) else -2
theorem rt_shortest {f2 f3 w m0 p0 r0 t0 c0 b0 k0 : Nat → rt_F} {s k i : Nat} (hs : s < 3) (hk : k ≤ 3) (ho : a1 s = nI (k + 1)) (hw : rt_is f2 f3 w s k) (hi : 1 ≤ i) (hi4 : i ≤ 4)
    (H : ∀ (z' : Int32) (m p r t : Nat → rt_F) (L : Nat) (c b k' : Nat → rt_F), rt_M w 8 L c → post (rt_sh L c i) (z', a1, rt_A f2, rt_A f3, rt_A m, a5, rt_A p, a7, rt_A r, rt_A t, rt_A c, rt_A b, rt_A k', a13)) :
    wpX_shortest post (z, a1, rt_A f2, rt_A f3, rt_A m0, a5, rt_A p0, a7, rt_A r0, rt_A t0, rt_A c0, rt_A b0, rt_A k0, a13) (nI s) (nI i) := by
  have e : nI i - 1 = nI (i - 1) := pk_sub (b := 1) hi
  unfold wpX_shortest
  refine rt_good hs (br_f (by decide) (rt_findRule hs hk ho hw (fun z' m p r t L c b k' hM => ?_)))
  have h := H z' m p r t L c b k' hM
  have hL : L ≤ 8 := hM.2.1
  refine pk_lt i 1 (fun z => absurd z (by omega)) (fun _ => pk_lt L i (fun g => ?_) (fun g => ⟨pk_in (i - 1) 40 (by omega) e, ?_⟩))
  · unfold rt_sh at h
    rw [if_neg (by omega)] at h
    exact h
  · unfold rt_sh at h
    rw [if_pos g] at h
    rw [rt_get (i - 1) e]
    exact h
theorem rt_rankOfStep {f2 f3 w m0 p0 r0 t0 c0 b0 k0 : Nat → rt_F} {s k st : Nat} (hs : s < 3) (hk : k ≤ 3) (ho : a1 s = nI (k + 1)) (hw : rt_is f2 f3 w s k) (h1 : 1 ≤ st) (h2 : st ≤ 1000)
    (H : ∀ (z' : Int32) (m p r t : Nat → rt_F) (L : Nat) (c b k' : Nat → rt_F), rt_M (fun j => w (j * st)) 8 L c → post (nI L) (z', a1, rt_A f2, rt_A f3, rt_A m, a5, rt_A p, a7, rt_A r, rt_A t, rt_A c, rt_A b, rt_A k', a13)) :
    wpX_rankOfStep post (z, a1, rt_A f2, rt_A f3, rt_A m0, a5, rt_A p0, a7, rt_A r0, rt_A t0, rt_A c0, rt_A b0, rt_A k0, a13) (nI s) (nI st) := by
  unfold wpX_rankOfStep
  refine rt_good hs (br_f (by decide) (pk_lt st 1 (fun z => absurd z (by omega)) (fun _ => pk_le st 1000 (fun _ => ?_) (fun z => absurd z (by omega)))))
  exact pk_loop (σ := Int32 × (Nat → rt_F) × (Nat → rt_F) × (Nat → rt_F) × (Nat → rt_F)) (fun fu n t => wX_rankOfStep_26 post (nI s) (nI st) fu (nI n) t.1 a1 (rt_A f2) (rt_A f3) (rt_A t.2.1) a5 (rt_A t.2.2.1) a7 (rt_A t.2.2.2.1) (rt_A t.2.2.2.2) (rt_A c0) (rt_A b0) (rt_A k0) a13) (fun n t => ∀ j, j < n → t.2.2.2.2 j = w (j * st)) 8 0 (z, m0, p0, r0, t0) (by omega) (fun j hj => absurd hj (by omega))
    (fun fu t h => pk_le 8 8 (fun _ => rt_mend (N := 8) (by omega) (fun L c b k' hM => H _ _ _ _ _ L c b k' (rt_Mc h hM))) (fun z => absurd z (by omega)))
    (fun fu n t hn h hw' => pk_le 8 n (fun z => absurd z (by omega)) (fun _ => rt_termAt2 (n * st) hs hk ho hw (fun z' m p r => ⟨pk_in n 40 (by omega), nm_r (rt_upd n rfl) (nm_r (nI_1 n) (hw' (z', m, p, r, _) (rt_fill (P := fun j y => y = w (j * st)) h rfl)))⟩) (pk_mul n st) (Nat.lt_of_le_of_lt (Nat.mul_le_mul (show n ≤ 8 by omega) h2) (by omega))))
theorem rt_rankOfProduct {f2 f3 w v m0 p0 r0 t0 c0 b0 k0 : Nat → rt_F} {s k s' k' : Nat} (hs : s < 3) (hk : k ≤ 3) (ho : a1 s = nI (k + 1)) (hw : rt_is f2 f3 w s k) (hs' : s' < 3) (hk' : k' ≤ 3) (ho' : a1 s' = nI (k' + 1)) (hv : rt_is f2 f3 v s' k')
    (H : ∀ (z' : Int32) (m p r t : Nat → rt_F) (L : Nat) (c b k'' : Nat → rt_F), rt_M (fun j => w j * v j) 32 L c → post (nI L) (z', a1, rt_A f2, rt_A f3, rt_A m, a5, rt_A p, a7, rt_A r, rt_A t, rt_A c, rt_A b, rt_A k'', a13)) :
    wpX_rankOfProduct post (z, a1, rt_A f2, rt_A f3, rt_A m0, a5, rt_A p0, a7, rt_A r0, rt_A t0, rt_A c0, rt_A b0, rt_A k0, a13) (nI s) (nI s') := by
  unfold wpX_rankOfProduct
  refine rt_good hs (br_f (by decide) (rt_good hs' (br_f (by decide) ?_)))
  exact pk_loop (σ := Int32 × (Nat → rt_F) × (Nat → rt_F) × (Nat → rt_F) × (Nat → rt_F)) (fun fu n t => wX_rankOfProduct_18 post (nI s) (nI s') fu (nI n) t.1 a1 (rt_A f2) (rt_A f3) (rt_A t.2.1) a5 (rt_A t.2.2.1) a7 (rt_A t.2.2.2.1) (rt_A t.2.2.2.2) (rt_A c0) (rt_A b0) (rt_A k0) a13) (fun n t => ∀ j, j < n → t.2.2.2.2 j = w j * v j) 32 0 (z, m0, p0, r0, t0) (by omega) (fun j hj => absurd hj (by omega))
    (fun fu t h => pk_le 32 32 (fun _ => rt_mend (N := 32) (by omega) (fun L c b k' hM => H _ _ _ _ _ L c b k' (rt_Mc h hM))) (fun z => absurd z (by omega)))
    (fun fu n t hn h hw' => pk_le 32 n (fun z => absurd z (by omega)) (fun _ => rt_termAt2 n hs hk ho hw (fun _ _ _ _ => rt_termAt2 n hs' hk' ho' hv (fun z' m p r => ⟨rt_997, pk_in n 40 (by omega), nm_r (rt_upd n (rt_mul _ _)) (nm_r (nI_1 n) (hw' (z', m, p, r, _) (rt_fill (P := fun j y => y = w j * v j) h rfl)))⟩))))
theorem rt_rankOfSum {f2 f3 w v m0 p0 r0 t0 c0 b0 k0 : Nat → rt_F} {s k s' k' : Nat} (hs : s < 3) (hk : k ≤ 3) (ho : a1 s = nI (k + 1)) (hw : rt_is f2 f3 w s k) (hs' : s' < 3) (hk' : k' ≤ 3) (ho' : a1 s' = nI (k' + 1)) (hv : rt_is f2 f3 v s' k')
    (H : ∀ (z' : Int32) (m p r t : Nat → rt_F) (L : Nat) (c b k'' : Nat → rt_F), rt_M (fun j => w j + v j) 16 L c → post (nI L) (z', a1, rt_A f2, rt_A f3, rt_A m, a5, rt_A p, a7, rt_A r, rt_A t, rt_A c, rt_A b, rt_A k'', a13)) :
    wpX_rankOfSum post (z, a1, rt_A f2, rt_A f3, rt_A m0, a5, rt_A p0, a7, rt_A r0, rt_A t0, rt_A c0, rt_A b0, rt_A k0, a13) (nI s) (nI s') := by
  unfold wpX_rankOfSum
  refine rt_good hs (br_f (by decide) (rt_good hs' (br_f (by decide) ?_)))
  exact pk_loop (σ := Int32 × (Nat → rt_F) × (Nat → rt_F) × (Nat → rt_F) × (Nat → rt_F)) (fun fu n t => wX_rankOfSum_18 post (nI s) (nI s') fu (nI n) t.1 a1 (rt_A f2) (rt_A f3) (rt_A t.2.1) a5 (rt_A t.2.2.1) a7 (rt_A t.2.2.2.1) (rt_A t.2.2.2.2) (rt_A c0) (rt_A b0) (rt_A k0) a13) (fun n t => ∀ j, j < n → t.2.2.2.2 j = w j + v j) 16 0 (z, m0, p0, r0, t0) (by omega) (fun j hj => absurd hj (by omega))
    (fun fu t h => pk_le 16 16 (fun _ => rt_mend (N := 16) (by omega) (fun L c b k' hM => H _ _ _ _ _ L c b k' (rt_Mc h hM))) (fun z => absurd z (by omega)))
    (fun fu n t hn h hw' => pk_le 16 n (fun z => absurd z (by omega)) (fun _ => rt_termAt2 n hs hk ho hw (fun _ _ _ _ => rt_termAt2 n hs' hk' ho' hv (fun z' m p r => ⟨rt_997, pk_in n 40 (by omega), nm_r (rt_upd n (rt_add _ _)) (nm_r (nI_1 n) (hw' (z', m, p, r, _) (rt_fill (P := fun j y => y = w j + v j) h rfl)))⟩))))
/-! the object is set up -/
theorem rt_order {f2 f3 : Nat → rt_F} {s k : Nat} (hs : s < 3) (hk : k ≤ 4)
    (H : ∀ (r : Int32) (g2 g3 : Nat → rt_F), (∀ j, j < 4 * s → g2 j = f2 j ∧ g3 j = f3 j) → post r (z, upd a1 s (nI k), rt_A g2, rt_A g3, a4, a5, a6, a7, a8, a9, a10, a11, a12, a13)) : wpX_order post (z, a1, rt_A f2, rt_A f3, a4, a5, a6, a7, a8, a9, a10, a11, a12, a13) (nI s) (nI k) := by
  unfold wpX_order
  refine rt_good hs (br_f (by decide) (pk_lt k 0 (fun z => absurd z (by omega)) (fun _ => pk_le k 4 (fun _ => ⟨pk_in s 3 hs, nm_e ⟨pk_in s 3 hs, nm_r (e' := upd a1 s (nI k)) (by rw [nI_clamp (by omega)]) ?_⟩⟩) (fun z => absurd z (by omega)))))
  exact pk_loop (σ := (Nat → rt_F) × (Nat → rt_F)) (fun fu i t => wX_order_38 post (nI s) _ z fu (nI i) (upd a1 s (nI k)) (rt_A t.1) (rt_A t.2) a4 a5 a6 a7 a8 a9 a10 a11 a12 a13) (fun i t => ∀ j, j < 4 * s → t.1 j = f2 j ∧ t.2 j = f3 j) 4 0 (f2, f3) (by omega) (fun j hj => ⟨rfl, rfl⟩)
    (fun fu t h => pk_le 4 4 (fun _ => H _ t.1 t.2 h) (fun z => absurd z (by omega)))
    (fun fu i t hi h hw => pk_le 4 i (fun z => absurd z (by omega)) (fun _ => ⟨pk_in (4 * s + i) 12 (by omega) (rt_ix4 s i), nm_r (rt_upd (4 * s + i) rt_I0.symm (rt_ix4 s i)) ⟨pk_in (4 * s + i) 12 (by omega) (rt_ix4 s i), nm_r (rt_upd (4 * s + i) rt_I0.symm (rt_ix4 s i)) (nm_r (nI_1 i) (hw (rt_u t.1 (4 * s + i) 0, rt_u t.2 (4 * s + i) 0) (fun j hj => ⟨(rt_un _ _ (by omega)).trans (h j hj).1, (rt_un _ _ (by omega)).trans (h j hj).2⟩)))⟩⟩))
theorem rt_rule {f2 : Nat → rt_F} {s k i : Nat} {v : Int32} (hs : s < 3) (hk : k ≤ 4) (ho : a1 s = nI k) (hi : 1 ≤ i) (hik : i ≤ k)
    (H : ∀ r : Int32, post r (z, a1, rt_A (rt_u f2 (4 * s + i - 1) (rt_N v)), a3, a4, a5, a6, a7, a8, a9, a10, a11, a12, a13)) : wpX_rule post (z, a1, rt_A f2, a3, a4, a5, a6, a7, a8, a9, a10, a11, a12, a13) (nI s) (nI i) v := by
  have e : ((4 : Int32) * nI s + nI i) - 1 = nI (4 * s + i - 1) := by
    rw [rt_ix4]
    exact pk_sub (b := 1) (by omega)
  unfold wpX_rule
  exact rt_good hs (br_f (by decide) (pk_lt i 1 (fun z => absurd z (by omega)) (fun _ => ⟨pk_in s 3 hs, pk_le i k (fun _ => ⟨pk_in (4 * s + i - 1) 12 (by omega) e, nm_e (rt_modulo ⟨pk_in (4 * s + i - 1) 12 (by omega) e, nm_r (rt_upd (4 * s + i - 1) rfl e) (H _)⟩)⟩) (fun z => absurd z (by omega)) rfl (by rw [nI_clamp (by omega)]; exact ho)⟩)))
theorem rt_start {f3 : Nat → rt_F} {s k i : Nat} {v : Int32} (hs : s < 3) (hk : k ≤ 4) (ho : a1 s = nI k) (hik : i < k)
    (H : ∀ r : Int32, post r (z, a1, a2, rt_A (rt_u f3 (4 * s + i) (rt_N v)), a4, a5, a6, a7, a8, a9, a10, a11, a12, a13)) : wpX_start post (z, a1, a2, rt_A f3, a4, a5, a6, a7, a8, a9, a10, a11, a12, a13) (nI s) (nI i) v := by
  have e := rt_ix4 s i
  unfold wpX_start
  exact rt_good hs (br_f (by decide) (pk_lt i 0 (fun z => absurd z (by omega)) (fun _ => ⟨pk_in s 3 hs, pk_lt i k (fun _ => ⟨pk_in (4 * s + i) 12 (by omega) e, nm_e (rt_modulo ⟨pk_in (4 * s + i) 12 (by omega) e, nm_r (rt_upd (4 * s + i) rfl e) (H _)⟩)⟩) (fun z => absurd z (by omega)) rfl (by rw [nI_clamp (by omega)]; exact ho)⟩)))
end
end
section
/-! the law's small methods -/
def rt_rk (a b c : rt_F) : Nat := if a * c - b * b = 0 then (if a = 0 then 0 else 1) else 2
theorem rt_rkL {s c : Nat → rt_F} {N L : Nat} (hM : rt_M s N L c) (hN : 5 ≤ N) (a b : rt_F) (hs : ∀ j, s (j + 2) = a * s (j + 1) + b * s j) : L = rt_rk (s 0) (s 1) (s 2) := by
  obtain ⟨h2, h1, h0⟩ := rt_rank2 hM hN a b hs
  unfold rt_rk
  by_cases hd : s 0 * s 2 - s 1 * s 1 = 0
  · rw [if_pos hd]
    by_cases hz : s 0 = 0
    · rw [if_pos hz]
      exact h0 hd hz
    · rw [if_neg hz]
      exact h1 hd hz
  · rw [if_neg hd]
    exact h2 hd
theorem rt_rk3 {s c : Nat → rt_F} {N L : Nat} (hM : rt_M s N L c) (hN : 6 ≤ N) (a b d : rt_F) (hs : ∀ j, s (j + 3) = a * s (j + 2) + b * s (j + 1) + d * s j) :
    (rt_t3 (s 0) (s 1) (s 2) (s 3) (s 4) ≠ 0 → L = 3) ∧ (rt_t3 (s 0) (s 1) (s 2) (s 3) (s 4) = 0 → L = rt_rk (s 0) (s 1) (s 2)) := by
  obtain ⟨h3, hr⟩ := rt_rank3 hM hN a b d hs
  refine ⟨h3, fun hz3 => ?_⟩
  obtain ⟨h2, h1, h0⟩ := hr hz3
  unfold rt_rk
  by_cases hd : s 0 * s 2 - s 1 * s 1 = 0
  · rw [if_pos hd]
    by_cases hz : s 0 = 0
    · rw [if_pos hz]
      exact h0 hd hz
    · rw [if_neg hz]
      exact h1 hd hz
  · rw [if_neg hd]
    exact h2 hd
theorem rt_rkC (a b c : rt_F) : (rt_rk a b c = 2 ∧ a * c - b * b ≠ 0) ∨ rt_rk a b c = 1 ∨ rt_rk a b c = 0 := by
  unfold rt_rk
  by_cases hd : a * c - b * b = 0
  · rw [if_pos hd]
    by_cases hz : a = 0
    · rw [if_pos hz]
      exact Or.inr (Or.inr rfl)
    · rw [if_neg hz]
      exact Or.inr (Or.inl rfl)
  · rw [if_neg hd]
    exact Or.inl ⟨rfl, hd⟩
theorem rt_normD {post : Int32 → Prop} {u : St0} {a b c d : rt_F} (H : post (rt_I (a * b - c * d))) : wpL_norm post u (rt_I a * rt_I b - rt_I c * rt_I d) := by
  refine rt_norm ?_
  rw [rt_Ndet]
  exact H
theorem rt_normT {post : Int32 → Prop} {u : St0} {a b c d e f : rt_F} (H : post (rt_I (a * b - c * d + e * f))) : wpL_norm post u ((rt_I a * rt_I b - rt_I c * rt_I d) + rt_I e * rt_I f) := by
  refine rt_norm ?_
  rw [rt_Ndet3]
  exact H
theorem rt_rankOf {post : Int32 → Prop} {u : St0} {a b c : rt_F} (H : post (nI (rt_rk a b c))) : wpL_rankOf post u (rt_I a) (rt_I b) (rt_I c) := by
  unfold wpL_rankOf
  refine rt_normD ?_
  unfold rt_rk at H
  by_cases hd : a * c - b * b = 0
  · rw [if_pos hd] at H
    refine br_t (by rw [hd]; rfl) ?_
    by_cases ha : a = 0
    · rw [if_pos ha] at H
      exact br_t (by rw [ha]; rfl) H
    · rw [if_neg ha] at H
      exact br_f (fun h => ha (rt_Ieq.mp h)) H
  · rw [if_neg hd] at H
    exact br_f (fun h => hd (rt_Ieq.mp h)) H
theorem rt_cell {post : Int32 → Prop} {L : Nat} {xs : Nat → Int32} {u : St0} {x : Int32} (i : Nat) (hL : L ≤ 6) (H : ∀ v, post v) (hx : x = nI i := by rfl) (hi : i < 6 := by omega) : wpL_cellAt post L xs u x := by
  subst hx
  exact pk_le L i (fun _ => H 0) (fun h => ⟨pk_in i L h, H _⟩)
/-! the law's end -/
theorem rt_law592 {post : Int32 → St0 → Prop} {mc ms kc ks : Nat} {z z0 z1 : Int32} {a1 a13 : Nat → Int32} {f2 f3 m0 h0 p0 q0 r0 t0 c0 b0 k0 w : Nat → rt_F} {r1 r2 : rt_F} (o0 : a1 0 = nI 2) (hw : rt_is f2 f3 w 0 1) (hw2 : ∀ n, w (n + 2) = r1 * w (n + 1) + r2 * w n) (hz : z1 = z0) (H : post 1 ()) :
    wL_lawOf_592 post mc ms (rt_I r1) (rt_I r2) (rt_I (w 0)) (rt_I (w 1)) (nI (rt_rk (w 0) (w 1) (w 2))) z0 z1 kc ks z a1 (rt_A f2) (rt_A f3) (rt_A m0) (rt_A h0) (rt_A p0) (rt_A q0) (rt_A r0) (rt_A t0) (rt_A c0) (rt_A b0) (rt_A k0) a13 := by
  unfold wL_lawOf_592
  refine br_t hz (rt_shortest (s := 0) (k := 1) (i := 1) (w := w) (by omega) (by omega) o0 hw (by omega) (by omega) (fun _ _ _ _ _ L1 c1 _ _ hM1 => rt_shortest (s := 0) (k := 1) (i := 2) (w := w) (by omega) (by omega) o0 hw (by omega) (by omega) (fun _ _ _ _ _ L2 c2 _ _ hM2 => ?_)))
  have e1 := rt_rkL hM1 (by omega) r1 r2 hw2
  have e2 := rt_rkL hM2 (by omega) r1 r2 hw2
  rcases rt_rkC (w 0) (w 1) (w 2) with ⟨hk, hd⟩ | hk | hk
  · rw [hk] at e1 e2
    subst e1 e2
    have u1 := rt_uni hd (hw2 0) (hw2 1) (rt_at2 hM1 (j := 0) (by omega)) (rt_at2 hM1 (j := 1) (by omega))
    have u2 := rt_uni hd (hw2 0) (hw2 1) (rt_at2 hM2 (j := 0) (by omega)) (rt_at2 hM2 (j := 1) (by omega))
    refine br_t (by rw [hk]; rfl) (br_t ?_ (br_t ?_ H))
    · rw [← u1.1]
      rfl
    · rw [← u2.2]
      rfl
  · rw [hk] at e1 e2
    subst e1 e2
    refine br_f (by rw [hk]; decide) (br_t (by rw [hk]; rfl) (br_t rfl ⟨rt_997, br_t ?_ H⟩))
    have u1 : w 1 = c1 0 * w 0 := rt_at1 hM1 (j := 0) (by omega)
    rw [u1]
    exact rt_mul (c1 0) (w 0)
  · rw [hk] at e1 e2
    subst e1 e2
    exact br_f (by rw [hk]; decide) (br_f (by rw [hk]; decide) (br_t rfl (br_t rfl H)))
/-! the law's loop and what stands behind it -/
theorem rt_law228 {post : Int32 → St0 → Prop} {mc ms kc ks : Nat} {z : Int32} {a1 a13 : Nat → Int32} {f2 f3 m0 h0 p0 q0 r0 t0 c0 b0 k0 w v : Nat → rt_F} {r1 r2 A B A' B' A'' B'' D'' : rt_F} (o0 : a1 0 = nI 2) (o1 : a1 1 = nI 1) (hw : rt_is f2 f3 w 0 1) (hv : rt_is f2 f3 v 1 0)
    (hw2 : ∀ n, w (n + 2) = r1 * w (n + 1) + r2 * w n)
    (hst : ∀ j, w ((j + 2) * 2) = A * w ((j + 1) * 2) + B * w (j * 2))
    (hpr : ∀ j, w (j + 2) * v (j + 2) = A' * (w (j + 1) * v (j + 1)) + B' * (w j * v j))
    (hsu : ∀ j, w (j + 3) + v (j + 3) = A'' * (w (j + 2) + v (j + 2)) + B'' * (w (j + 1) + v (j + 1)) + D'' * (w j + v j))
    (hS : ∀ m, (∀ j, j < 1 + 1 → m j = f2 (4 * 0 + (1 + 1) - 1 - j)) → ∀ q, rt_E (rt_tl m (1 + 1)) (fun t => rt_S w (t + 1)) (1 + 1 + 1) q = rt_S w (q + (1 + 1 + 1) + 1))
    (H : post 1 ()) :
    ∃ fu, wL_lawOf_228 post mc ms (rt_I r1) (rt_I r2) (rt_I (w 0)) (rt_I (w 1)) (rt_I (v 0)) (rt_I (v 1)) (rt_I (v 2)) (rt_I (v 3)) (rt_I (v 4)) (rt_I (w 2)) (rt_I (w 3)) (rt_I (w 4)) kc ks fu (rt_I (w 0)) (rt_I (w 1)) 0 0 z a1 (rt_A f2) (rt_A f3) (rt_A m0) (rt_A h0) (rt_A p0) (rt_A q0) (rt_A r0) (rt_A t0) (rt_A c0) (rt_A b0) (rt_A k0) a13 := by
  refine pk_loop (σ := Int32 × (Nat → rt_F) × (Nat → rt_F) × (Nat → rt_F)) (fun fu n t => wL_lawOf_228 post mc ms (rt_I r1) (rt_I r2) (rt_I (w 0)) (rt_I (w 1)) (rt_I (v 0)) (rt_I (v 1)) (rt_I (v 2)) (rt_I (v 3)) (rt_I (v 4)) (rt_I (w 2)) (rt_I (w 3)) (rt_I (w 4)) kc ks fu (rt_I (w n)) (rt_I (w (n + 1))) (rt_I (rt_S w n)) (nI n) t.1 a1 (rt_A f2) (rt_A f3) (rt_A t.2.1) (rt_A h0) (rt_A t.2.2.1) (rt_A q0) (rt_A t.2.2.2) (rt_A t0) (rt_A c0) (rt_A b0) (rt_A k0) a13) (fun _ _ => True) 8 0 (z, m0, p0, r0) (by omega) trivial
    (fun fu t _ => pk_le 8 8 (fun _ => ?_) (fun z => absurd z (by omega)))
    (fun fu n t hn _ hw' => pk_le 8 n (fun z => absurd z (by omega)) (fun _ => rt_term (s := 0) (k := 1) (w := w) (by omega) (by omega) (by omega) o0 hw (fun z' m p r => br_t rfl ⟨rt_997, nm_r (e' := rt_I (rt_S w (n + 1))) (rt_add _ _) ⟨rt_997, nm_r (e' := rt_I (w (n + 2))) (by rw [rt_mm2, hw2]) (nm_r (nI_1 n) (hw' (z', m, p, r) trivial))⟩⟩)))
  refine rt_sum (s := 0) (k := 1) (n := 7) (w := w) (by omega) (by omega) (by omega) o0 hw hS (fun _ _ _ _ _ _ => br_t rfl ?_)
  refine rt_rankOf (rt_rank (s := 0) (k := 1) (w := w) (by omega) (by omega) o0 hw (fun _ _ _ _ _ L2 c2 _ _ hM2 => br_t (congrArg nI (rt_rkL hM2 (by omega) r1 r2 hw2)) ?_))
  refine rt_rankOf (rt_rankOfStep (s := 0) (k := 1) (st := 2) (w := w) (by omega) (by omega) o0 hw (by omega) (by omega) (fun _ _ _ _ _ L3 c3 _ _ hM3 => br_t (congrArg nI (rt_rkL hM3 (by omega) A B hst)) ?_))
  refine ⟨rt_997, nm_r (rt_mul _ _) ⟨rt_997, nm_r (rt_mul _ _) ⟨rt_997, nm_r (rt_mul _ _) ?_⟩⟩⟩
  refine rt_rankOf (rt_rankOfProduct (s := 0) (k := 1) (s' := 1) (k' := 0) (w := w) (v := v) (by omega) (by omega) o0 hw (by omega) (by omega) o1 hv (fun _ _ _ _ _ L4 c4 _ _ hM4 => br_t (congrArg nI (rt_rkL hM4 (by omega) A' B' hpr)) ?_))
  refine ⟨rt_997, nm_r (rt_add _ _) ⟨rt_997, nm_r (rt_add _ _) ⟨rt_997, nm_r (rt_add _ _) ⟨rt_997, nm_r (rt_add _ _) ⟨rt_997, nm_r (rt_add _ _) ?_⟩⟩⟩⟩⟩
  refine rt_normD (rt_normD (rt_normD (rt_normT (rt_rankOf (rt_rankOfSum (s := 0) (k := 1) (s' := 1) (k' := 0) (w := w) (v := v) (by omega) (by omega) o0 hw (by omega) (by omega) o1 hv (fun _ _ _ _ _ L5 c5 _ _ hM5 => ?_))))))
  obtain ⟨g3, g2⟩ := rt_rk3 hM5 (by omega) A'' B'' D'' hsu
  by_cases hz : rt_t3 (w 0 + v 0) (w 1 + v 1) (w 2 + v 2) (w 3 + v 3) (w 4 + v 4) = 0
  · refine br_t (show rt_I (rt_t3 (w 0 + v 0) (w 1 + v 1) (w 2 + v 2) (w 3 + v 3) (w 4 + v 4)) = 0 by rw [hz]; rfl) ?_
    exact rt_law592 o0 hw hw2 (congrArg nI (g2 hz)) H
  · refine br_f (show ¬ rt_I (rt_t3 (w 0 + v 0) (w 1 + v 1) (w 2 + v 2) (w 3 + v 3) (w 4 + v 4)) = 0 from fun h => hz (rt_Ieq.mp h)) ?_
    exact rt_law592 o0 hw hw2 (congrArg nI (g3 hz)) H
theorem rt_init {post : St2 → Prop} {z : Int32} (H : post (nI 0, (fun _ => 0), rt_A (fun _ => 0), rt_A (fun _ => 0), rt_A (fun _ => 0), rt_A (fun _ => 0), rt_A (fun _ => 0), rt_A (fun _ => 0), rt_A (fun _ => 0), rt_A (fun _ => 0), rt_A (fun _ => 0), rt_A (fun _ => 0), rt_A (fun _ => 0), (fun _ => 0))) : wpX_init post 13 222 z := by
  unfold wpX_init
  exact ⟨by omega, by omega, by omega, by omega, by omega, by omega, by omega, by omega, by omega, by omega, by omega, by omega, by omega, by omega, by omega, by omega, by omega, by omega, by omega, by omega, by omega, by omega, by omega, by omega, by omega, by omega, H⟩
theorem rt_al6 (a b : rt_F) : a + b = b + a := by grind
theorem rt_al7 (a b x y v : rt_F) : (0 - b + 0) * x + (b - a + 0) * y + (a - 0 + 1) * v = (a + 1) * v + (b - a) * y + (-b) * x := by grind
theorem rt_isT {f2 f3 : Nat → rt_F} {r1 r2 x y : rt_F} (h0 : f2 0 = r1) (h1 : f2 1 = r2) (g0 : f3 0 = x) (g1 : f3 1 = y) : rt_is f2 f3 (rt_T r1 r2 x y) 0 1 := by
  refine ⟨fun i hi => ?_, fun q => ?_⟩
  · obtain rfl | rfl : i = 0 ∨ i = 1 := by omega
    · exact g0.symm
    · exact g1.symm
  · show rt_T r1 r2 x y (q + 2) = rt_S (fun j => f2 (4 * 0 + (1 + 1) - 1 - j) * rt_T r1 r2 x y (q + j)) 2
    rw [rt_S2]
    show rt_T r1 r2 x y (q + 2) = f2 1 * rt_T r1 r2 x y q + f2 0 * rt_T r1 r2 x y (q + 1)
    rw [h0, h1, rt_Tr]
    exact rt_al6 _ _
theorem rt_isU {f2 f3 : Nat → rt_F} {g h : rt_F} (h0 : f2 4 = g) (g0 : f3 4 = h) : rt_is f2 f3 (rt_U g h) 1 0 := by
  refine ⟨fun i hi => ?_, fun q => ?_⟩
  · obtain rfl : i = 0 := by omega
    exact g0.symm
  · show rt_U g h (q + 1) = rt_S (fun j => f2 (4 * 1 + (0 + 1) - 1 - j) * rt_U g h (q + j)) 1
    rw [rt_S1]
    show rt_U g h q * g = f2 4 * rt_U g h q
    rw [h0]
    exact Fin.mul_comm _ _
theorem rt_isS {f2 : Nat → rt_F} {r1 r2 x y : rt_F} (h0 : f2 0 = r1) (h1 : f2 1 = r2) (m : Nat → rt_F) (hm : ∀ j, j < 1 + 1 → m j = f2 (4 * 0 + (1 + 1) - 1 - j)) (q : Nat) : rt_E (rt_tl m (1 + 1)) (fun t => rt_S (rt_T r1 r2 x y) (t + 1)) (1 + 1 + 1) q = rt_S (rt_T r1 r2 x y) (q + (1 + 1 + 1) + 1) := by
  have m0 : m 0 = r2 := (hm 0 (by omega)).trans h1
  have m1 : m 1 = r1 := (hm 1 (by omega)).trans h0
  show rt_S (fun i => rt_tl m 2 i * rt_S (rt_T r1 r2 x y) (q + i + 1)) 3 = rt_S (rt_T r1 r2 x y) (q + 3 + 1)
  rw [rt_S3, rt_part]
  show (0 - m 0 + 0) * rt_S (rt_T r1 r2 x y) (q + 1) + (m 0 - m 1 + 0) * rt_S (rt_T r1 r2 x y) (q + 1 + 1) + (m 1 - 0 + 1) * rt_S (rt_T r1 r2 x y) (q + 2 + 1) = _
  rw [m0, m1]
  exact rt_al7 _ _ _ _ _
theorem rt_lawOf {post : Int32 → St0 → Prop} {u : St0} {p q x y g h : Int32} (H : post 1 ()) : wpL_lawOf post 148 2368 u p q x y g h := by
  unfold wpL_lawOf
  refine rt_norm (rt_norm (rt_norm (rt_norm (rt_norm (rt_norm ⟨rt_997, nm_r (rt_mul _ _) ⟨rt_997, nm_r (rt_mul _ _) ⟨rt_997, nm_r (rt_mul _ _) ⟨rt_997, nm_r (rt_mul _ _) ⟨rt_997, nm_r (rt_mm2 _ _ _ _) ⟨rt_997, nm_r (rt_mm2 _ _ _ _) ⟨rt_997, nm_r (rt_mm2 _ _ _ _) ⟨by omega, by omega, 13, 222, by omega, by omega, rt_init ?_⟩⟩⟩⟩⟩⟩⟩⟩)))))
  refine rt_order (s := 0) (k := 2) (by omega) (by omega) (fun _ g2 g3 _ => ?_)
  refine rt_rule (s := 0) (k := 2) (i := 1) (by omega) (by omega) rfl (by omega) (by omega) (fun _ => ?_)
  refine rt_rule (s := 0) (k := 2) (i := 2) (by omega) (by omega) rfl (by omega) (by omega) (fun _ => ?_)
  refine rt_start (s := 0) (k := 2) (i := 0) (by omega) (by omega) rfl (by omega) (fun _ => ?_)
  refine rt_start (s := 0) (k := 2) (i := 1) (by omega) (by omega) rfl (by omega) (fun _ => ?_)
  refine rt_order (s := 1) (k := 1) (by omega) (by omega) (fun _ e2 e3 he => ?_)
  refine rt_rule (s := 1) (k := 1) (i := 1) (by omega) (by omega) rfl (by omega) (by omega) (fun _ => ?_)
  refine rt_start (s := 1) (k := 1) (i := 0) (by omega) (by omega) rfl (by omega) (fun _ => ?_)
  have n0 : e2 0 = rt_N p := (he 0 (by omega)).1
  have n1 : e2 1 = rt_N q := (he 1 (by omega)).1
  have n2 : e3 0 = rt_N x := (he 0 (by omega)).2
  have n3 : e3 1 = rt_N y := (he 1 (by omega)).2
  exact rt_law228 (w := rt_T (rt_N p) (rt_N q) (rt_N x) (rt_N y)) (v := rt_U (rt_N g) (rt_N h)) rfl rfl (rt_isT n0 n1 n2 n3) (rt_isU rfl rfl) (rt_Tr _ _ _ _) (rt_step _ _ _ _) (rt_prod _ _ _ _ _ _) (rt_summ _ _ _ _ _ _) (rt_isS n0 n1) H
end
section
theorem i_vc (xs : Nat → Int32) (L : Nat) (hL : L ≤ 6) : wpL_law (fun r => r = 1) L xs := by
  unfold wpL_law
  exact rt_cell 0 hL (fun _ => rt_cell 1 hL (fun _ => rt_cell 2 hL (fun _ => rt_cell 3 hL (fun _ => rt_cell 4 hL (fun _ => rt_cell 5 hL (fun _ => ⟨148, 2368, by omega, by omega, rt_lawOf rfl⟩))))))
end
