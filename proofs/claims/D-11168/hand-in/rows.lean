section
/-- the field of 12289 numbers -/
abbrev sr_F : Type := Fin 12289
/-- a number of the field as an int -/
def sr_e (x : sr_F) : Int32 := nI x.val
/-- an array of numbers of the field as an array of ints -/
def sr_E (f : Nat → sr_F) : Nat → Int32 := fun i => sr_e (f i)
/-- one place of an array written -/
def sr_u (f : Nat → sr_F) (k : Nat) (x : sr_F) : Nat → sr_F := fun j => if j = k then x else f j
/-- a natural number in the field -/
def sr_n (n : Nat) : sr_F := Fin.ofNat 12289 n
theorem sr_us (f : Nat → sr_F) (k : Nat) (x : sr_F) : sr_u f k x k = x := if_pos rfl
theorem sr_ut {f : Nat → sr_F} {j k : Nat} {x : sr_F} (h : j = k) : sr_u f k x j = x := if_pos h
theorem sr_un {f : Nat → sr_F} {j k : Nat} {x : sr_F} (h : j ≠ k) : sr_u f k x j = f j := if_neg h
theorem sr_up {f : Nat → sr_F} {k k' : Nat} {x : sr_F} {v : Int32} (hk : k' = k) (hv : v = sr_e x) : upd (sr_E f) k' v = sr_E (sr_u f k x) := by
  subst hk
  subst hv
  funext j
  show (if j = k' then sr_e x else sr_e (f j)) = sr_e (if j = k' then x else f j)
  by_cases h : j = k'
  · rw [if_pos h, if_pos h]
  · rw [if_neg h, if_neg h]
theorem sr_E0 : (fun _ => 0 : Nat → Int32) = sr_E (fun _ => 0) := rfl
theorem sr_lt (x : sr_F) : x.val < 12289 := x.isLt
theorem sr_lt31 (x : sr_F) : x.val < 2 ^ 31 := Nat.lt_trans x.isLt (by decide)
theorem sr_na (a b : Nat) : sr_n (a + b) = sr_n a + sr_n b := Fin.ext (Nat.add_mod a b 12289)
theorem sr_nm (a b : Nat) : sr_n (a * b) = sr_n a * sr_n b := Fin.ext (Nat.mul_mod a b 12289)
theorem sr_nv (x : sr_F) : sr_n x.val = x := Fin.ext (Nat.mod_eq_of_lt x.isLt)
theorem sr_n1 (a : Nat) : sr_n (a + 1) = sr_n a + 1 := sr_na a 1
theorem sr_ei {x y : sr_F} (h : sr_e x = sr_e y) : x = y := Fin.ext ((nI_eq (sr_lt31 x) (sr_lt31 y)).mp h)
/-- a remainder -/
theorem sr_rm {n : Nat} {v : Int32} (hv : v = nI n) (h : n < 2 ^ 31) : v - v / 12289 * 12289 = sr_e (sr_n n) := by
  subst hv
  exact pk_rem (d := 12289) h (by decide) (by decide)
theorem sr_mb (x y : sr_F) : x.val * y.val ≤ 150994944 := Nat.mul_le_mul (Nat.le_of_lt_succ x.isLt) (Nat.le_of_lt_succ y.isLt)
theorem sr_mu (x y : sr_F) : (sr_e x * sr_e y) - (sr_e x * sr_e y) / 12289 * 12289 = sr_e (x * y) := by
  have h := sr_mb x y
  have t := sr_rm (v := sr_e x * sr_e y) (pk_mul x.val y.val) (by omega)
  rw [t, sr_nm, sr_nv, sr_nv]
/-- c + x y -/
theorem sr_ma (c x y : sr_F) : (sr_e c + sr_e x * sr_e y) - (sr_e c + sr_e x * sr_e y) / 12289 * 12289 = sr_e (c + x * y) := by
  have h := sr_mb x y
  have hc := sr_lt c
  have t := sr_rm (v := sr_e c + sr_e x * sr_e y) (n := c.val + x.val * y.val) (by show nI c.val + nI x.val * nI y.val = _; rw [pk_mul, nI_add]) (by omega)
  rw [t, sr_na, sr_nm, sr_nv, sr_nv, sr_nv]
/-- x y + c -/
theorem sr_am (c x y : sr_F) : (sr_e x * sr_e y + sr_e c) - (sr_e x * sr_e y + sr_e c) / 12289 * 12289 = sr_e (x * y + c) := by
  have h := sr_mb x y
  have hc := sr_lt c
  have t := sr_rm (v := sr_e x * sr_e y + sr_e c) (n := x.val * y.val + c.val) (by show nI x.val * nI y.val + nI c.val = _; rw [pk_mul, nI_add]) (by omega)
  rw [t, sr_na, sr_nm, sr_nv, sr_nv, sr_nv]
theorem sr_a3 (x y z : sr_F) (b c : Nat) (hb : b < 100) (hc : c < 100) : (sr_e x + nI b * sr_e y + nI c * sr_e z) - (sr_e x + nI b * sr_e y + nI c * sr_e z) / 12289 * 12289 = sr_e (x + sr_n b * y + sr_n c * z) := by
  have hx := sr_lt x
  have hy : b * y.val ≤ 99 * 12289 := Nat.mul_le_mul (by omega) (Nat.le_of_lt (sr_lt y))
  have hz : c * z.val ≤ 99 * 12289 := Nat.mul_le_mul (by omega) (Nat.le_of_lt (sr_lt z))
  have t := sr_rm (v := sr_e x + nI b * sr_e y + nI c * sr_e z) (n := x.val + b * y.val + c * z.val) (by show nI x.val + nI b * nI y.val + nI c * nI z.val = _; rw [pk_mul, pk_mul, nI_add, nI_add]) (by omega)
  rw [t, sr_na, sr_na, sr_nm, sr_nm, sr_nv, sr_nv, sr_nv]
theorem sr_ne : ¬ (12289 : Int32) = 0 := by decide
theorem sr_plus {post : Int32 → Prop} {x y : sr_F} (h : post (sr_e (x + y))) : wpX_plus post () (sr_e x) (sr_e y) := by
  have hx := sr_lt x
  have hy := sr_lt y
  unfold wpX_plus
  refine nm_r (nI_add x.val y.val) ?_
  refine pk_lt (x.val + y.val) 12289 (fun z => ?_) (fun z => ?_)
  · have e : x.val + y.val = (x + y).val := by
      show _ = (x.val + y.val) % 12289
      omega
    rw [e]
    exact h
  · have e : x.val + y.val - 12289 = (x + y).val := by
      show _ = (x.val + y.val) % 12289
      omega
    rw [show (12289 : Int32) = nI 12289 from rfl, pk_sub z, e]
    exact h
theorem sr_minus {post : Int32 → Prop} {x y : sr_F} (h : post (sr_e (x - y))) : wpX_minus post () (sr_e x) (sr_e y) := by
  have hx := sr_lt x
  have hy := sr_lt y
  unfold wpX_minus
  have ev : (x - y).val = (12289 - y.val + x.val) % 12289 := rfl
  by_cases c : y.val ≤ x.val
  · refine nm_r (pk_sub c) (br_t (nI_pos' (by omega)) ?_)
    have e : x.val - y.val = (x - y).val := by
      rw [ev]
      omega
    rw [e]
    exact h
  · refine nm_e (br_f (Int32.not_le.mpr (pk_sneg (by omega) (by omega))) ?_)
    have e : x.val + 12289 - y.val = (x - y).val := by
      rw [ev]
      omega
    have t : nI x.val - nI y.val + 12289 = nI (x - y).val := by
      rw [← e, ← pk_sub (show y.val ≤ x.val + 12289 by omega), ← nI_add, show (12289 : Int32) = nI 12289 from rfl]
      grind
    show post (nI x.val - nI y.val + 12289)
    rw [t]
    exact h
/-- repeated squares -/
def sr_pw : Nat → sr_F → sr_F → Nat → sr_F
  | 0, r, _, _ => r
  | n + 1, r, s, e => if e = 0 then r else sr_pw n (if e % 2 = 0 then r else r * s) (s * s) (e / 2)
theorem sr_pwr {post : Int32 → Prop} : ∀ (n : Nat) (r s : sr_F) (e : Nat), e < 2 ^ n → n ≤ 30 → post (sr_e (sr_pw n r s e)) → wX_power_7 post (n + 1) (sr_e r) (sr_e s) (nI e) := by
  intro n
  induction n with
  | zero =>
    intro r s e he _ h
    have e0 : e = 0 := by omega
    subst e0
    exact pk_le 0 0 (fun _ => h) (fun z => absurd z (by omega))
  | succ n ih =>
    intro r s e he hn h
    have hb : (2 : Nat) ^ (n + 1) ≤ 2 ^ 30 := Nat.pow_le_pow_right (by decide) hn
    have hp : (2 : Nat) ^ (n + 1) = 2 * 2 ^ n := by rw [Nat.pow_succ, Nat.mul_comm]
    unfold sr_pw at h
    refine pk_le e 0 (fun z => ?_) (fun z => ?_) rfl rfl (by omega) (by omega)
    · rw [if_pos (by omega)] at h
      exact h
    · rw [if_neg (by omega)] at h
      have key : ∀ t : sr_F, post (sr_e (sr_pw n t (s * s) (e / 2))) → wX_power_30 post (wX_power_7 post (n + 1)) (sr_e s) (nI e) (sr_e t) := by
        intro t ht
        exact And.intro sr_ne (nm_r (sr_mu s s) (nm_r (pk_shrN (n := e) (by omega) _ 1 (by decide)) (ih t (s * s) (e / 2) (by omega) (by omega) ht)))
      have ea : nI e &&& 1 = nI (e % 2) := pk_andN (n := e) (by omega) 1 (by decide)
      refine br_c (fun z2 => ?_) (fun z2 => ?_)
      · rw [ea] at z2
        have e2 : e % 2 = 0 := (nI_eq (a := e % 2) (b := 0) (by omega) (by omega)).mp z2
        rw [if_pos e2] at h
        exact key r h
      · rw [ea] at z2
        have e2 : ¬ e % 2 = 0 := fun c => z2 (by rw [c]; rfl)
        rw [if_neg e2] at h
        refine And.intro sr_ne ?_
        rw [sr_mu]
        exact key (r * s) h
theorem sr_power {post : Int32 → Prop} {b : sr_F} {e : Nat} (he : e < 2 ^ 14) (h : post (sr_e (sr_pw 14 1 b e))) : wpX_power post () (sr_e b) (nI e) :=
  Exists.intro 15 (sr_pwr 14 1 b e he (by decide) h)
end
section
/-- a sum -/
def sr_s : Nat → (Nat → sr_F) → sr_F
  | 0, _ => 0
  | n + 1, f => sr_s n f + f n
theorem sr_fz (x : sr_F) : x + 0 = x := Lean.Grind.Fin.add_zero x
theorem sr_zf (x : sr_F) : 0 + x = x := Fin.zero_add x
theorem sr_mz (x : sr_F) : x * 0 = 0 := Fin.mul_zero x
theorem sr_zm (x : sr_F) : 0 * x = 0 := Fin.zero_mul x
theorem sr_m1 (x : sr_F) : x * 1 = x := Fin.mul_one x
theorem sr_1m (x : sr_F) : 1 * x = x := Fin.one_mul x
theorem sr_mc (x y : sr_F) : x * y = y * x := Fin.mul_comm x y
theorem sr_ac (x y : sr_F) : x + y = y + x := Lean.Grind.Fin.add_comm x y
theorem sr_aa (x y z : sr_F) : x + y + z = x + (y + z) := Lean.Grind.Fin.add_assoc x y z
theorem sr_mm (x y z : sr_F) : x * y * z = x * (y * z) := Fin.mul_assoc x y z
theorem sr_ld (x y z : sr_F) : x * (y + z) = x * y + x * z := Lean.Grind.Fin.left_distrib x y z
theorem sr_sc {n : Nat} {f g : Nat → sr_F} (h : ∀ i, i < n → f i = g i) : sr_s n f = sr_s n g := by
  induction n with
  | zero => rfl
  | succ n ih =>
    show sr_s n f + f n = sr_s n g + g n
    rw [ih (fun i hi => h i (by omega)), h n (by omega)]
theorem sr_s0 (n : Nat) : sr_s n (fun _ => 0) = 0 := by
  induction n with
  | zero => rfl
  | succ n ih =>
    show sr_s n (fun _ => 0) + 0 = 0
    rw [ih, sr_fz]
theorem sr_sz {n : Nat} {f : Nat → sr_F} (h : ∀ i, i < n → f i = 0) : sr_s n f = 0 := (sr_sc h).trans (sr_s0 n)
theorem sr_sa (n : Nat) (f g : Nat → sr_F) : sr_s n (fun i => f i + g i) = sr_s n f + sr_s n g := by
  induction n with
  | zero => rfl
  | succ n ih =>
    show sr_s n (fun i => f i + g i) + (f n + g n) = (sr_s n f + f n) + (sr_s n g + g n)
    rw [ih]
    grind
theorem sr_sl (n : Nat) (c : sr_F) (f : Nat → sr_F) : c * sr_s n f = sr_s n (fun i => c * f i) := by
  induction n with
  | zero => exact sr_mz c
  | succ n ih =>
    show c * (sr_s n f + f n) = sr_s n (fun i => c * f i) + c * f n
    rw [← ih, sr_ld]
theorem sr_sr (n : Nat) (c : sr_F) (f : Nat → sr_F) : sr_s n f * c = sr_s n (fun i => f i * c) := by
  rw [sr_mc, sr_sl]
  exact sr_sc (fun i _ => sr_mc c (f i))
theorem sr_ss (n m : Nat) (f : Nat → Nat → sr_F) : sr_s n (fun i => sr_s m (fun j => f i j)) = sr_s m (fun j => sr_s n (fun i => f i j)) := by
  induction n with
  | zero => exact (sr_s0 m).symm
  | succ n ih =>
    show sr_s n (fun i => sr_s m (fun j => f i j)) + sr_s m (fun j => f n j) = sr_s m (fun j => sr_s n (fun i => f i j) + f n j)
    rw [ih, sr_sa]
/-- the sum in two pieces -/
theorem sr_sp (a b : Nat) (f : Nat → sr_F) : sr_s (a + b) f = sr_s a f + sr_s b (fun i => f (a + i)) := by
  induction b with
  | zero => exact (sr_fz _).symm
  | succ b ih =>
    show sr_s (a + b) f + f (a + b) = sr_s a f + (sr_s b (fun i => f (a + i)) + f (a + b))
    rw [ih, sr_aa]
/-- the first summand apart -/
theorem sr_sh (n : Nat) (f : Nat → sr_F) : sr_s (n + 1) f = f 0 + sr_s n (fun i => f (i + 1)) := by
  induction n with
  | zero =>
    show (0 : sr_F) + f 0 = f 0 + 0
    rw [sr_zf, sr_fz]
  | succ n ih =>
    show sr_s (n + 1) f + f (n + 1) = f 0 + (sr_s n (fun i => f (i + 1)) + f (n + 1))
    rw [ih, sr_aa]
/-- even and odd places -/
theorem sr_s2 (m : Nat) (f : Nat → sr_F) : sr_s (2 * m) f = sr_s m (fun j => f (2 * j) + f (2 * j + 1)) := by
  induction m with
  | zero => rfl
  | succ m ih =>
    show sr_s (2 * m) f + f (2 * m) + f (2 * m + 1) = sr_s m (fun j => f (2 * j) + f (2 * j + 1)) + (f (2 * m) + f (2 * m + 1))
    rw [ih, sr_aa]
/-- one summand alone -/
theorem sr_s1 {n k : Nat} (hk : k < n) (f : Nat → sr_F) : sr_s n (fun i => if i = k then f i else 0) = f k := by
  induction n with
  | zero => exact absurd hk (by omega)
  | succ n ih =>
    show sr_s n (fun i => if i = k then f i else 0) + (if n = k then f n else 0) = f k
    by_cases e : n = k
    · rw [if_pos e, sr_sz (fun i hi => if_neg (by omega)), sr_zf, e]
    · rw [if_neg e, ih (by omega), sr_fz]
theorem sr_s1z {n k : Nat} (hk : n ≤ k) (f : Nat → sr_F) : sr_s n (fun i => if i = k then f i else 0) = 0 :=
  sr_sz (fun i hi => if_neg (by omega))
/-- powers -/
def sr_p (w : sr_F) : Nat → sr_F
  | 0 => 1
  | n + 1 => sr_p w n * w
theorem sr_pa (w : sr_F) (m n : Nat) : sr_p w (m + n) = sr_p w m * sr_p w n := by
  induction n with
  | zero => exact (sr_m1 _).symm
  | succ n ih =>
    show sr_p w (m + n) * w = sr_p w m * (sr_p w n * w)
    rw [ih, sr_mm]
theorem sr_pm (w : sr_F) (m n : Nat) : sr_p w (m * n) = sr_p (sr_p w m) n := by
  induction n with
  | zero => rfl
  | succ n ih =>
    rw [Nat.mul_succ, sr_pa, ih]
    rfl
theorem sr_p1 (n : Nat) : sr_p 1 n = 1 := by
  induction n with
  | zero => rfl
  | succ n ih =>
    show sr_p 1 n * 1 = 1
    rw [ih]
    rfl
/-- the product of two series of m numbers, at place n -/
def sr_c (m : Nat) (a b : Nat → sr_F) (n : Nat) : sr_F := sr_s m (fun i => sr_s m (fun j => if i + j = n then a i * b j else 0))
theorem sr_ccg {m : Nat} {a b a' b' : Nat → sr_F} (ha : ∀ i, i < m → a i = a' i) (hb : ∀ i, i < m → b i = b' i) (n : Nat) : sr_c m a b n = sr_c m a' b' n :=
  sr_sc (fun i hi => sr_sc (fun j hj => by rw [ha i hi, hb j hj]))
theorem sr_ccm (m : Nat) (a b : Nat → sr_F) (n : Nat) : sr_c m a b n = sr_c m b a n := by
  unfold sr_c
  rw [sr_ss]
  refine sr_sc (fun j _ => sr_sc (fun i _ => ?_))
  by_cases h : i + j = n
  · rw [if_pos h, if_pos (by omega), sr_mc]
  · rw [if_neg h, if_neg (by omega)]
theorem sr_cz {m : Nat} (a b : Nat → sr_F) {n : Nat} (h : 2 * m ≤ n + 1) : sr_c m a b n = 0 :=
  sr_sz (fun i hi => sr_sz (fun j hj => if_neg (by omega)))
theorem sr_cal (m : Nat) (a a' b : Nat → sr_F) (n : Nat) : sr_c m (fun i => a i + a' i) b n = sr_c m a b n + sr_c m a' b n := by
  unfold sr_c
  rw [← sr_sa]
  refine sr_sc (fun i _ => ?_)
  rw [← sr_sa]
  refine sr_sc (fun j _ => ?_)
  by_cases h : i + j = n
  · rw [if_pos h, if_pos h, if_pos h]
    grind
  · rw [if_neg h, if_neg h, if_neg h, sr_fz]
theorem sr_cml (m : Nat) (c : sr_F) (a b : Nat → sr_F) (n : Nat) : sr_c m (fun i => c * a i) b n = c * sr_c m a b n := by
  unfold sr_c
  rw [sr_sl]
  refine sr_sc (fun i _ => ?_)
  rw [sr_sl]
  refine sr_sc (fun j _ => ?_)
  by_cases h : i + j = n
  · rw [if_pos h, if_pos h, sr_mm]
  · rw [if_neg h, if_neg h, sr_mz]
theorem sr_car (m : Nat) (a b b' : Nat → sr_F) (n : Nat) : sr_c m a (fun i => b i + b' i) n = sr_c m a b n + sr_c m a b' n := by
  rw [sr_ccm, sr_cal, sr_ccm m b, sr_ccm m b']
theorem sr_cmr (m : Nat) (c : sr_F) (a b : Nat → sr_F) (n : Nat) : sr_c m a (fun i => c * b i) n = c * sr_c m a b n := by
  rw [sr_ccm, sr_cml, sr_ccm m b]
/-- the product as one sum -/
theorem sr_c1 {m : Nat} (a b : Nat → sr_F) {n : Nat} (h : n < m) : sr_c m a b n = sr_s (n + 1) (fun i => a i * b (n - i)) := by
  unfold sr_c
  obtain ⟨d, rfl⟩ : ∃ d, m = (n + 1) + d := ⟨m - (n + 1), by omega⟩
  rw [sr_sp (n + 1) d, sr_sz (n := d) (fun i hi => sr_sz (fun j hj => if_neg (by omega))), sr_fz]
  refine sr_sc (fun i hi => ?_)
  refine (sr_sc (g := fun j => if j = n - i then a i * b j else 0) (fun j _ => ?_)).trans (sr_s1 (by omega) (fun j => a i * b j))
  by_cases c : i + j = n
  · rw [if_pos c, if_pos (by omega)]
  · rw [if_neg c, if_neg (by omega)]
end
section
theorem sr_sd (n : Nat) (f g : Nat → sr_F) : sr_s n (fun i => f i - g i) = sr_s n f - sr_s n g := by
  induction n with
  | zero => rfl
  | succ n ih =>
    show sr_s n (fun i => f i - g i) + (f n - g n) = (sr_s n f + f n) - (sr_s n g + g n)
    rw [ih]
    grind
/-- s bits turned around -/
def sr_rv : Nat → Nat → Nat
  | 0, _ => 0
  | s + 1, j => sr_rv s (j / 2) + (j % 2) * 2 ^ s
theorem sr_rve (s j : Nat) : sr_rv (s + 1) (2 * j) = sr_rv s j := by
  show sr_rv s (2 * j / 2) + (2 * j % 2) * 2 ^ s = sr_rv s j
  rw [show 2 * j / 2 = j by omega, show 2 * j % 2 = 0 by omega, Nat.zero_mul, Nat.add_zero]
theorem sr_rvo (s j : Nat) : sr_rv (s + 1) (2 * j + 1) = sr_rv s j + 2 ^ s := by
  show sr_rv s ((2 * j + 1) / 2) + ((2 * j + 1) % 2) * 2 ^ s = sr_rv s j + 2 ^ s
  rw [show (2 * j + 1) / 2 = j by omega, show (2 * j + 1) % 2 = 1 by omega, Nat.one_mul]
/-- one stage of the transform -/
def sr_Sg (w : sr_F) (x g : Nat → sr_F) (s : Nat) : Prop := ∀ b k, b < 2 ^ (5 - s) → k < 2 ^ s →
  g (b * 2 ^ (s + 1) + k) = x (b * 2 ^ (s + 1) + k) + x (b * 2 ^ (s + 1) + k + 2 ^ s) * sr_p w (k * 2 ^ (5 - s)) ∧
  g (b * 2 ^ (s + 1) + k + 2 ^ s) = x (b * 2 ^ (s + 1) + k) - x (b * 2 ^ (s + 1) + k + 2 ^ s) * sr_p w (k * 2 ^ (5 - s))
/-- what stands there after s stages -/
def sr_Ph (w : sr_F) (y g : Nat → sr_F) (s : Nat) : Prop := ∀ b k, b < 2 ^ (6 - s) → k < 2 ^ s →
  g (b * 2 ^ s + k) = sr_s (2 ^ s) (fun j => y (b * 2 ^ s + sr_rv s j) * sr_p w (2 ^ (6 - s) * (j * k)))
theorem sr_pe {w : sr_F} (hw : sr_p w 32 = -1) (j : Nat) : sr_p w (32 * (2 * j)) = 1 := by
  rw [sr_pm, hw, sr_pm, show sr_p (-1) 2 = 1 from by decide, sr_p1]
theorem sr_x1 (H j k : Nat) : H * (2 * j * k) = 2 * H * (j * k) := by grind
theorem sr_x2 (H j k : Nat) : H * ((2 * j + 1) * k) = 2 * H * (j * k) + k * H := by grind
theorem sr_x3 (H M j k : Nat) (h : H * M = 32) : H * (2 * j * (M + k)) = 2 * H * (j * k) + 32 * (2 * j) := by
  rw [← h]
  grind
theorem sr_x4 (H M j k : Nat) (h : H * M = 32) : H * ((2 * j + 1) * (M + k)) = 2 * H * (j * k) + k * H + 32 * (2 * j) + 32 := by
  have e : H * ((2 * j + 1) * (M + k)) = 2 * H * (j * k) + k * H + H * M * (2 * j) + H * M := by grind
  rw [e, h]
theorem sr_r1 (y0 y1 p q : sr_F) : y0 * p - y1 * p * q = y0 * (p * 1) + y1 * (p * q * 1 * -1) := by grind
theorem sr_stage0 {w : sr_F} (hw : sr_p w 32 = -1) {y x g : Nat → sr_F} {s M H b k : Nat} (hM : 2 ^ s = M) (e3 : H * M = 32) (hb : b < H) (hk : k < 2 * M)
    (hg : ∀ k, k < M → g (b * (2 * M) + k) = x (b * (2 * M) + k) + x (b * (2 * M) + k + M) * sr_p w (k * H) ∧ g (b * (2 * M) + k + M) = x (b * (2 * M) + k) - x (b * (2 * M) + k + M) * sr_p w (k * H))
    (h : ∀ b k, b < 2 * H → k < M → x (b * M + k) = sr_s M (fun j => y (b * M + sr_rv s j) * sr_p w (2 * H * (j * k)))) :
    g (b * (2 * M) + k) = sr_s (2 * M) (fun j => y (b * (2 * M) + sr_rv (s + 1) j) * sr_p w (H * (j * k))) := by
  have ha := h (2 * b)
  have hc := h (2 * b + 1)
  have i1 : 2 * b * M = b * (2 * M) := by rw [Nat.mul_comm 2 b, Nat.mul_assoc]
  have i2 : (2 * b + 1) * M = b * (2 * M) + M := by rw [Nat.succ_mul, i1]
  rw [i1] at ha
  rw [i2] at hc
  rw [sr_s2]
  by_cases c : k < M
  · have ha' := ha k (by omega) c
    have hc' := hc k (by omega) c
    rw [show b * (2 * M) + M + k = b * (2 * M) + k + M by omega] at hc'
    rw [(hg k c).1, ha', hc', sr_sr, ← sr_sa]
    refine sr_sc (fun j _ => ?_)
    rw [sr_rve, sr_rvo, sr_x1, sr_x2, sr_pa, hM, show b * (2 * M) + (sr_rv s j + M) = b * (2 * M) + M + sr_rv s j by omega, sr_mm]
  · obtain ⟨k', rfl⟩ : ∃ k', k = M + k' := ⟨k - M, by omega⟩
    have ck : k' < M := by omega
    have ha' := ha k' (by omega) ck
    have hc' := hc k' (by omega) ck
    rw [show b * (2 * M) + M + k' = b * (2 * M) + k' + M by omega] at hc'
    rw [show b * (2 * M) + (M + k') = b * (2 * M) + k' + M by omega, (hg k' ck).2, ha', hc', sr_sr, ← sr_sd]
    refine sr_sc (fun j _ => ?_)
    rw [sr_rve, sr_rvo, sr_x3 H M j k' e3, sr_x4 H M j k' e3, sr_pa, sr_pa, sr_pa, sr_pa, sr_pe hw, hw, hM, show b * (2 * M) + (sr_rv s j + M) = b * (2 * M) + M + sr_rv s j by omega]
    exact sr_r1 _ _ _ _
theorem sr_stage {w : sr_F} (hw : sr_p w 32 = -1) {y x g : Nat → sr_F} {s : Nat} (hs : s < 6) (h : sr_Ph w y x s) (hg : sr_Sg w x g s) : sr_Ph w y g (s + 1) := by
  intro b k hb hk
  have e1 : (2 : Nat) ^ (s + 1) = 2 * 2 ^ s := by rw [Nat.pow_succ, Nat.mul_comm]
  have e2 : (2 : Nat) ^ (6 - s) = 2 * 2 ^ (5 - s) := by rw [show 6 - s = (5 - s) + 1 by omega, Nat.pow_succ, Nat.mul_comm]
  have e3 : (2 : Nat) ^ (5 - s) * 2 ^ s = 32 := by rw [← Nat.pow_add, show 5 - s + s = 5 by omega]
  have e4 : 6 - (s + 1) = 5 - s := by omega
  unfold sr_Ph at h
  unfold sr_Sg at hg
  rw [e2] at h
  rw [e1] at hg hk ⊢
  rw [e4] at hb ⊢
  exact sr_stage0 hw rfl e3 hb hk (fun k hk => hg b k hb hk) h
theorem sr_ph0 (w : sr_F) (y : Nat → sr_F) : sr_Ph w y y 0 := by
  intro b k hb hk
  have k0 : k = 0 := by omega
  subst k0
  show y (b * 1 + 0) = 0 + y (b * 1 + 0) * sr_p w (64 * (0 * 0))
  rw [sr_zf, show 64 * (0 * 0) = 0 from rfl]
  exact (sr_m1 _).symm
theorem sr_ph6 {w : sr_F} {y g : Nat → sr_F} (h : sr_Ph w y g 6) (k : Nat) (hk : k < 64) : g k = sr_s 64 (fun j => y (sr_rv 6 j) * sr_p w (j * k)) := by
  have t := h 0 k (by decide) hk
  rw [show 0 * 2 ^ 6 + k = k by omega] at t
  rw [t]
  refine sr_sc (fun j _ => ?_)
  rw [show 0 * 2 ^ 6 + sr_rv 6 j = sr_rv 6 j by omega, show 2 ^ (6 - 6) * (j * k) = j * k from Nat.one_mul _]
/-- the sum of the powers, from the top -/
def sr_hz (u : sr_F) : Nat → sr_F
  | 0 => 0
  | n + 1 => sr_hz u n * u + 1
theorem sr_hze (u : sr_F) (n : Nat) : sr_s n (fun k => sr_p u k) = sr_hz u n := by
  induction n with
  | zero => rfl
  | succ n ih =>
    rw [sr_sh]
    show 1 + sr_s n (fun i => sr_p u i * u) = sr_hz u n * u + 1
    rw [← sr_sr, ih, sr_ac]
theorem sr_ort : ∀ r, r < 64 → sr_hz (sr_p 7311 r) 64 * 12097 = if r = 0 then 1 else 0 := by decide +kernel
theorem sr_w64 : sr_p 7311 64 = 1 := by decide +kernel
theorem sr_w63 : sr_p 7311 63 = 9650 := by decide +kernel
theorem sr_w32 : sr_p 7311 32 = -1 := by decide +kernel
theorem sr_v32 : sr_p 9650 32 = -1 := by decide +kernel
theorem sr_pmd (e : Nat) : sr_p 7311 e = sr_p 7311 (e % 64) := by
  have t : e = 64 * (e / 64) + e % 64 := by omega
  have q : sr_p 7311 (64 * (e / 64) + e % 64) = sr_p 7311 (e % 64) := by
    rw [sr_pa, sr_pm, sr_w64, sr_p1, sr_1m]
  rw [← t] at q
  exact q
theorem sr_geo (e : Nat) : sr_s 64 (fun k => sr_p 7311 (e * k)) * 12097 = if e % 64 = 0 then 1 else 0 := by
  rw [← sr_ort (e % 64) (by omega), ← sr_hze, ← sr_pmd e]
  congr 1
  exact sr_sc (fun k _ => sr_pm _ _ _)
theorem sr_half (a f : Nat → sr_F) : sr_s 64 (fun i => (if i < 32 then a i else 0) * f i) = sr_s 32 (fun i => a i * f i) := by
  rw [show (64 : Nat) = 32 + 32 from rfl, sr_sp, sr_sz (n := 32) (f := fun i => (if 32 + i < 32 then a (32 + i) else 0) * f (32 + i)) (fun i hi => by rw [if_neg (by omega), sr_zm]), sr_fz]
  exact sr_sc (fun i hi => by rw [if_pos hi])
theorem sr_r2 (a b p q r c : sr_F) : a * p * (b * q) * r * c = a * b * (p * q * r * c) := by grind
theorem sr_ntt (a b : Nat → sr_F) {n : Nat} (hn : n < 32) :
    sr_s 64 (fun k => sr_s 64 (fun i => (if i < 32 then a i else 0) * sr_p 7311 (i * k)) * sr_s 64 (fun j => (if j < 32 then b j else 0) * sr_p 7311 (j * k)) * sr_p 9650 (k * n)) * 12097 = sr_c 32 a b n := by
  have A : ∀ k, sr_s 64 (fun i => (if i < 32 then a i else 0) * sr_p 7311 (i * k)) * sr_s 64 (fun j => (if j < 32 then b j else 0) * sr_p 7311 (j * k)) * sr_p 9650 (k * n) * 12097 = sr_s 32 (fun i => sr_s 32 (fun j => a i * b j * (sr_p 7311 ((i + j + 63 * n) * k) * 12097))) := by
    intro k
    rw [sr_half a (fun i => sr_p 7311 (i * k)), sr_half b (fun i => sr_p 7311 (i * k)), sr_sr, sr_sr, sr_sr]
    refine sr_sc (fun i _ => ?_)
    rw [sr_sl, sr_sr, sr_sr]
    refine sr_sc (fun j _ => ?_)
    rw [sr_r2, ← sr_w63, ← sr_pm, ← sr_pa, ← sr_pa, show i * k + j * k + 63 * (k * n) = (i + j + 63 * n) * k by grind]
  rw [sr_sr, sr_sc (fun k _ => A k), sr_ss]
  refine sr_sc (fun i hi => ?_)
  rw [sr_ss]
  refine sr_sc (fun j hj => ?_)
  rw [← sr_sl, ← sr_sr, sr_geo]
  by_cases c : i + j = n
  · rw [if_pos c, if_pos (by omega), sr_m1]
  · rw [if_neg c, if_neg (by omega), sr_mz]
end
section
theorem sr_ad2 {a a' b b' : sr_F} (h1 : a = a') (h2 : b = b') : a + b = a' + b' := by rw [h1, h2]
/-- the value of a series of m numbers at x -/
def sr_ev (m : Nat) (c : Nat → sr_F) (x : sr_F) : sr_F := sr_s m (fun i => c i * sr_p x i)
/-- the product's values are the values' products -/
theorem sr_r3 (a b p q : sr_F) : a * p * (b * q) = a * b * (p * q) := by grind
theorem sr_evm (a b : Nat → sr_F) (x : sr_F) : sr_ev 32 a x * sr_ev 32 b x = sr_ev 64 (sr_c 32 a b) x := by
  unfold sr_ev sr_c
  have R : ∀ n, sr_s 32 (fun i => sr_s 32 (fun j => if i + j = n then a i * b j else 0)) * sr_p x n = sr_s 32 (fun i => sr_s 32 (fun j => if n = i + j then a i * b j * sr_p x n else 0)) := by
    intro n
    rw [sr_sr]
    refine sr_sc (fun i _ => ?_)
    rw [sr_sr]
    refine sr_sc (fun j _ => ?_)
    by_cases h : i + j = n
    · rw [if_pos h, if_pos h.symm]
    · rw [if_neg h, if_neg (fun z => h z.symm), sr_zm]
  rw [sr_sc (n := 64) (fun n _ => R n), sr_ss, sr_sr]
  refine sr_sc (fun i hi => ?_)
  rw [sr_ss, sr_sl]
  refine sr_sc (fun j hj => ?_)
  rw [sr_s1 (n := 64) (k := i + j) (by omega) (fun n => a i * b j * sr_p x n), sr_pa, sr_r3]
/-- Horner's rule -/
def sr_hn (r : Nat → sr_F) (x : sr_F) : Nat → sr_F
  | 0 => 0
  | n + 1 => sr_hn r x n * x + r (31 - n)
theorem sr_hne (r : Nat → sr_F) (x : sr_F) : ∀ n, n ≤ 32 → sr_hn r x n = sr_s n (fun j => r (32 - n + j) * sr_p x j) := by
  intro n
  induction n with
  | zero => exact fun _ => rfl
  | succ n ih =>
    intro hn
    rw [sr_sh]
    show sr_hn r x n * x + r (31 - n) = r (32 - (n + 1) + 0) * 1 + sr_s n (fun i => r (32 - (n + 1) + (i + 1)) * (sr_p x i * x))
    rw [ih (by omega), sr_sr, sr_m1, sr_ac, show 32 - (n + 1) + 0 = 31 - n by omega]
    refine sr_ad2 rfl ?_
    refine sr_sc (fun j _ => ?_)
    rw [sr_mm, show 32 - (n + 1) + (j + 1) = 32 - n + j by omega]
theorem sr_hnv (r : Nat → sr_F) (x : sr_F) : sr_hn r x 32 = sr_ev 32 r x := by
  rw [sr_hne r x 32 (by omega)]
  exact sr_sc (fun j _ => by rw [show 32 - 32 + j = j by omega])
/-- a series out of what was divided off, from the last point on -/
def sr_rb (d : Nat → sr_F) : Nat → Nat → sr_F
  | 0 => fun _ => 0
  | n + 1 => fun i => (if i = 0 then d (62 - n) else sr_rb d n (i - 1)) - sr_rb d n i * sr_n (62 - n)
theorem sr_rbz (d : Nat → sr_F) : ∀ n i, n ≤ i → sr_rb d n i = 0 := by
  intro n
  induction n with
  | zero => exact fun i _ => rfl
  | succ n ih =>
    intro i hi
    show (if i = 0 then d (62 - n) else sr_rb d n (i - 1)) - sr_rb d n i * sr_n (62 - n) = 0
    rw [if_neg (by omega), ih (i - 1) (by omega), ih i (by omega), sr_zm]
    rfl
theorem sr_rbc {d d' : Nat → sr_F} : ∀ n, n ≤ 63 → (∀ k, 63 - n ≤ k → d k = d' k) → sr_rb d n = sr_rb d' n := by
  intro n
  induction n with
  | zero => exact fun _ _ => rfl
  | succ n ih =>
    intro hn h
    funext i
    show (if i = 0 then d (62 - n) else sr_rb d n (i - 1)) - sr_rb d n i * sr_n (62 - n) = (if i = 0 then d' (62 - n) else sr_rb d' n (i - 1)) - sr_rb d' n i * sr_n (62 - n)
    rw [ih (by omega) (fun k hk => h k (by omega)), h (62 - n) (by omega)]
/-- a series is divided by x less a point -/
theorem sr_dv {m : Nat} {c : Nat → sr_F} (hc : ∀ i, m + 1 ≤ i → c i = 0) (x : sr_F) : ∃ (q : Nat → sr_F) (d : sr_F), (∀ i, m ≤ i → q i = 0) ∧ ∀ i, c i = (if i = 0 then d else q (i - 1)) - q i * x := by
  let q : Nat → sr_F := fun i => sr_s m (fun j => c (i + 1 + j) * sr_p x j)
  have hq : ∀ i, q i = c (i + 1) + q (i + 1) * x := by
    intro i
    show sr_s m (fun j => c (i + 1 + j) * sr_p x j) = c (i + 1) + sr_s m (fun j => c (i + 1 + 1 + j) * sr_p x j) * x
    cases m with
    | zero =>
      show (0 : sr_F) = c (i + 1) + 0 * x
      rw [hc (i + 1) (by omega), sr_zm]
      rfl
    | succ m =>
      rw [sr_sh]
      show c (i + 1 + 0) * 1 + sr_s m (fun j => c (i + 1 + (j + 1)) * (sr_p x j * x)) = c (i + 1) + (sr_s m (fun j => c (i + 1 + 1 + j) * sr_p x j) + c (i + 1 + 1 + m) * sr_p x m) * x
      rw [hc (i + 1 + 1 + m) (by omega), sr_zm, sr_fz, sr_sr, sr_m1, Nat.add_zero]
      refine sr_ad2 rfl ?_
      refine sr_sc (fun j _ => ?_)
      rw [sr_mm, show i + 1 + (j + 1) = i + 1 + 1 + j by omega]
  refine ⟨q, c 0 + q 0 * x, ?_, ?_⟩
  · intro i hi
    exact sr_sz (fun j hj => by rw [hc (i + 1 + j) (by omega), sr_zm])
  · intro i
    cases i with
    | zero =>
      rw [if_pos rfl]
      grind
    | succ i =>
      rw [if_neg (by omega), Nat.add_sub_cancel, hq i]
      grind
theorem sr_rbx : ∀ n, n ≤ 63 → ∀ c : Nat → sr_F, (∀ i, n ≤ i → c i = 0) → ∃ d, sr_rb d n = c := by
  intro n
  induction n with
  | zero => exact fun _ c hc => ⟨fun _ => 0, funext (fun i => (hc i (by omega)).symm)⟩
  | succ n ih =>
    intro hn c hc
    obtain ⟨q, d0, hq, hcq⟩ := sr_dv hc (sr_n (62 - n))
    obtain ⟨d, hd⟩ := ih (by omega) q hq
    refine ⟨sr_u d (62 - n) d0, ?_⟩
    have e : sr_rb (sr_u d (62 - n) d0) n = q := by
      rw [← hd]
      exact sr_rbc n (by omega) (fun k hk => sr_un (by omega))
    funext i
    show (if i = 0 then sr_u d (62 - n) d0 (62 - n) else sr_rb (sr_u d (62 - n) d0) n (i - 1)) - sr_rb (sr_u d (62 - n) d0) n i * sr_n (62 - n) = c i
    rw [e, sr_us, hcq i]
/-- products of x less points, from point a on -/
def sr_nb (x : sr_F) : Nat → Nat → sr_F
  | _, 0 => 1
  | a, k + 1 => (x - sr_n a) * sr_nb x (a + 1) k
theorem sr_nbl (x : sr_F) : ∀ k a, sr_nb x a (k + 1) = sr_nb x a k * (x - sr_n (a + k)) := by
  intro k
  induction k with
  | zero =>
    intro a
    show (x - sr_n a) * 1 = 1 * (x - sr_n (a + 0))
    rw [sr_m1, sr_1m, Nat.add_zero]
  | succ k ih =>
    intro a
    show (x - sr_n a) * sr_nb x (a + 1) (k + 1) = (x - sr_n a) * sr_nb x (a + 1) k * (x - sr_n (a + (k + 1)))
    rw [ih (a + 1), sr_mm, show a + 1 + k = a + (k + 1) by omega]
theorem sr_evr (d : Nat → sr_F) (x : sr_F) : ∀ n, n ≤ 63 → sr_ev 64 (sr_rb d n) x = sr_s n (fun j => d (63 - n + j) * sr_nb x (63 - n) j) := by
  intro n
  induction n with
  | zero =>
    intro _
    exact sr_sz (fun i _ => sr_zm _)
  | succ n ih =>
    intro hn
    have E : sr_ev 64 (sr_rb d (n + 1)) x = d (62 - n) + (x - sr_n (62 - n)) * sr_ev 64 (sr_rb d n) x := by
      have h1 : sr_ev 64 (sr_rb d (n + 1)) x = sr_s 64 (fun i => (if i = 0 then d (62 - n) else sr_rb d n (i - 1)) * sr_p x i) - sr_ev 64 (sr_rb d n) x * sr_n (62 - n) := by
        unfold sr_ev
        rw [sr_sr, ← sr_sd]
        refine sr_sc (fun i _ => ?_)
        show ((if i = 0 then d (62 - n) else sr_rb d n (i - 1)) - sr_rb d n i * sr_n (62 - n)) * sr_p x i = _
        generalize (if i = 0 then d (62 - n) else sr_rb d n (i - 1)) = A
        generalize sr_rb d n i = B
        grind
      have h2 : sr_s 64 (fun i => (if i = 0 then d (62 - n) else sr_rb d n (i - 1)) * sr_p x i) = d (62 - n) + sr_ev 64 (sr_rb d n) x * x := by
        have h3 : sr_ev 64 (sr_rb d n) x = sr_s 63 (fun i => sr_rb d n i * sr_p x i) := by
          show sr_s 63 (fun i => sr_rb d n i * sr_p x i) + sr_rb d n 63 * sr_p x 63 = _
          rw [sr_rbz d n 63 (by omega), sr_zm, sr_fz]
        rw [h3, sr_sh 63, sr_sr]
        show d (62 - n) * 1 + _ = _
        rw [sr_m1]
        refine sr_ad2 rfl ?_
        refine sr_sc (fun i _ => ?_)
        rw [if_neg (by omega), Nat.add_sub_cancel, sr_mm]
        rfl
      rw [h1, h2]
      grind
    rw [E, ih (by omega), sr_sh, sr_sl]
    show d (62 - n) + _ = d (63 - (n + 1) + 0) * 1 + _
    rw [sr_m1, show 63 - (n + 1) + 0 = 62 - n by omega]
    refine sr_ad2 rfl ?_
    refine sr_sc (fun j _ => ?_)
    show (x - sr_n (62 - n)) * (d (63 - n + j) * sr_nb x (63 - n) j) = d (63 - (n + 1) + (j + 1)) * ((x - sr_n (63 - (n + 1))) * sr_nb x (63 - (n + 1) + 1) j)
    rw [show 63 - (n + 1) + (j + 1) = 63 - n + j by omega, show 63 - (n + 1) + 1 = 63 - n by omega, show 63 - (n + 1) = 62 - n by omega]
    grind
/-- divided differences from point s on -/
def sr_ds (d : Nat → sr_F) : Nat → Nat → sr_F
  | 0 => fun k => if k < 63 then d k else 0
  | s + 1 => fun k => sr_ds d s k + sr_n (k + 1) * sr_ds d s (k + 1)
theorem sr_dsz (d : Nat → sr_F) : ∀ s k, 63 ≤ k → sr_ds d s k = 0 := by
  intro s
  induction s with
  | zero => exact fun k hk => if_neg (by omega)
  | succ s ih =>
    intro k hk
    show sr_ds d s k + sr_n (k + 1) * sr_ds d s (k + 1) = 0
    rw [ih k hk, ih (k + 1) (by omega), sr_mz]
    rfl
theorem sr_nbs (x : sr_F) (s : Nat) : ∀ k, sr_nb x s (k + 1) = sr_nb x (s + 1) (k + 1) + sr_n (k + 1) * sr_nb x (s + 1) k := by
  intro k
  rw [sr_nbl x k (s + 1), show s + 1 + k = s + (k + 1) by omega, sr_na]
  show (x - sr_n s) * sr_nb x (s + 1) k = _
  grind
theorem sr_dse (d : Nat → sr_F) (x : sr_F) : ∀ s, sr_s 63 (fun k => sr_ds d s k * sr_nb x s k) = sr_s 63 (fun k => sr_ds d 0 k * sr_nb x 0 k) := by
  intro s
  induction s with
  | zero => rfl
  | succ s ih =>
    rw [← ih]
    have h1 : sr_s 63 (fun k => sr_ds d (s + 1) k * sr_nb x (s + 1) k) = sr_s 63 (fun k => sr_ds d s k * sr_nb x (s + 1) k) + sr_s 63 (fun k => sr_n (k + 1) * sr_ds d s (k + 1) * sr_nb x (s + 1) k) := by
      rw [← sr_sa]
      refine sr_sc (fun k _ => ?_)
      show (sr_ds d s k + sr_n (k + 1) * sr_ds d s (k + 1)) * sr_nb x (s + 1) k = _
      grind
    have h2 : sr_s 63 (fun k => sr_n (k + 1) * sr_ds d s (k + 1) * sr_nb x (s + 1) k) = sr_s 62 (fun k => sr_n (k + 1) * sr_ds d s (k + 1) * sr_nb x (s + 1) k) := by
      show sr_s 62 (fun k => sr_n (k + 1) * sr_ds d s (k + 1) * sr_nb x (s + 1) k) + sr_n (62 + 1) * sr_ds d s (62 + 1) * sr_nb x (s + 1) 62 = _
      rw [sr_dsz d s (62 + 1) (by omega), sr_mz, sr_zm, sr_fz]
    rw [h1, h2, sr_sh 62, sr_sh 62, sr_aa, ← sr_sa]
    refine sr_ad2 rfl ?_
    refine sr_sc (fun k _ => ?_)
    rw [sr_nbs x s k]
    grind
theorem sr_nb0 (s k : Nat) : sr_nb (sr_n s) s (k + 1) = 0 := by
  show (sr_n s - sr_n s) * sr_nb (sr_n s) (s + 1) k = 0
  grind
/-- the first of the differences is the value -/
theorem sr_dsv {c d : Nat → sr_F} (hd : sr_rb d 63 = c) (s : Nat) : sr_ds d s 0 = sr_ev 64 c (sr_n s) := by
  have h := sr_evr d (sr_n s) 63 (by omega)
  rw [hd] at h
  have h0 : sr_s 63 (fun j => d (63 - 63 + j) * sr_nb (sr_n s) (63 - 63) j) = sr_s 63 (fun k => sr_ds d 0 k * sr_nb (sr_n s) 0 k) := by
    refine sr_sc (fun j hj => ?_)
    show _ = (if j < 63 then d j else 0) * sr_nb (sr_n s) 0 j
    rw [if_pos hj, show 63 - 63 + j = j by omega]
  rw [h, h0, ← sr_dse d (sr_n s) s, sr_sh 62, sr_sz (n := 62) (fun i _ => by rw [sr_nb0, sr_mz]), sr_fz]
  exact (sr_m1 _).symm
theorem sr_ds1 (d : Nat → sr_F) (s k : Nat) (v : sr_F) (hv : sr_n (k + 1) * v = 1) : (sr_ds d (s + 1) k - sr_ds d s k) * v = sr_ds d s (k + 1) := by
  show (sr_ds d s k + sr_n (k + 1) * sr_ds d s (k + 1) - sr_ds d s k) * v = sr_ds d s (k + 1)
  grind
end
section
theorem sr_if {c d : Prop} [Decidable c] [Decidable d] (h : c ↔ d) {x y : sr_F} : (if c then x else y) = if d then x else y := by
  by_cases e : c
  · rw [if_pos e, if_pos (h.mp e)]
  · rw [if_neg e, if_neg (fun z => e (h.mpr z))]
/-- a block of a product: p numbers of a, q numbers of b, d places up -/
def sr_D (p q d : Nat) (a b : Nat → sr_F) (n : Nat) : sr_F := sr_s p (fun i => sr_s q (fun j => if d + i + j = n then a i * b j else 0))
theorem sr_Dl (p p' q d : Nat) (a b : Nat → sr_F) (n : Nat) : sr_D (p + p') q d a b n = sr_D p q d a b n + sr_D p' q (d + p) (fun i => a (p + i)) b n := by
  unfold sr_D
  rw [sr_sp]
  congr 1
  exact sr_sc (fun i _ => sr_sc (fun j _ => by rw [Nat.add_assoc d p i]))
theorem sr_Dr (p q q' d : Nat) (a b : Nat → sr_F) (n : Nat) : sr_D p (q + q') d a b n = sr_D p q d a b n + sr_D p q' (d + q) a (fun i => b (q + i)) n := by
  unfold sr_D
  rw [← sr_sa]
  refine sr_sc (fun i _ => ?_)
  rw [sr_sp]
  congr 1
  exact sr_sc (fun j _ => by rw [show d + i + (q + j) = d + q + i + j by omega])
/-- a series d places up -/
def sr_h (d n : Nat) (f : Nat → sr_F) : sr_F := if d ≤ n then f (n - d) else 0
theorem sr_h0 (n : Nat) (f : Nat → sr_F) : sr_h 0 n f = f n := if_pos (Nat.zero_le n)
theorem sr_ha (d n : Nat) (f g : Nat → sr_F) : sr_h d n (fun m => f m + g m) = sr_h d n f + sr_h d n g := by
  unfold sr_h
  by_cases c : d ≤ n
  · rw [if_pos c, if_pos c, if_pos c]
  · rw [if_neg c, if_neg c, if_neg c]
    rfl
theorem sr_Dh (m d : Nat) (a b : Nat → sr_F) (n : Nat) : sr_D m m d a b n = sr_h d n (sr_c m a b) := by
  unfold sr_D sr_h sr_c
  by_cases c : d ≤ n
  · rw [if_pos c]
    refine sr_sc (fun i _ => sr_sc (fun j _ => ?_))
    by_cases e : d + i + j = n
    · rw [if_pos e, if_pos (by omega)]
    · rw [if_neg e, if_neg (by omega)]
  · rw [if_neg c]
    exact sr_sz (fun i _ => sr_sz (fun j _ => if_neg (by omega)))
theorem sr_cD (m : Nat) (a b : Nat → sr_F) (n : Nat) : sr_c m a b n = sr_D m m 0 a b n := by
  rw [sr_Dh, sr_h0]
theorem sr_c2 (h : Nat) (a b : Nat → sr_F) (n : Nat) : sr_c (h + h) a b n = sr_c h a b n + sr_h h n (fun m => sr_c h a (fun i => b (h + i)) m + sr_c h (fun i => a (h + i)) b m) + sr_h (h + h) n (sr_c h (fun i => a (h + i)) (fun i => b (h + i))) := by
  rw [sr_cD, sr_Dl, sr_Dr, sr_Dr, sr_Dh, sr_Dh, sr_Dh, sr_Dh, Nat.zero_add, sr_h0, sr_ha]
  grind
theorem sr_r5 (p q r s : sr_F) : p + q + (r + s) - p - s = q + r := by grind
theorem sr_kar (h : Nat) (a b : Nat → sr_F) (n : Nat) : sr_c (h + h) a b n = sr_c h a b n + sr_h h n (fun m => sr_c h (fun i => a i + a (h + i)) (fun i => b i + b (h + i)) m - sr_c h a b m - sr_c h (fun i => a (h + i)) (fun i => b (h + i)) m) + sr_h (h + h) n (sr_c h (fun i => a (h + i)) (fun i => b (h + i))) := by
  rw [sr_c2]
  congr 2
  unfold sr_h
  by_cases c : h ≤ n
  · rw [if_pos c, if_pos c]
    dsimp only
    rw [sr_cal, sr_car, sr_car, sr_r5]
  · rw [if_neg c, if_neg c]
/-- what stands there when i numbers of three blocks are put together -/
def sr_pt (h : Nat) (L M H : Nat → sr_F) (i n : Nat) : sr_F := (if n < i then L n else 0) + (if h ≤ n ∧ n - h < i then M (n - h) else 0) + (if h + h ≤ n ∧ n - (h + h) < i then H (n - (h + h)) else 0)
theorem sr_pt0 (h : Nat) (L M H : Nat → sr_F) (n : Nat) : sr_pt h L M H 0 n = 0 := by
  unfold sr_pt
  rw [if_neg (by omega), if_neg (by omega), if_neg (by omega)]
  rfl
theorem sr_ptf {h : Nat} {L M H L' M' H' : Nat → sr_F} (hL : ∀ m, m < h + h → L m = L' m) (hM : ∀ m, m < h + h → M m = M' m) (hH : ∀ m, m < h + h → H m = H' m) (zL : ∀ m, h + h ≤ m → L' m = 0) (zM : ∀ m, h + h ≤ m → M' m = 0) (zH : ∀ m, h + h ≤ m → H' m = 0) (n : Nat) :
    sr_pt h L M H (h + h) n = L' n + sr_h h n M' + sr_h (h + h) n H' := by
  unfold sr_pt sr_h
  have e1 : (if n < h + h then L n else 0) = L' n := by
    by_cases c : n < h + h
    · rw [if_pos c, hL n c]
    · rw [if_neg c, zL n (by omega)]
  have e2 : (if h ≤ n ∧ n - h < h + h then M (n - h) else 0) = if h ≤ n then M' (n - h) else 0 := by
    by_cases c : h ≤ n
    · by_cases c2 : n - h < h + h
      · rw [if_pos ⟨c, c2⟩, if_pos c, hM _ c2]
      · rw [if_neg (fun z => c2 z.2), if_pos c, zM _ (by omega)]
    · rw [if_neg (fun z => c z.1), if_neg c]
  have e3 : (if h + h ≤ n ∧ n - (h + h) < h + h then H (n - (h + h)) else 0) = if h + h ≤ n then H' (n - (h + h)) else 0 := by
    by_cases c : h + h ≤ n
    · by_cases c2 : n - (h + h) < h + h
      · rw [if_pos ⟨c, c2⟩, if_pos c, hH _ c2]
      · rw [if_neg (fun z => c2 z.2), if_pos c, zH _ (by omega)]
    · rw [if_neg (fun z => c z.1), if_neg c]
  rw [e1, e2, e3]
/-- one number of each block more -/
theorem sr_pts {h : Nat} (h0 : 0 < h) (L M H : Nat → sr_F) (i n : Nat) : sr_pt h L M H (i + 1) n = if n = i then sr_pt h L M H i n + L i else if n = i + h then sr_pt h L M H i n + M i else if n = i + (h + h) then sr_pt h L M H i n + H i else sr_pt h L M H i n := by
  unfold sr_pt
  by_cases c0 : n = i
  · subst c0
    rw [if_pos rfl, if_pos (show n < n + 1 by omega), if_neg (show ¬ n < n by omega)]
    rw [sr_if (show (h ≤ n ∧ n - h < n + 1) ↔ (h ≤ n ∧ n - h < n) by omega), sr_if (show (h + h ≤ n ∧ n - (h + h) < n + 1) ↔ (h + h ≤ n ∧ n - (h + h) < n) by omega)]
    grind
  · rw [if_neg c0, sr_if (show n < i + 1 ↔ n < i by omega)]
    by_cases c1 : n = i + h
    · subst c1
      rw [if_pos rfl, if_pos (show h ≤ i + h ∧ i + h - h < i + 1 by omega), if_neg (show ¬ (h ≤ i + h ∧ i + h - h < i) by omega), show i + h - h = i by omega]
      rw [sr_if (show (h + h ≤ i + h ∧ i + h - (h + h) < i + 1) ↔ (h + h ≤ i + h ∧ i + h - (h + h) < i) by omega)]
      grind
    · rw [if_neg c1, sr_if (show (h ≤ n ∧ n - h < i + 1) ↔ (h ≤ n ∧ n - h < i) by omega)]
      by_cases c2 : n = i + (h + h)
      · subst c2
        rw [if_pos rfl, if_pos (show h + h ≤ i + (h + h) ∧ i + (h + h) - (h + h) < i + 1 by omega), if_neg (show ¬ (h + h ≤ i + (h + h) ∧ i + (h + h) - (h + h) < i) by omega), show i + (h + h) - (h + h) = i by omega]
        grind
      · rw [if_neg c2, sr_if (show (h + h ≤ n ∧ n - (h + h) < i + 1) ↔ (h + h ≤ n ∧ n - (h + h) < i) by omega)]
/-- the blocks after t steps -/
def sr_V (a : Nat → sr_F) : Nat → Nat → Nat → sr_F
  | 0 => fun _ i => a i
  | t + 1 => fun b i => if b % 3 = 0 then sr_V a t (b / 3) i else if b % 3 = 1 then sr_V a t (b / 3) (2 ^ (4 - t) + i) else sr_V a t (b / 3) i + sr_V a t (b / 3) (2 ^ (4 - t) + i)
theorem sr_V0 (a : Nat → sr_F) (t b i : Nat) : sr_V a (t + 1) (3 * b) i = sr_V a t b i := by
  show (if 3 * b % 3 = 0 then sr_V a t (3 * b / 3) i else _) = _
  rw [if_pos (by omega), show 3 * b / 3 = b by omega]
theorem sr_V1 (a : Nat → sr_F) (t b i : Nat) : sr_V a (t + 1) (3 * b + 1) i = sr_V a t b (2 ^ (4 - t) + i) := by
  show (if (3 * b + 1) % 3 = 0 then _ else if (3 * b + 1) % 3 = 1 then sr_V a t ((3 * b + 1) / 3) (2 ^ (4 - t) + i) else _) = _
  rw [if_neg (by omega), if_pos (by omega), show (3 * b + 1) / 3 = b by omega]
theorem sr_V2 (a : Nat → sr_F) (t b i : Nat) : sr_V a (t + 1) (3 * b + 2) i = sr_V a t b i + sr_V a t b (2 ^ (4 - t) + i) := by
  show (if (3 * b + 2) % 3 = 0 then _ else if (3 * b + 2) % 3 = 1 then _ else sr_V a t ((3 * b + 2) / 3) i + sr_V a t ((3 * b + 2) / 3) (2 ^ (4 - t) + i)) = _
  rw [if_neg (by omega), if_neg (by omega), show (3 * b + 2) / 3 = b by omega]
/-- the products of the blocks stand there -/
def sr_GL (a c : Nat → sr_F) (t : Nat) (g : Nat → sr_F) : Prop := ∀ b i, b < 3 ^ t → i < 2 * 2 ^ (5 - t) → g (b * (2 * 2 ^ (5 - t)) + i) = sr_c (2 ^ (5 - t)) (sr_V a t b) (sr_V c t b) i
theorem sr_gstep {a c g g' : Nat → sr_F} {t h : Nat} (ht : t < 5) (hh : h = 2 ^ (4 - t)) (hg : sr_GL a c (t + 1) g)
    (hs : ∀ b n, b < 3 ^ t → n < 4 * h → g' (4 * (b * h) + n) = sr_pt h (fun m => g (6 * (b * h) + m)) (fun m => g (6 * (b * h) + 4 * h + m) - g (6 * (b * h) + m) - g (6 * (b * h) + 2 * h + m)) (fun m => g (6 * (b * h) + 2 * h + m)) (h + h) n) : sr_GL a c t g' := by
  intro b n hb hn
  have e1 : (2 : Nat) ^ (5 - t) = h + h := by
    rw [hh, show 5 - t = (4 - t) + 1 by omega, Nat.pow_succ]
    omega
  have e2 : (2 : Nat) ^ (5 - (t + 1)) = h := by rw [hh, show 5 - (t + 1) = 4 - t by omega]
  have e3 : (3 : Nat) ^ (t + 1) = 3 * 3 ^ t := by rw [Nat.pow_succ, Nat.mul_comm]
  unfold sr_GL at hg
  rw [e2, e3] at hg
  rw [e1] at hn ⊢
  have i0 : ∀ m, 6 * (b * h) + m = 3 * b * (2 * h) + m := by
    intro m
    grind
  have i1 : ∀ m, 6 * (b * h) + 2 * h + m = (3 * b + 1) * (2 * h) + m := by
    intro m
    grind
  have i2 : ∀ m, 6 * (b * h) + 4 * h + m = (3 * b + 2) * (2 * h) + m := by
    intro m
    grind
  have i3 : b * (2 * (h + h)) = 4 * (b * h) := by grind
  have t0 : ∀ m, m < h + h → g (6 * (b * h) + m) = sr_c h (sr_V a t b) (sr_V c t b) m := by
    intro m hm
    rw [i0, hg (3 * b) m (by omega) (by omega)]
    exact sr_ccg (fun i _ => sr_V0 a t b i) (fun i _ => sr_V0 c t b i) m
  have t1 : ∀ m, m < h + h → g (6 * (b * h) + 2 * h + m) = sr_c h (fun i => sr_V a t b (h + i)) (fun i => sr_V c t b (h + i)) m := by
    intro m hm
    rw [i1, hg (3 * b + 1) m (by omega) (by omega)]
    refine sr_ccg (fun i _ => ?_) (fun i _ => ?_) m
    · rw [sr_V1, hh]
    · rw [sr_V1, hh]
  have t2 : ∀ m, m < h + h → g (6 * (b * h) + 4 * h + m) = sr_c h (fun i => sr_V a t b i + sr_V a t b (h + i)) (fun i => sr_V c t b i + sr_V c t b (h + i)) m := by
    intro m hm
    rw [i2, hg (3 * b + 2) m (by omega) (by omega)]
    refine sr_ccg (fun i _ => ?_) (fun i _ => ?_) m
    · rw [sr_V2, hh]
    · rw [sr_V2, hh]
  rw [i3, hs b n hb (by omega), sr_kar]
  refine sr_ptf t0 (fun m hm => ?_) t1 (fun m hm => sr_cz _ _ (by omega)) (fun m hm => ?_) (fun m hm => sr_cz _ _ (by omega)) n
  · rw [t0 m hm, t1 m hm, t2 m hm]
  · rw [sr_cz _ _ (by omega), sr_cz _ _ (by omega), sr_cz _ _ (by omega)]
    rfl
end
section
/-- a row of 32, and 0 behind it -/
def sr_x (r : Nat → sr_F) (i : Nat) : sr_F := if i < 32 then r i else 0
/-- the five values of three thirds -/
def sr_tv (r : Nat → sr_F) (p i : Nat) : sr_F :=
  if p = 0 then sr_x r i
  else if p = 1 then sr_x r i + sr_x r (22 + i) + sr_x r (11 + i)
  else if p = 2 then sr_x r i + sr_x r (22 + i) - sr_x r (11 + i)
  else if p = 3 then sr_x r i + sr_n 2 * sr_x r (11 + i) + sr_n 4 * sr_x r (22 + i)
  else sr_x r (22 + i)
/-- the product's five coefficients -/
def sr_dq (a b : Nat → sr_F) (q m : Nat) : sr_F :=
  if q = 0 then sr_c 11 (sr_x a) (sr_x b) m
  else if q = 1 then sr_c 11 (sr_x a) (fun i => sr_x b (11 + i)) m + sr_c 11 (fun i => sr_x a (11 + i)) (sr_x b) m
  else if q = 2 then sr_c 11 (sr_x a) (fun i => sr_x b (22 + i)) m + sr_c 11 (fun i => sr_x a (11 + i)) (fun i => sr_x b (11 + i)) m + sr_c 11 (fun i => sr_x a (22 + i)) (sr_x b) m
  else if q = 3 then sr_c 11 (fun i => sr_x a (11 + i)) (fun i => sr_x b (22 + i)) m + sr_c 11 (fun i => sr_x a (22 + i)) (fun i => sr_x b (11 + i)) m
  else sr_c 11 (fun i => sr_x a (22 + i)) (fun i => sr_x b (22 + i)) m
theorem sr_dqz (a b : Nat → sr_F) (q m : Nat) (h : 21 ≤ m) : sr_dq a b q m = 0 := by
  unfold sr_dq
  rw [sr_cz _ _ (by omega), sr_cz _ _ (by omega), sr_cz _ _ (by omega), sr_cz _ _ (by omega), sr_cz _ _ (by omega), sr_cz _ _ (by omega), sr_cz _ _ (by omega), sr_cz _ _ (by omega), sr_cz _ _ (by omega)]
  split
  · rfl
  · split
    · rfl
    · split
      · rfl
      · split
        · rfl
        · rfl
theorem sr_dq0 (a b : Nat → sr_F) (m : Nat) : sr_dq a b 0 m = sr_c 11 (sr_x a) (sr_x b) m := rfl
theorem sr_dq1 (a b : Nat → sr_F) (m : Nat) : sr_dq a b 1 m = sr_c 11 (sr_x a) (fun i => sr_x b (11 + i)) m + sr_c 11 (fun i => sr_x a (11 + i)) (sr_x b) m := rfl
theorem sr_dq2 (a b : Nat → sr_F) (m : Nat) : sr_dq a b 2 m = sr_c 11 (sr_x a) (fun i => sr_x b (22 + i)) m + sr_c 11 (fun i => sr_x a (11 + i)) (fun i => sr_x b (11 + i)) m + sr_c 11 (fun i => sr_x a (22 + i)) (sr_x b) m := rfl
theorem sr_dq3 (a b : Nat → sr_F) (m : Nat) : sr_dq a b 3 m = sr_c 11 (fun i => sr_x a (11 + i)) (fun i => sr_x b (22 + i)) m + sr_c 11 (fun i => sr_x a (22 + i)) (fun i => sr_x b (11 + i)) m := rfl
theorem sr_dq4 (a b : Nat → sr_F) (m : Nat) : sr_dq a b 4 m = sr_c 11 (fun i => sr_x a (22 + i)) (fun i => sr_x b (22 + i)) m := rfl
theorem sr_c3 (A0 A1 A2 B0 B1 B2 : Nat → sr_F) (x y z : sr_F) (m : Nat) :
    sr_c 11 (fun i => x * A0 i + y * A1 i + z * A2 i) (fun i => x * B0 i + y * B1 i + z * B2 i) m =
      x * x * sr_c 11 A0 B0 m + x * y * (sr_c 11 A0 B1 m + sr_c 11 A1 B0 m) + (x * z * (sr_c 11 A0 B2 m + sr_c 11 A2 B0 m) + y * y * sr_c 11 A1 B1 m) + y * z * (sr_c 11 A1 B2 m + sr_c 11 A2 B1 m) + z * z * sr_c 11 A2 B2 m := by
  rw [sr_cal, sr_cal, sr_cml, sr_cml, sr_cml, sr_car, sr_car, sr_cmr, sr_cmr, sr_cmr, sr_car, sr_car, sr_cmr, sr_cmr, sr_cmr, sr_car, sr_car, sr_cmr, sr_cmr, sr_cmr]
  grind
theorem sr_t0 (a b : Nat → sr_F) (m : Nat) : sr_c 11 (sr_tv a 0) (sr_tv b 0) m = sr_dq a b 0 m := rfl
theorem sr_t4 (a b : Nat → sr_F) (m : Nat) : sr_c 11 (sr_tv a 4) (sr_tv b 4) m = sr_dq a b 4 m := rfl
theorem sr_tl {a a' b b' : Nat → sr_F} (ha : ∀ i, a i = a' i) (hb : ∀ i, b i = b' i) (m : Nat) : sr_c 11 a b m = sr_c 11 a' b' m := sr_ccg (fun i _ => ha i) (fun i _ => hb i) m
theorem sr_tv1 (a : Nat → sr_F) (i : Nat) : sr_tv a 1 i = 1 * sr_x a i + 1 * sr_x a (11 + i) + 1 * sr_x a (22 + i) := by
  show sr_x a i + sr_x a (22 + i) + sr_x a (11 + i) = _
  grind
theorem sr_tv2 (a : Nat → sr_F) (i : Nat) : sr_tv a 2 i = 1 * sr_x a i + (-1) * sr_x a (11 + i) + 1 * sr_x a (22 + i) := by
  show sr_x a i + sr_x a (22 + i) - sr_x a (11 + i) = _
  grind
theorem sr_tv3 (a : Nat → sr_F) (i : Nat) : sr_tv a 3 i = 1 * sr_x a i + 2 * sr_x a (11 + i) + 4 * sr_x a (22 + i) := by
  show sr_x a i + 2 * sr_x a (11 + i) + 4 * sr_x a (22 + i) = _
  grind
theorem sr_t1 (a b : Nat → sr_F) (m : Nat) : sr_c 11 (sr_tv a 1) (sr_tv b 1) m = sr_dq a b 0 m + sr_dq a b 1 m + sr_dq a b 2 m + sr_dq a b 3 m + sr_dq a b 4 m := by
  rw [sr_tl (sr_tv1 a) (sr_tv1 b), sr_c3 (sr_x a) (fun i => sr_x a (11 + i)) (fun i => sr_x a (22 + i)) (sr_x b) (fun i => sr_x b (11 + i)) (fun i => sr_x b (22 + i))]
  rw [sr_dq0, sr_dq1, sr_dq2, sr_dq3, sr_dq4]
  grind
theorem sr_t2 (a b : Nat → sr_F) (m : Nat) : sr_c 11 (sr_tv a 2) (sr_tv b 2) m = sr_dq a b 0 m - sr_dq a b 1 m + sr_dq a b 2 m - sr_dq a b 3 m + sr_dq a b 4 m := by
  rw [sr_tl (sr_tv2 a) (sr_tv2 b), sr_c3 (sr_x a) (fun i => sr_x a (11 + i)) (fun i => sr_x a (22 + i)) (sr_x b) (fun i => sr_x b (11 + i)) (fun i => sr_x b (22 + i))]
  rw [sr_dq0, sr_dq1, sr_dq2, sr_dq3, sr_dq4]
  grind
theorem sr_t3 (a b : Nat → sr_F) (m : Nat) : sr_c 11 (sr_tv a 3) (sr_tv b 3) m = sr_dq a b 0 m + 2 * sr_dq a b 1 m + 4 * sr_dq a b 2 m + 8 * sr_dq a b 3 m + 16 * sr_dq a b 4 m := by
  rw [sr_tl (sr_tv3 a) (sr_tv3 b), sr_c3 (sr_x a) (fun i => sr_x a (11 + i)) (fun i => sr_x a (22 + i)) (sr_x b) (fun i => sr_x b (11 + i)) (fun i => sr_x b (22 + i))]
  rw [sr_dq0, sr_dq1, sr_dq2, sr_dq3, sr_dq4]
  grind
/-- from the values come the coefficients -/
theorem sr_j3 (D0 D1 D2 D3 D4 v : sr_F) (hv : 2 * v = 1) : ((D0 + D1 + D2 + D3 + D4) + (D0 - D1 + D2 - D3 + D4)) * v - D0 - D4 = D2 := by grind
theorem sr_jo (D0 D1 D2 D3 D4 v : sr_F) (hv : 2 * v = 1) : ((D0 + D1 + D2 + D3 + D4) - (D0 - D1 + D2 - D3 + D4)) * v = D1 + D3 := by grind
theorem sr_j4 (D0 D1 D2 D3 D4 v u : sr_F) (hv : 2 * v = 1) (hu : 3 * u = 1) : (((D0 + 2 * D1 + 4 * D2 + 8 * D3 + 16 * D4) - (D0 + 4 * D2 + 16 * D4)) * v - (D1 + D3)) * u = D3 := by
  have e : ((D0 + 2 * D1 + 4 * D2 + 8 * D3 + 16 * D4) - (D0 + 4 * D2 + 16 * D4)) * v = D1 + 4 * D3 := by grind
  rw [e]
  grind
theorem sr_j2 (D1 D3 : sr_F) : D1 + D3 - D3 = D1 := by grind
/-- one summand of what is put together, i numbers of each -/
def sr_oq (D : Nat → Nat → sr_F) (i n q : Nat) : sr_F := if 11 * q ≤ n ∧ n - 11 * q < i then D q (n - 11 * q) else 0
def sr_ot (D : Nat → Nat → sr_F) (i n : Nat) : sr_F := sr_oq D i n 0 + sr_oq D i n 1 + sr_oq D i n 2 + sr_oq D i n 3 + sr_oq D i n 4
theorem sr_oq0 (D : Nat → Nat → sr_F) (n q : Nat) : sr_oq D 0 n q = 0 := if_neg (by omega)
theorem sr_oqs (D : Nat → Nat → sr_F) (i n q : Nat) : sr_oq D (i + 1) n q = sr_oq D i n q + (if n = i + 11 * q then D q i else 0) := by
  unfold sr_oq
  by_cases c : n = i + 11 * q
  · rw [if_pos (by omega), if_neg (by omega), if_pos c, sr_zf, show n - 11 * q = i by omega]
  · rw [if_neg c, sr_fz]
    by_cases c2 : 11 * q ≤ n ∧ n - 11 * q < i
    · rw [if_pos c2, if_pos (by omega)]
    · rw [if_neg c2, if_neg (by omega)]
theorem sr_oqh (D : Nat → Nat → sr_F) (hz : ∀ q m, 21 ≤ m → D q m = 0) (n q : Nat) : sr_oq D 21 n q = sr_h (11 * q) n (D q) := by
  unfold sr_oq sr_h
  by_cases c : 11 * q ≤ n
  · by_cases c2 : n - 11 * q < 21
    · rw [if_pos ⟨c, c2⟩, if_pos c]
    · rw [if_neg (fun z => c2 z.2), if_pos c, hz _ _ (by omega)]
  · rw [if_neg (fun z => c z.1), if_neg c]
theorem sr_c33 (a b : Nat → sr_F) (n : Nat) : sr_c 33 (sr_x a) (sr_x b) n = sr_c 32 a b n := by
  rw [sr_cD, show (33 : Nat) = 32 + 1 from rfl, sr_Dl, sr_Dr 32 32 1]
  have z1 : sr_D 32 1 (0 + 32) (sr_x a) (fun i => sr_x b (32 + i)) n = 0 := by
    refine sr_sz (fun i _ => sr_sz (fun j _ => ?_))
    dsimp only
    rw [show sr_x b (32 + j) = 0 from if_neg (by omega), sr_mz]
    split
    · rfl
    · rfl
  have z2 : sr_D 1 (32 + 1) (0 + 32) (fun i => sr_x a (32 + i)) (sr_x b) n = 0 := by
    refine sr_sz (fun i _ => sr_sz (fun j _ => ?_))
    dsimp only
    rw [show sr_x a (32 + i) = 0 from if_neg (by omega), sr_zm]
    split
    · rfl
    · rfl
  rw [z1, z2, sr_fz, sr_fz, ← sr_cD]
  exact sr_ccg (fun i hi => if_pos hi) (fun i hi => if_pos hi) n
theorem sr_c33b (a b : Nat → sr_F) (n : Nat) : sr_c 33 (sr_x a) (sr_x b) n = sr_h 0 n (sr_dq a b 0) + sr_h 11 n (sr_dq a b 1) + sr_h 22 n (sr_dq a b 2) + sr_h 33 n (sr_dq a b 3) + sr_h 44 n (sr_dq a b 4) := by
  have h1 : sr_h 11 n (sr_dq a b 1) = sr_h 11 n (sr_c 11 (sr_x a) (fun i => sr_x b (11 + i))) + sr_h 11 n (sr_c 11 (fun i => sr_x a (11 + i)) (sr_x b)) := sr_ha _ _ _ _
  have h2 : sr_h 22 n (sr_dq a b 2) = sr_h 22 n (sr_c 11 (sr_x a) (fun i => sr_x b (22 + i))) + sr_h 22 n (sr_c 11 (fun i => sr_x a (11 + i)) (fun i => sr_x b (11 + i))) + sr_h 22 n (sr_c 11 (fun i => sr_x a (22 + i)) (sr_x b)) := by
    rw [← sr_ha, ← sr_ha]
    rfl
  have h3 : sr_h 33 n (sr_dq a b 3) = sr_h 33 n (sr_c 11 (fun i => sr_x a (11 + i)) (fun i => sr_x b (22 + i))) + sr_h 33 n (sr_c 11 (fun i => sr_x a (22 + i)) (fun i => sr_x b (11 + i))) := sr_ha _ _ _ _
  have h0 : sr_h 0 n (sr_dq a b 0) = sr_h 0 n (sr_c 11 (sr_x a) (sr_x b)) := rfl
  have h4 : sr_h 44 n (sr_dq a b 4) = sr_h 44 n (sr_c 11 (fun i => sr_x a (22 + i)) (fun i => sr_x b (22 + i))) := rfl
  rw [h0, h1, h2, h3, h4, sr_cD, show (33 : Nat) = 11 + (11 + 11) from rfl]
  rw [sr_Dl, sr_Dl 11 11, sr_Dr 11 11 (11 + 11), sr_Dr 11 11 11, sr_Dr 11 11 (11 + 11), sr_Dr 11 11 11, sr_Dr 11 11 (11 + 11), sr_Dr 11 11 11]
  simp only [sr_Dh, Nat.reduceAdd, ← Nat.add_assoc]
  grind
/-- all put together: the product -/
theorem sr_otf (a b : Nat → sr_F) (n : Nat) : sr_ot (sr_dq a b) 21 n = sr_c 32 a b n := by
  unfold sr_ot
  rw [sr_oqh _ (sr_dqz a b), sr_oqh _ (sr_dqz a b), sr_oqh _ (sr_dqz a b), sr_oqh _ (sr_dqz a b), sr_oqh _ (sr_dqz a b), ← sr_c33, sr_c33b]
end
section
/-- the first m powers -/
def sr_gm (w : sr_F) (m n : Nat) : sr_F := if n < m then sr_p w n else 0
theorem sr_csp {c : sr_F} {m : Nat} (hm : 0 < m) {a b : Nat → sr_F} (ha : ∀ i, i < 32 → a i = if i = 0 then 1 else if i = m then c else 0) {n : Nat} (hn : n < 32) : sr_c 32 a b n = b n + (if m ≤ n then c * b (n - m) else 0) := by
  rw [sr_c1 a b hn]
  have e : sr_s (n + 1) (fun i => a i * b (n - i)) = sr_s (n + 1) (fun i => (if i = 0 then b (n - i) else 0) + (if i = m then c * b (n - i) else 0)) := by
    refine sr_sc (fun i hi => ?_)
    rw [ha i (by omega)]
    by_cases c0 : i = 0
    · rw [if_pos c0, if_pos c0, if_neg (by omega), sr_1m, sr_fz]
    · rw [if_neg c0, if_neg c0, sr_zf]
      by_cases c1 : i = m
      · rw [if_pos c1, if_pos c1]
      · rw [if_neg c1, if_neg c1, sr_zm]
  rw [e, sr_sa, sr_s1 (by omega) (fun i => b (n - i)), Nat.sub_zero]
  congr 1
  by_cases c1 : m ≤ n
  · rw [if_pos c1]
    exact sr_s1 (by omega) (fun i => c * b (n - i))
  · rw [if_neg c1]
    exact sr_s1z (by omega) (fun i => c * b (n - i))
theorem sr_nw1 {w : sr_F} {a b : Nat → sr_F} {m : Nat} (hm : 0 < m) (ha : ∀ i, i < 32 → a i = if i = 0 then 1 else if i = 1 then -w else 0) (hb : ∀ i, i < 32 → b i = sr_gm w m i) {n : Nat} (hn : n < 32) : sr_c 32 a b n = (if n = 0 then 1 else 0) - (if n = m then sr_p w m else 0) := by
  rw [sr_csp (by omega) ha hn]
  cases n with
  | zero =>
    rw [if_neg (by omega), if_pos rfl, if_neg (by omega), hb 0 (by omega)]
    unfold sr_gm
    rw [if_pos hm]
    rfl
  | succ n =>
    rw [if_pos (by omega), if_neg (by omega), Nat.add_sub_cancel, hb (n + 1) hn, hb n (by omega)]
    unfold sr_gm
    by_cases c : n + 1 < m
    · rw [if_pos c, if_pos (by omega), if_neg (by omega)]
      show sr_p w n * w + -w * sr_p w n = 0 - 0
      grind
    · rw [if_neg c]
      by_cases c1 : n + 1 = m
      · rw [if_pos (by omega), if_pos c1, ← c1]
        show 0 + -w * sr_p w n = 0 - sr_p w n * w
        grind
      · rw [if_neg (by omega), if_neg c1]
        grind
theorem sr_nw2 {w : sr_F} {a b : Nat → sr_F} {m : Nat} (hm : 0 < m) (ha : ∀ i, i < 32 → a i = (if i = 0 then 2 else 0) - ((if i = 0 then 1 else 0) - (if i = m then sr_p w m else 0))) (hb : ∀ i, i < 32 → b i = sr_gm w m i) {n : Nat} (hn : n < 32) : sr_c 32 a b n = sr_gm w (2 * m) n := by
  have ha' : ∀ i, i < 32 → a i = if i = 0 then 1 else if i = m then sr_p w m else 0 := by
    intro i hi
    rw [ha i hi]
    by_cases c : i = 0
    · rw [if_pos c, if_pos c, if_neg (by omega), if_pos c]
      rfl
    · rw [if_neg c, if_neg c, if_neg c]
      grind
  rw [sr_csp hm ha' hn, hb n hn]
  unfold sr_gm
  by_cases c : n < m
  · rw [if_pos c, if_neg (by omega), if_pos (by omega), sr_fz]
  · rw [if_neg c, if_pos (by omega), sr_zf, hb (n - m) (by omega)]
    unfold sr_gm
    by_cases c2 : n < 2 * m
    · rw [if_pos (by omega), if_pos c2, ← sr_pa, show m + (n - m) = n by omega]
    · rw [if_neg (by omega), if_neg c2, sr_mz]
/-- the powers times 1 less w: 1 -/
theorem sr_nw3 {w : sr_F} {a b : Nat → sr_F} (ha : ∀ i, i < 32 → a i = if i = 0 then 1 else if i = 1 then -w else 0) (hb : ∀ i, i < 32 → b i = sr_gm w 32 i) {n : Nat} (hn : n < 32) : sr_c 32 b a n = if n = 0 then 1 else 0 := by
  rw [sr_ccm, sr_nw1 (m := 32) (by omega) ha hb hn, if_neg (show ¬ n = 32 by omega)]
  by_cases c : n = 0
  · rw [if_pos c]
    rfl
  · rw [if_neg c]
    rfl
end
section
theorem sr_ix (a i : Nat) : (nI a * 32) + nI i = nI (a * 32 + i) := by
  rw [show (32 : Int32) = nI 32 from rfl, pk_mul, nI_add]
theorem sr_i1 {i : Nat} (h : 1 ≤ i) : nI i - 1 = nI (i - 1) := pk_sub h
/-- a place more is written -/
theorem sr_fl {f g : Nat → sr_F} {i k : Nat} {x : sr_F} (hk : k = i) (h : ∀ j, j < i → g j = f j) (hx : x = f i) : ∀ j, j < i + 1 → sr_u g k x j = f j := by
  intro j hj
  by_cases e : j = i
  · rw [sr_ut (e.trans hk.symm), hx, e]
  · rw [sr_un (by omega)]
    exact h j (by omega)
theorem sr_write {post : St2 → Prop} {r : Nat → sr_F} {a2 a3 a4 a5 a6 a7 a8 a9 a10 a11 a12 a13 a14 a15 : Nat → Int32} {a i : Nat} {x : sr_F} (h : a * 32 + i < 384) (hp : post (sr_E (sr_u r (a * 32 + i) x), a2, a3, a4, a5, a6, a7, a8, a9, a10, a11, a12, a13, a14, a15)) : wpX_write post (sr_E r, a2, a3, a4, a5, a6, a7, a8, a9, a10, a11, a12, a13, a14, a15) (nI a) (nI i) (sr_e x) :=
  And.intro (pk_in (a * 32 + i) 384 h (sr_ix a i)) (nm_r (sr_up (pk_cl (a * 32 + i) (sr_ix a i)) rfl) hp)
theorem sr_cell {post : Int32 → Prop} {r : Nat → sr_F} {a2 a3 a4 a5 a6 a7 a8 a9 a10 a11 a12 a13 a14 a15 : Nat → Int32} {a i : Nat} (h : a * 32 + i < 384) (hp : post (sr_e (r (a * 32 + i)))) : wpX_cell post (sr_E r, a2, a3, a4, a5, a6, a7, a8, a9, a10, a11, a12, a13, a14, a15) (nI a) (nI i) := by
  refine And.intro (pk_in (a * 32 + i) 384 h (sr_ix a i)) ?_
  rw [pk_cl (a * 32 + i) (sr_ix a i)]
  exact hp
theorem sr_copyRow {post : St2 → Prop} {r : Nat → sr_F} {a2 a3 a4 a5 a6 a7 a8 a9 a10 a11 a12 a13 a14 a15 : Nat → Int32} {a b : Nat} (ha : a < 12) (hb : b < 12) (hab : a ≠ b) (hp : ∀ g : Nat → sr_F, (∀ i, i < 32 → g (b * 32 + i) = r (a * 32 + i)) → (∀ j, (j < b * 32 ∨ b * 32 + 32 ≤ j) → g j = r j) → post (sr_E g, a2, a3, a4, a5, a6, a7, a8, a9, a10, a11, a12, a13, a14, a15)) : wpX_copyRow post (sr_E r, a2, a3, a4, a5, a6, a7, a8, a9, a10, a11, a12, a13, a14, a15) (nI a) (nI b) := by
  refine pk_loop (fun n i g => wX_copyRow_2 post (nI a) (nI b) n (nI i) (sr_E g) a2 a3 a4 a5 a6 a7 a8 a9 a10 a11 a12 a13 a14 a15) (fun i g => (∀ j, j < i → g (b * 32 + j) = r (a * 32 + j)) ∧ (∀ j, (j < b * 32 ∨ b * 32 + i ≤ j) → g j = r j)) 32 0 r (by omega) ⟨fun j h => absurd h (by omega), fun j _ => rfl⟩
    (fun n g h => pk_le 32 32 (fun _ => hp g h.1 h.2) (fun z => absurd z (by omega)))
    (fun n i g hi h hw => pk_le 32 i (fun z => absurd z (by omega)) (fun _ => ⟨pk_in (a * 32 + i) 384 (by omega) (sr_ix a i), pk_in (b * 32 + i) 384 (by omega) (sr_ix b i), nm_r (sr_up (x := r (a * 32 + i)) (pk_cl (b * 32 + i) (sr_ix b i)) ?_) (nm_r (nI_1 i) (hw _ ⟨?_, ?_⟩))⟩))
  · rw [pk_cl (a * 32 + i) (sr_ix a i)]
    exact congrArg sr_e (h.2 _ (by omega))
  · intro j hj
    by_cases e : j = i
    · rw [e, sr_us]
    · rw [sr_un (by omega)]
      exact h.1 j (by omega)
  · intro j hj
    rw [sr_un (by omega)]
    exact h.2 j (by omega)
theorem sr_clearRow {post : St2 → Prop} {r : Nat → sr_F} {a2 a3 a4 a5 a6 a7 a8 a9 a10 a11 a12 a13 a14 a15 : Nat → Int32} {b : Nat} (hb : b < 12) (hp : ∀ g : Nat → sr_F, (∀ i, i < 32 → g (b * 32 + i) = 0) → (∀ j, (j < b * 32 ∨ b * 32 + 32 ≤ j) → g j = r j) → post (sr_E g, a2, a3, a4, a5, a6, a7, a8, a9, a10, a11, a12, a13, a14, a15)) : wpX_clearRow post (sr_E r, a2, a3, a4, a5, a6, a7, a8, a9, a10, a11, a12, a13, a14, a15) (nI b) := by
  refine pk_loop (fun n i g => wX_clearRow_2 post (nI b) n (nI i) (sr_E g) a2 a3 a4 a5 a6 a7 a8 a9 a10 a11 a12 a13 a14 a15) (fun i g => (∀ j, j < i → g (b * 32 + j) = 0) ∧ (∀ j, (j < b * 32 ∨ b * 32 + i ≤ j) → g j = r j)) 32 0 r (by omega) ⟨fun j h => absurd h (by omega), fun j _ => rfl⟩
    (fun n g h => pk_le 32 32 (fun _ => hp g h.1 h.2) (fun z => absurd z (by omega)))
    (fun n i g hi h hw => pk_le 32 i (fun z => absurd z (by omega)) (fun _ => ⟨pk_in (b * 32 + i) 384 (by omega) (sr_ix b i), nm_r (sr_up (x := 0) (pk_cl (b * 32 + i) (sr_ix b i)) rfl) (nm_r (nI_1 i) (hw _ ⟨?_, ?_⟩))⟩))
  · intro j hj
    by_cases e : j = i
    · rw [e, sr_us]
    · rw [sr_un (by omega)]
      exact h.1 j (by omega)
  · intro j hj
    rw [sr_un (by omega)]
    exact h.2 j (by omega)
theorem sr_isS {post : Int32 → Prop} {a : Nat} (h : a < 5) (hp : post 1) : wpX_isSeries post () (nI a) := br_f (nI_pos (by omega)) (br_f (nI_ge (b := 5) h (by decide)) hp)
theorem sr_isP {post : Int32 → Prop} {a : Nat} (h : a < 32) (hp : post 1) : wpX_isPlace post () (nI a) := br_f (nI_pos (by omega)) (br_f (nI_ge (b := 32) h (by decide)) hp)
theorem sr_isE {post : Int32 → Prop} {a : Nat} (h : a < 5) (hp : post 1) : wpX_isEngine post () (nI a) := br_f (nI_pos (by omega)) (br_f (nI_ge (b := 5) h (by decide)) hp)
theorem sr_one : ¬ (1 : Int32) = 0 := by decide
/-! ints into the field -/
def sr_z (v : Int) : sr_F := ⟨(v % 12289).toNat, by omega⟩
theorem sr_trm (v : Int32) : (v - v / 12289 * 12289).toInt = v.toInt.tmod 12289 := by
  have h1 := Int32.toInt_lt v
  have h2 := Int32.le_toInt v
  have e : (12289 : Int32).toInt = 12289 := rfl
  have d : v.toInt.tmod 12289 = v.toInt - 12289 * v.toInt.tdiv 12289 := Int.tmod_def _ _
  have m : v.toInt.tmod 12289 = v.toInt % 12289 - (if 0 ≤ v.toInt ∨ (12289 : Int) ∣ v.toInt then 0 else 12289) := by
    have t := Int.tmod_eq_emod (a := v.toInt) (b := 12289)
    by_cases c : 0 ≤ v.toInt ∨ (12289 : Int) ∣ v.toInt
    · rw [t, if_pos c, if_pos c]
      rfl
    · rw [t, if_neg c, if_neg c]
      rfl
  rw [Int32.toInt_sub, Int32.toInt_mul, Int32.toInt_div, e]
  generalize v.toInt = T at *
  generalize T.tdiv 12289 = q at *
  have b : -12289 < T.tmod 12289 ∧ T.tmod 12289 < 12289 := by
    rw [m]
    split
    · omega
    · omega
  rw [Int.bmod_eq_of_le_mul_two (x := q) (by omega) (by omega), Int.bmod_eq_of_le_mul_two (x := q * 12289) (by omega) (by omega), Int.bmod_eq_of_le_mul_two (by omega) (by omega)]
  omega
theorem sr_trm64 (v : Int64) : (v - v / 12289 * 12289).toInt = v.toInt.tmod 12289 := by
  have h1 := Int64.toInt_lt v
  have h2 := Int64.le_toInt v
  have e : (12289 : Int64).toInt = 12289 := rfl
  have d : v.toInt.tmod 12289 = v.toInt - 12289 * v.toInt.tdiv 12289 := Int.tmod_def _ _
  have m : v.toInt.tmod 12289 = v.toInt % 12289 - (if 0 ≤ v.toInt ∨ (12289 : Int) ∣ v.toInt then 0 else 12289) := by
    have t := Int.tmod_eq_emod (a := v.toInt) (b := 12289)
    by_cases c : 0 ≤ v.toInt ∨ (12289 : Int) ∣ v.toInt
    · rw [t, if_pos c, if_pos c]
      rfl
    · rw [t, if_neg c, if_neg c]
      rfl
  rw [Int64.toInt_sub, Int64.toInt_mul, Int64.toInt_div, e]
  generalize v.toInt = T at *
  generalize T.tdiv 12289 = q at *
  have b : -12289 < T.tmod 12289 ∧ T.tmod 12289 < 12289 := by
    rw [m]
    split
    · omega
    · omega
  rw [Int.bmod_eq_of_le_mul_two (x := q) (by omega) (by omega), Int.bmod_eq_of_le_mul_two (x := q * 12289) (by omega) (by omega), Int.bmod_eq_of_le_mul_two (by omega) (by omega)]
  omega
theorem sr_tme (T : Int) : (0 ≤ T.tmod 12289 → T.tmod 12289 = T % 12289) ∧ (¬ 0 ≤ T.tmod 12289 → T.tmod 12289 + 12289 = T % 12289) ∧ -12289 < T.tmod 12289 ∧ T.tmod 12289 < 12289 := by
  have m : T.tmod 12289 = T % 12289 - (if 0 ≤ T ∨ (12289 : Int) ∣ T then 0 else 12289) := by
    have t := Int.tmod_eq_emod (a := T) (b := 12289)
    by_cases c : 0 ≤ T ∨ (12289 : Int) ∣ T
    · rw [t, if_pos c, if_pos c]
      rfl
    · rw [t, if_neg c, if_neg c]
      rfl
  rw [m]
  split
  · omega
  · omega
theorem sr_ze (T : Int) (v : Int32) (h : v.toInt = T % 12289) : v = sr_e (sr_z T) := by
  refine Int32.toInt_inj.mp ?_
  show v.toInt = (nI (T % 12289).toNat).toInt
  rw [nI_toInt (by omega), h]
  omega
theorem sr_normal {post : Int32 → Prop} {v : Int32} (h : post (sr_e (sr_z v.toInt))) : wpX_normal post () v := by
  have t := sr_tme v.toInt
  refine And.intro sr_ne (nm_e (br_c (fun z => ?_) (fun z => ?_)))
  · have z' : 0 ≤ (v - v / 12289 * 12289).toInt := Int32.le_iff_toInt_le.mp z
    rw [sr_trm] at z'
    rw [sr_ze v.toInt (v - v / 12289 * 12289) (by rw [sr_trm, t.1 z'])]
    exact h
  · have z' : ¬ 0 ≤ (v - v / 12289 * 12289).toInt := fun c => z (Int32.le_iff_toInt_le.mpr c)
    rw [sr_trm] at z'
    rw [sr_ze v.toInt (v - v / 12289 * 12289 + 12289) ?_]
    · exact h
    · rw [Int32.toInt_add, sr_trm, show (12289 : Int32).toInt = 12289 from rfl, Int.bmod_eq_of_le_mul_two (by omega) (by omega)]
      exact t.2.1 z'
theorem sr_mod {post : Int32 → Prop} {v : Int64} (h : post (sr_e (sr_z v.toInt))) : wpL_mod post () v := by
  have t := sr_tme v.toInt
  refine And.intro (by decide) (nm_e (br_c (fun z => ?_) (fun z => ?_)))
  · have z' : 0 ≤ (v - v / 12289 * 12289).toInt := Int64.le_iff_toInt_le.mp z
    rw [sr_trm64] at z'
    rw [sr_ze v.toInt (v - v / 12289 * 12289).toInt32 (by rw [Int64.toInt_toInt32, sr_trm64, Int.bmod_eq_of_le_mul_two (by omega) (by omega)]; exact t.1 z')]
    exact h
  · have z' : ¬ 0 ≤ (v - v / 12289 * 12289).toInt := fun c => z (Int64.le_iff_toInt_le.mpr c)
    rw [sr_trm64] at z'
    rw [sr_ze v.toInt (v - v / 12289 * 12289 + 12289).toInt32 ?_]
    · exact h
    · rw [Int64.toInt_toInt32, Int64.toInt_add, sr_trm64, show (12289 : Int64).toInt = 12289 from rfl, Int.bmod_eq_of_le_mul_two (x := _ + _) (by omega) (by omega), Int.bmod_eq_of_le_mul_two (by omega) (by omega)]
      exact t.2.1 z'
theorem sr_zn (T : Int) : sr_z (-T) = -sr_z T := by
  apply Fin.ext
  show (-T % 12289).toNat = (12289 - (T % 12289).toNat) % 12289
  omega
theorem sr_z1 : sr_z 1 = 1 := by decide
end
section
theorem sr_loadWide {post : St2 → Prop} {r x : Nat → sr_F} {a2 a3 a4 a5 a6 a7 a8 a9 a10 a11 a12 a14 a15 : Nat → Int32} {a : Nat} (ha : a < 12) (hp : ∀ g : Nat → sr_F, (∀ i, i < 64 → g i = if i < 32 then r (a * 32 + i) else 0) → post (sr_E r, a2, a3, a4, a5, a6, a7, a8, a9, a10, a11, a12, sr_E g, a14, a15)) : wpX_loadWide post (sr_E r, a2, a3, a4, a5, a6, a7, a8, a9, a10, a11, a12, sr_E x, a14, a15) (nI a) :=
  pk_loop (fun n i g => wX_loadWide_2 post (nI a) n (nI i) (sr_E r) a2 a3 a4 a5 a6 a7 a8 a9 a10 a11 a12 (sr_E g) a14 a15) (fun i g => ∀ j, j < i → g j = if j < 32 then r (a * 32 + j) else 0) 64 0 x (by omega) (fun j h => absurd h (by omega))
    (fun n g h => pk_le 64 64 (fun _ => hp g h) (fun z => absurd z (by omega)))
    (fun n i g hi h hw => pk_le 64 i (fun z => absurd z (by omega)) (fun _ => pk_le 32 i
      (fun z => ⟨pk_in i 64 hi, nm_r (sr_up (k := i) (x := 0) (pk_cl i) rfl) (nm_r (nI_1 i) (hw _ (sr_fl (f := fun j => if j < 32 then r (a * 32 + j) else 0) rfl h (if_neg (by omega)).symm)))⟩)
      (fun z => sr_cell (by omega) ⟨pk_in i 64 hi, nm_r (sr_up (k := i) (pk_cl i) rfl) (nm_r (nI_1 i) (hw _ (sr_fl (f := fun j => if j < 32 then r (a * 32 + j) else 0) rfl h (if_pos (by omega)).symm)))⟩)))
/-! bits turned around -/
def sr_tb (i : Nat) : Nat → Nat
  | 0 => 0
  | b + 1 => sr_tb i b ||| (((i >>> b) &&& 1) <<< (5 - b))
def sr_tn (i : Nat) : Nat := sr_tb i 6
theorem sr_tbs : ∀ i, i < 64 → ∀ b, b < 6 → nI (sr_tb i b) ||| (((nI i >>> (nI b &&& 31)) &&& 1) <<< ((5 - nI b) &&& 31)) = nI (sr_tb i (b + 1)) := by decide +kernel
theorem sr_tn64 : ∀ i, i < 64 → sr_tn i < 64 := by decide +kernel
theorem sr_tnn : ∀ i, i < 64 → sr_tn (sr_tn i) = i := by decide +kernel
theorem sr_tnr : ∀ j, j < 64 → sr_rv 6 j < 64 ∧ sr_tn (sr_rv 6 j) = j := by decide +kernel
theorem sr_turned {post : Int32 → Prop} {i : Nat} (hi : i < 64) (hp : post (nI (sr_tn i))) : wpX_turned post () (nI i) :=
  pk_loop (σ := Unit) (fun n b _ => wX_turned_4 post (nI i) n (nI (sr_tb i b)) (nI b)) (fun _ _ => True) 6 0 () (by omega) trivial
    (fun n _ _ => pk_le 6 6 (fun _ => hp) (fun z => absurd z (by omega)))
    (fun n b _ hb _ hw => pk_le 6 b (fun z => absurd z (by omega)) (fun _ => nm_r (sr_tbs i hi b hb) (nm_r (nI_1 b) (hw () trivial))))
theorem sr_cross2 {post : St2 → Prop} {x : Nat → sr_F} {a1 a2 a3 a4 a5 a6 a7 a8 a9 a10 a11 a12 a14 a15 : Nat → Int32} {p q : Nat} {t : sr_F} (hp : p < 64) (hq : q < 64) (hpost : post (a1, a2, a3, a4, a5, a6, a7, a8, a9, a10, a11, a12, sr_E (sr_u (sr_u x p (x p + x q * t)) q (x p - x q * t)), a14, a15)) : wpX_cross2 post (a1, a2, a3, a4, a5, a6, a7, a8, a9, a10, a11, a12, sr_E x, a14, a15) (nI p) (nI q) (sr_e t) := by
  refine And.intro (pk_in p 64 hp) (nm_r (e' := sr_e (x p)) (by rw [pk_cl p]; rfl) ⟨pk_in q 64 hq, sr_ne, nm_r (e' := sr_e (x q * t)) (by rw [pk_cl q]; exact sr_mu (x q) t) ?_⟩)
  refine sr_plus ⟨pk_in p 64 hp, nm_r (sr_up (k := p) (pk_cl p) rfl) ?_⟩
  exact sr_minus ⟨pk_in q 64 hq, nm_r (sr_up (k := q) (pk_cl q) rfl) hpost⟩
/-! the stages -/
def sr_lo (s i : Nat) : Nat := i / 2 ^ s * 2 ^ (s + 1) + i % 2 ^ s
theorem sr_lob : ∀ s, s < 6 → ∀ i, i < 32 → sr_lo s i + 2 ^ s < 64 ∧ i % 2 ^ s * 2 ^ (5 - s) < 64 := by decide +kernel
theorem sr_lod : ∀ s, s < 6 → ∀ i, i < 32 → ∀ j, j < 32 → i = j ∨ (sr_lo s j ≠ sr_lo s i ∧ sr_lo s j + 2 ^ s ≠ sr_lo s i ∧ sr_lo s j ≠ sr_lo s i + 2 ^ s ∧ sr_lo s j + 2 ^ s ≠ sr_lo s i + 2 ^ s) := by decide +kernel
/-- after i turns of a stage -/
def sr_In (w : sr_F) (x g : Nat → sr_F) (s i : Nat) : Prop := ∀ j, j < 32 →
  (j < i → g (sr_lo s j) = x (sr_lo s j) + x (sr_lo s j + 2 ^ s) * sr_p w (j % 2 ^ s * 2 ^ (5 - s)) ∧ g (sr_lo s j + 2 ^ s) = x (sr_lo s j) - x (sr_lo s j + 2 ^ s) * sr_p w (j % 2 ^ s * 2 ^ (5 - s))) ∧
  (i ≤ j → g (sr_lo s j) = x (sr_lo s j) ∧ g (sr_lo s j + 2 ^ s) = x (sr_lo s j + 2 ^ s))
theorem sr_In0 (w : sr_F) (x : Nat → sr_F) (s : Nat) : sr_In w x x s 0 := fun _ _ => ⟨fun h => absurd h (by omega), fun _ => ⟨rfl, rfl⟩⟩
theorem sr_Ins {w : sr_F} {x g : Nat → sr_F} {s i : Nat} (hs : s < 6) (hi : i < 32) (h : sr_In w x g s i) : sr_In w x (sr_u (sr_u g (sr_lo s i) (g (sr_lo s i) + g (sr_lo s i + 2 ^ s) * sr_p w (i % 2 ^ s * 2 ^ (5 - s)))) (sr_lo s i + 2 ^ s) (g (sr_lo s i) - g (sr_lo s i + 2 ^ s) * sr_p w (i % 2 ^ s * 2 ^ (5 - s)))) s (i + 1) := by
  have m0 : 0 < 2 ^ s := Nat.two_pow_pos s
  intro j hj
  have hI := (h i hi).2 (Nat.le_refl i)
  rcases sr_lod s hs i hi j hj with e | ⟨d1, d2, d3, d4⟩
  · subst e
    refine ⟨fun _ => ⟨?_, ?_⟩, fun z => absurd z (by omega)⟩
    · rw [sr_un (by omega), sr_us, hI.1, hI.2]
    · rw [sr_us, hI.1, hI.2]
  · have hJ := h j hj
    rw [sr_un d3, sr_un d1, sr_un d4, sr_un d2]
    refine ⟨fun z => hJ.1 ?_, fun z => hJ.2 (by omega)⟩
    rcases Nat.lt_or_ge j i with c | c
    · exact c
    · have e : j = i := by omega
      rw [e] at d1
      exact absurd rfl d1
theorem sr_Ine {w : sr_F} {x g : Nat → sr_F} {s : Nat} (hs : s < 6) (h : sr_In w x g s 32) : sr_Sg w x g s := by
  intro b k hb hk
  have e3 : (2 : Nat) ^ (5 - s) * 2 ^ s = 32 := by rw [← Nat.pow_add, show 5 - s + s = 5 by omega]
  have m0 : 0 < 2 ^ s := Nat.two_pow_pos s
  have hi : k + b * 2 ^ s < 32 := by
    have t : (b + 1) * 2 ^ s ≤ 2 ^ (5 - s) * 2 ^ s := Nat.mul_le_mul_right _ hb
    rw [e3, Nat.succ_mul] at t
    omega
  have q1 : (k + b * 2 ^ s) / 2 ^ s = b := by
    rw [Nat.add_mul_div_right _ _ m0, Nat.div_eq_of_lt hk, Nat.zero_add]
  have q2 : (k + b * 2 ^ s) % 2 ^ s = k := by
    rw [Nat.add_mul_mod_self_right, Nat.mod_eq_of_lt hk]
  have t := (h (k + b * 2 ^ s) hi).1 hi
  have l : sr_lo s (k + b * 2 ^ s) = b * 2 ^ (s + 1) + k := by
    unfold sr_lo
    rw [q1, q2]
  rw [l, q2] at t
  exact t
theorem sr_tr103 {post : St2 → Prop} {J : Int32 → (Nat → Int32) → (Nat → Int32) → (Nat → Int32) → (Nat → Int32) → (Nat → Int32) → (Nat → Int32) → (Nat → Int32) → (Nat → Int32) → (Nat → Int32) → (Nat → Int32) → (Nat → Int32) → (Nat → Int32) → (Nat → Int32) → (Nat → Int32) → (Nat → Int32) → Prop} {w : sr_F} {x q : Nat → sr_F} {a1 a2 a3 a4 a5 a6 a7 a8 a9 a10 a11 a12 a14 : Nat → Int32} {s : Nat} (hs : s < 6) (hq : ∀ j, j < 64 → q j = sr_p w j) (hJ : ∀ g : Nat → sr_F, sr_Sg w x g s → J (nI (2 ^ (s + 1 + 1))) a1 a2 a3 a4 a5 a6 a7 a8 a9 a10 a11 a12 (sr_E g) a14 (sr_E q)) : ∃ n, wX_transform_103 post J (nI (2 ^ (s + 1))) n 0 a1 a2 a3 a4 a5 a6 a7 a8 a9 a10 a11 a12 (sr_E x) a14 (sr_E q) := by
  have m0 : 0 < 2 ^ s := Nat.two_pow_pos s
  have m1 : (2 : Nat) ^ (s + 1) = 2 ^ s * 2 := Nat.pow_succ _ _
  have m2 : (2 : Nat) ^ s ≤ 32 := Nat.pow_le_pow_right (n := 2) (j := 5) (by omega) (by omega)
  have e3 : (2 : Nat) ^ (5 - s) * 2 ^ (s + 1) = 64 := by rw [← Nat.pow_add, show 5 - s + (s + 1) = 6 by omega]
  have d1 : nI (2 ^ (s + 1)) / 2 = nI (2 ^ s) := by
    refine (pk_div (a := 2 ^ (s + 1)) (d := 2) (by omega) (by omega) (by omega)).trans ?_
    rw [show 2 ^ (s + 1) / 2 = 2 ^ s by omega]
  have d2 : 64 / nI (2 ^ (s + 1)) = nI (2 ^ (5 - s)) := by
    refine (pk_div (a := 64) (d := 2 ^ (s + 1)) (by omega) (by omega) (by omega)).trans ?_
    rw [← e3, Nat.mul_div_cancel _ (by omega)]
  refine pk_loop (fun n i g => wX_transform_103 post J (nI (2 ^ (s + 1))) n (nI i) a1 a2 a3 a4 a5 a6 a7 a8 a9 a10 a11 a12 (sr_E g) a14 (sr_E q)) (fun i g => sr_In w x g s i) 32 0 x (by omega) (sr_In0 w x s)
    (fun n g h => pk_le 32 32 (fun _ => nm_r (e' := nI (2 ^ (s + 1 + 1))) (pk_mul (2 ^ (s + 1)) 2) (hJ g (sr_Ine hs h))) (fun z => absurd z (by omega)))
    (fun n i g hi h hw => pk_le 32 i (fun z => absurd z (by omega)) (fun _ => ⟨by decide, nm_r d1 ⟨nI_ne0 m0 (by omega), nI_ne0 m0 (by omega), nm_r (e' := nI (sr_lo s i)) ?_ ⟨nI_ne0 m0 (by omega), nI_ne0 (by omega) (by omega), pk_in (i % 2 ^ s * 2 ^ (5 - s)) 64 (sr_lob s hs i hi).2 ?_, nm_r (e' := sr_e (sr_p w (i % 2 ^ s * 2 ^ (5 - s)))) ?_ ?_⟩⟩⟩))
  · rw [pk_rem (a := i) (by omega) m0 (by omega), pk_div (a := i) (by omega) m0 (by omega), pk_mul, nI_add]
    rfl
  · rw [pk_rem (a := i) (by omega) m0 (by omega), d2, pk_mul]
  · rw [pk_rem (a := i) (by omega) m0 (by omega), d2, pk_mul, nI_clamp (Nat.lt_trans (sr_lob s hs i hi).2 (by decide))]
    exact congrArg sr_e (hq _ (sr_lob s hs i hi).2)
  · rw [nI_add]
    have hb := (sr_lob s hs i hi).1
    exact sr_cross2 (by omega) hb (nm_r (nI_1 i) (hw _ (sr_Ins hs hi h)))
theorem sr_tr95 {post : St2 → Prop} {w : sr_F} (hw32 : sr_p w 32 = -1) {y q : Nat → sr_F} {a1 a2 a3 a4 a5 a6 a7 a8 a9 a10 a11 a12 a14 : Nat → Int32} (hq : ∀ j, j < 64 → q j = sr_p w j) (hp : ∀ g : Nat → sr_F, (∀ k, k < 64 → g k = sr_s 64 (fun j => y (sr_rv 6 j) * sr_p w (j * k))) → post (a1, a2, a3, a4, a5, a6, a7, a8, a9, a10, a11, a12, sr_E g, a14, sr_E q)) : ∃ n, wX_transform_95 post n 2 a1 a2 a3 a4 a5 a6 a7 a8 a9 a10 a11 a12 (sr_E y) a14 (sr_E q) :=
  pk_loop (fun n s g => wX_transform_95 post n (nI (2 ^ (s + 1))) a1 a2 a3 a4 a5 a6 a7 a8 a9 a10 a11 a12 (sr_E g) a14 (sr_E q)) (fun s g => sr_Ph w y g s) 6 0 y (by omega) (sr_ph0 w y)
    (fun n g h => pk_lt 64 (2 ^ 7) (fun _ => hp g (sr_ph6 h)) (fun z => absurd z (by omega)))
    (fun n s g hs h hw => by
      have m2 : (2 : Nat) ^ (s + 1) ≤ 64 := Nat.pow_le_pow_right (n := 2) (j := 6) (by omega) (by omega)
      exact pk_lt 64 (2 ^ (s + 1)) (fun z => absurd z (by omega)) (fun _ => sr_tr103 hs hq (fun g' h' => hw g' (sr_stage hw32 hs h h'))))
theorem sr_tr43 {post : St2 → Prop} {w : sr_F} (hw32 : sr_p w 32 = -1) {x q : Nat → sr_F} {a1 a2 a3 a4 a5 a6 a7 a8 a9 a10 a11 a12 a14 : Nat → Int32} (hq : ∀ j, j < 64 → q j = sr_p w j) (hp : ∀ g : Nat → sr_F, (∀ k, k < 64 → g k = sr_s 64 (fun j => x j * sr_p w (j * k))) → post (a1, a2, a3, a4, a5, a6, a7, a8, a9, a10, a11, a12, sr_E g, a14, sr_E q)) : ∃ n, wX_transform_43 post n 0 a1 a2 a3 a4 a5 a6 a7 a8 a9 a10 a11 a12 (sr_E x) a14 (sr_E q) := by
  refine pk_loop (fun n i g => wX_transform_43 post n (nI i) a1 a2 a3 a4 a5 a6 a7 a8 a9 a10 a11 a12 (sr_E g) a14 (sr_E q)) (fun i g => ∀ k, k < 64 → g k = if k < i ∨ sr_tn k < i then x (sr_tn k) else x k) 64 0 x (by omega) (fun k _ => (if_neg (by omega)).symm)
    (fun n g h => pk_le 64 64 (fun _ => sr_tr95 hw32 hq (fun g' h' => hp g' (fun k hk => ?_))) (fun z => absurd z (by omega)))
    (fun n i g hi h hw => pk_le 64 i (fun z => absurd z (by omega)) (fun _ => sr_turned hi (pk_le (sr_tn i) i (fun z => nm_r (nI_1 i) (hw g ?_)) (fun z => ⟨pk_in i 64 hi, nm_r (e' := sr_e (g i)) (by rw [pk_cl i]; rfl) ⟨pk_in (sr_tn i) 64 (sr_tn64 i hi), pk_in i 64 hi, nm_r (sr_up (k := i) (x := g (sr_tn i)) (pk_cl i) ?_) ⟨pk_in (sr_tn i) 64 (sr_tn64 i hi), nm_r (sr_up (k := sr_tn i) (nI_clamp (Nat.lt_trans (sr_tn64 i hi) (by decide))) rfl) (nm_r (nI_1 i) (hw _ ?_))⟩⟩⟩) rfl rfl (Nat.lt_trans (sr_tn64 i hi) (by decide)) (by omega))))
  · rw [h' k hk]
    refine sr_sc (fun j hj => ?_)
    have t := sr_tnr j hj
    rw [h _ t.1, if_pos (Or.inl t.1), t.2]
  · intro k hk
    rw [h k hk]
    by_cases e : k = i
    · subst e
      rcases Nat.lt_or_ge (sr_tn k) k with c | c
      · rw [if_pos (Or.inr c), if_pos (Or.inl (by omega))]
      · have e2 : sr_tn k = k := by omega
        rw [if_neg (by omega), if_pos (Or.inl (by omega)), e2]
    · by_cases e2 : sr_tn k = i
      · have e3 : sr_tn i = k := by rw [← e2, sr_tnn k hk]
        rw [if_pos (by omega), if_pos (by omega)]
      · by_cases c : k < i ∨ sr_tn k < i
        · rw [if_pos c, if_pos (by omega)]
        · rw [if_neg c, if_neg (by omega)]
  · rw [nI_clamp (Nat.lt_trans (sr_tn64 i hi) (by decide))]
    rfl
  · intro k hk
    have hi2 := sr_tnn i hi
    have hb := sr_tn64 i hi
    by_cases e : k = sr_tn i
    · rw [sr_ut e, h i hi, if_neg (by omega)]
      subst e
      rw [if_pos (by omega), hi2]
    · rw [sr_un e]
      by_cases e1 : k = i
      · rw [sr_ut e1, h _ hb, hi2, if_neg (by omega)]
        subst e1
        rw [if_pos (by omega)]
      · rw [sr_un e1, h k hk]
        have e2 : sr_tn k ≠ i := fun c => e (by rw [← c, sr_tnn k hk])
        by_cases c : k < i ∨ sr_tn k < i
        · rw [if_pos c, if_pos (by omega)]
        · rw [if_neg c, if_neg (by omega)]
theorem sr_transform {post : St2 → Prop} {w : sr_F} (hw32 : sr_p w 32 = -1) {x q : Nat → sr_F} {a1 a2 a3 a4 a5 a6 a7 a8 a9 a10 a11 a12 a14 : Nat → Int32} (hp : ∀ g q' : Nat → sr_F, (∀ k, k < 64 → g k = sr_s 64 (fun j => x j * sr_p w (j * k))) → post (a1, a2, a3, a4, a5, a6, a7, a8, a9, a10, a11, a12, sr_E g, a14, sr_E q')) : wpX_transform post (a1, a2, a3, a4, a5, a6, a7, a8, a9, a10, a11, a12, sr_E x, a14, sr_E q) (sr_e w) := by
  refine nm_r (sr_up (f := q) (k := 0) (x := 1) rfl rfl) ?_
  exact pk_loop (fun n i g => wX_transform_9 post (sr_e w) n (nI i) a1 a2 a3 a4 a5 a6 a7 a8 a9 a10 a11 a12 (sr_E x) a14 (sr_E g)) (fun i g => 1 ≤ i ∧ ∀ j, j < i → g j = sr_p w j) 64 1 (sr_u q 0 1) (by omega) ⟨by omega, fun j hj => by rw [show j = 0 by omega, sr_us]; rfl⟩
    (fun n g h => pk_le 64 64 (fun _ => sr_tr43 hw32 h.2 (fun g' h' => hp g' g h')) (fun z => absurd z (by omega)))
    (fun n i g hi h hw => pk_le 64 i (fun z => absurd z (by omega)) (fun _ => ⟨pk_in (i - 1) 64 (by omega) (sr_i1 h.1), sr_ne, pk_in i 64 hi, nm_r (sr_up (k := i) (x := g (i - 1) * w) (pk_cl i) (by rw [sr_i1 h.1, pk_cl (i - 1)]; exact sr_mu (g (i - 1)) w)) (nm_r (nI_1 i) (hw _ ⟨by omega, sr_fl rfl h.2 (by rw [h.2 (i - 1) (by omega)]; obtain ⟨m, rfl⟩ : ∃ m, i = m + 1 := ⟨i - 1, by omega⟩; rfl)⟩))⟩))
end
section
theorem sr_ml2 {a a' b b' : sr_F} (h1 : a = a') (h2 : b = b') : a * b = a' * b' := by rw [h1, h2]
/-- row 5 holds the product of two rows, the other rows are as they were -/
def sr_R (r g : Nat → sr_F) (a b : Nat) : Prop := (∀ i, i < 32 → g (160 + i) = sr_c 32 (fun i => r (a * 32 + i)) (fun i => r (b * 32 + i)) i) ∧ (∀ j, (j < 160 ∨ 192 ≤ j) → g j = r j)
/-- i numbers of row 5 are written -/
def sr_W (r g v : Nat → sr_F) (i : Nat) : Prop := (∀ j, j < i → g (160 + j) = v j) ∧ (∀ j, (j < 160 ∨ 160 + i ≤ j) → g j = r j)
theorem sr_W0 (r v : Nat → sr_F) : sr_W r r v 0 := ⟨fun j h => absurd h (by omega), fun _ _ => rfl⟩
theorem sr_Ws {r g v : Nat → sr_F} {i : Nat} {x : sr_F} (h : sr_W r g v i) (hx : x = v i) : sr_W r (sr_u g (5 * 32 + i) x) v (i + 1) := by
  refine ⟨fun j hj => ?_, fun j hj => ?_⟩
  · by_cases e : j = i
    · rw [sr_ut (by omega), hx, e]
    · rw [sr_un (by omega)]
      exact h.1 j (by omega)
  · rw [sr_un (by omega)]
    exact h.2 j (by omega)
theorem sr_WR {r g v : Nat → sr_F} {a b : Nat} (h : sr_W r g v 32) (hv : ∀ i, i < 32 → v i = sr_c 32 (fun i => r (a * 32 + i)) (fun i => r (b * 32 + i)) i) : sr_R r g a b :=
  ⟨fun i hi => (h.1 i hi).trans (hv i hi), fun j hj => h.2 j (by omega)⟩
theorem sr_pwr1 : sr_pw 14 1 11 192 = 7311 := by decide +kernel
theorem sr_pwr2 : sr_pw 14 1 7311 63 = 9650 := by decide +kernel
theorem sr_pwr3 : sr_pw 14 1 64 12287 = 12097 := by decide +kernel
theorem sr_powv {post : Int32 → Prop} {b v : sr_F} {e : Nat} (he : e < 2 ^ 14) (hv : sr_pw 14 1 b e = v) (h : post (sr_e v)) : wpX_power post () (sr_e b) (nI e) := sr_power he (by rw [hv]; exact h)
theorem sr_ro128 {post : St2 → Prop} {r A v : Nat → sr_F} {c : sr_F} {a2 a3 a4 a5 a6 a7 a8 a9 a10 a11 a12 a14 a15 : Nat → Int32} (hv : ∀ i, i < 32 → A i * c = v i) (hp : ∀ g : Nat → sr_F, sr_W r g v 32 → post (sr_E g, a2, a3, a4, a5, a6, a7, a8, a9, a10, a11, a12, sr_E A, a14, a15)) : ∃ n, wX_multiplyByRoots_128 post (sr_e c) n 0 (sr_E r) a2 a3 a4 a5 a6 a7 a8 a9 a10 a11 a12 (sr_E A) a14 a15 :=
  pk_loop (fun n i g => wX_multiplyByRoots_128 post (sr_e c) n (nI i) (sr_E g) a2 a3 a4 a5 a6 a7 a8 a9 a10 a11 a12 (sr_E A) a14 a15) (fun i g => sr_W r g v i) 32 0 r (by omega) (sr_W0 r v)
    (fun n g h => pk_le 32 32 (fun _ => hp g h) (fun z => absurd z (by omega)))
    (fun n i g hi h hw => pk_le 32 i (fun z => absurd z (by omega)) (fun _ => ⟨pk_in i 64 (by omega), sr_ne, by
      rw [pk_cl i]
      show wpX_write _ _ 5 (nI i) ((sr_e (A i) * sr_e c) - (sr_e (A i) * sr_e c) / 12289 * 12289)
      rw [sr_mu]
      exact sr_write (a := 5) (by omega) (nm_r (nI_1 i) (hw _ (sr_Ws h (hv i hi))))⟩))
theorem sr_ro62 {post : St2 → Prop} {r A B q v : Nat → sr_F} {a2 a3 a4 a5 a6 a7 a8 a9 a10 a11 a12 : Nat → Int32} (hv : ∀ i, i < 32 → sr_s 64 (fun k => A k * B k * sr_p 9650 (k * i)) * 12097 = v i) (hp : ∀ g g13 g15 : Nat → sr_F, sr_W r g v 32 → post (sr_E g, a2, a3, a4, a5, a6, a7, a8, a9, a10, a11, a12, sr_E g13, sr_E B, sr_E g15)) : ∃ n, wX_multiplyByRoots_62 post (sr_e 7311) n 0 (sr_E r) a2 a3 a4 a5 a6 a7 a8 a9 a10 a11 a12 (sr_E A) (sr_E B) (sr_E q) :=
  pk_loop (fun n i g => wX_multiplyByRoots_62 post (sr_e 7311) n (nI i) (sr_E r) a2 a3 a4 a5 a6 a7 a8 a9 a10 a11 a12 (sr_E g) (sr_E B) (sr_E q)) (fun i g => (∀ j, j < i → g j = A j * B j) ∧ (∀ j, i ≤ j → g j = A j)) 64 0 A (by omega) ⟨fun j h => absurd h (by omega), fun _ _ => rfl⟩
    (fun n g h => pk_le 64 64 (fun _ => sr_powv (b := 7311) (e := 63) (by decide) sr_pwr2 (sr_transform sr_v32 (fun g' q' hg' => sr_powv (b := 64) (e := 12287) (by decide) sr_pwr3 (sr_ro128 (fun i hi => by
      rw [hg' i (by omega), ← hv i hi]
      refine sr_ml2 ?_ rfl
      exact sr_sc (fun j hj => by rw [h.1 j hj])) (fun g1 h1 => hp g1 g' q' h1))))) (fun z => absurd z (by omega)))
    (fun n i g hi h hw => pk_le 64 i (fun z => absurd z (by omega)) (fun _ => ⟨pk_in i 64 hi, pk_in i 64 hi, sr_ne, pk_in i 64 hi, nm_r (sr_up (k := i) (x := g i * B i) (pk_cl i) (by rw [pk_cl i]; exact sr_mu (g i) (B i))) (nm_r (nI_1 i) (hw _ ⟨sr_fl rfl h.1 (by rw [h.2 i (by omega)]), fun j hj => by rw [sr_un (by omega)]; exact h.2 j (by omega)⟩))⟩))
theorem sr_ro22 {post : St2 → Prop} {r B x q v : Nat → sr_F} {a2 a3 a4 a5 a6 a7 a8 a9 a10 a11 a12 : Nat → Int32} {a : Nat} (ha : a < 12) (hv : ∀ i, i < 32 → sr_s 64 (fun k => sr_s 64 (fun j => (if j < 32 then r (a * 32 + j) else 0) * sr_p 7311 (j * k)) * B k * sr_p 9650 (k * i)) * 12097 = v i) (hp : ∀ g g13 g14 g15 : Nat → sr_F, sr_W r g v 32 → post (sr_E g, a2, a3, a4, a5, a6, a7, a8, a9, a10, a11, a12, sr_E g13, sr_E g14, sr_E g15)) : ∃ n, wX_multiplyByRoots_22 post (nI a) (sr_e 7311) n 0 (sr_E r) a2 a3 a4 a5 a6 a7 a8 a9 a10 a11 a12 (sr_E B) (sr_E x) (sr_E q) :=
  pk_loop (fun n i g => wX_multiplyByRoots_22 post (nI a) (sr_e 7311) n (nI i) (sr_E r) a2 a3 a4 a5 a6 a7 a8 a9 a10 a11 a12 (sr_E B) (sr_E g) (sr_E q)) (fun i g => ∀ j, j < i → g j = B j) 64 0 x (by omega) (fun j h => absurd h (by omega))
    (fun n g h => pk_le 64 64 (fun _ => sr_loadWide ha (fun g1 h1 => sr_transform sr_w32 (fun g2 q2 h2 => sr_ro62 (fun i hi => by
      rw [← hv i hi]
      refine sr_ml2 ?_ rfl
      refine sr_sc (fun k hk => ?_)
      rw [h2 k hk, h k hk]
      exact sr_ml2 (sr_ml2 (sr_sc (fun j hj => by rw [h1 j hj])) rfl) rfl) (fun g3 g4 g5 h3 => hp g3 g4 g g5 h3)))) (fun z => absurd z (by omega)))
    (fun n i g hi h hw => pk_le 64 i (fun z => absurd z (by omega)) (fun _ => ⟨pk_in i 64 hi, pk_in i 64 hi, nm_r (sr_up (k := i) (x := B i) (pk_cl i) (by rw [pk_cl i]; rfl)) (nm_r (nI_1 i) (hw _ (sr_fl rfl h rfl)))⟩))
theorem sr_roots {post : St2 → Prop} {r x y q : Nat → sr_F} {a2 a3 a4 a5 a6 a7 a8 a9 a10 a11 a12 : Nat → Int32} {a b : Nat} (ha : a < 12) (hb : b < 12) (hp : ∀ g g13 g14 g15 : Nat → sr_F, sr_R r g a b → post (sr_E g, a2, a3, a4, a5, a6, a7, a8, a9, a10, a11, a12, sr_E g13, sr_E g14, sr_E g15)) : wpX_multiplyByRoots post (sr_E r, a2, a3, a4, a5, a6, a7, a8, a9, a10, a11, a12, sr_E x, sr_E y, sr_E q) (nI a) (nI b) := by
  refine sr_powv (b := 11) (e := 192) (by decide) sr_pwr1 (sr_loadWide hb (fun g1 h1 => sr_transform sr_w32 (fun g2 q2 h2 => sr_ro22 (v := sr_c 32 (fun i => r (a * 32 + i)) (fun i => r (b * 32 + i))) ha (fun i hi => ?_) (fun g g13 g14 g15 h => hp g g13 g14 g15 (sr_WR h (fun _ _ => rfl))))))
  rw [← sr_ntt (fun i => r (a * 32 + i)) (fun i => r (b * 32 + i)) hi]
  refine sr_ml2 ?_ rfl
  refine sr_sc (fun k hk => ?_)
  rw [h2 k hk]
  exact sr_ml2 (sr_ml2 rfl (sr_sc (fun j hj => by rw [h1 j hj]))) rfl
end
section
/-- a loop that counts down to -1 -/
theorem sr_down {σ : Type} (W : Nat → Int32 → σ → Prop) (I : Nat → σ → Prop) (hx : ∀ n s, I 0 s → W (n + 1) (-1) s) (hs : ∀ n i s, I (i + 1) s → (∀ s', I i s' → W n (nI i + (-1)) s') → W (n + 1) (nI i) s) (e : Nat) (s : σ) (h : I (e + 1) s) : ∃ n, W n (nI e) s := by
  have t := pk_loopD (fun n i s => W n (nI i + (-1)) s) I (fun n s h => hx n s h) (fun n i s h hw => by
    show W (n + 1) (nI (i + 1) + (-1)) s
    rw [pk_m1]
    exact hs n i s h hw) (e + 1) s h
  have t' : W (e + 1 + 1) (nI (e + 1) + (-1)) s := t
  rw [pk_m1] at t'
  exact ⟨_, t'⟩
theorem sr_nn {i : Nat} (h : i < 12289) : nI i = sr_e (sr_n i) := by
  show nI i = nI (i % 12289)
  rw [Nat.mod_eq_of_lt h]
theorem sr_valueAt {post : Int32 → Prop} {r : Nat → sr_F} {a2 a3 a4 a5 a6 a7 a8 a9 a10 a11 a12 a13 a14 a15 : Nat → Int32} {a x : Nat} (ha : a < 12) (hx : x < 12289) (hp : post (sr_e (sr_ev 32 (fun j => r (a * 32 + j)) (sr_n x)))) : wpX_valueAt post (sr_E r, a2, a3, a4, a5, a6, a7, a8, a9, a10, a11, a12, a13, a14, a15) (nI a) (nI x) := by
  rw [sr_nn hx]
  exact sr_down (σ := sr_F) (fun n i v => wX_valueAt_6 post (nI a) (sr_e (sr_n x)) (sr_E r) a2 a3 a4 a5 a6 a7 a8 a9 a10 a11 a12 a13 a14 a15 n (sr_e v) i) (fun i v => i ≤ 32 ∧ v = sr_hn (fun j => r (a * 32 + j)) (sr_n x) (32 - i))
    (fun n v h => br_t (by decide) (by rw [h.2]; show post (sr_e (sr_hn _ _ 32)); rw [sr_hnv]; exact hp))
    (fun n i v h hw => br_f (nI_pos (by omega)) (sr_cell (by omega) ⟨sr_ne, nm_r (sr_am _ v (sr_n x)) (nm_e (hw _ ⟨by omega, by
      rw [h.2, show 32 - i = (32 - (i + 1)) + 1 by omega]
      show _ = sr_hn (fun j => r (a * 32 + j)) (sr_n x) (32 - (i + 1)) * sr_n x + r (a * 32 + (31 - (32 - (i + 1))))
      rw [show 31 - (32 - (i + 1)) = i by omega]⟩))⟩)) 31 0 ⟨by omega, rfl⟩
theorem sr_po226 {post : St2 → Prop} {r B v : Nat → sr_F} {a2 a3 a4 a5 a6 a7 a8 a9 a10 a11 a12 a13 a15 : Nat → Int32} (hv : ∀ i, i < 32 → B i = v i) (hp : ∀ g : Nat → sr_F, sr_W r g v 32 → post (sr_E g, a2, a3, a4, a5, a6, a7, a8, a9, a10, a11, a12, a13, sr_E B, a15)) : ∃ n, wX_multiplyByPoints_226 post n 0 (sr_E r) a2 a3 a4 a5 a6 a7 a8 a9 a10 a11 a12 a13 (sr_E B) a15 :=
  pk_loop (fun n i g => wX_multiplyByPoints_226 post n (nI i) (sr_E g) a2 a3 a4 a5 a6 a7 a8 a9 a10 a11 a12 a13 (sr_E B) a15) (fun i g => sr_W r g v i) 32 0 r (by omega) (sr_W0 r v)
    (fun n g h => pk_le 32 32 (fun _ => hp g h) (fun z => absurd z (by omega)))
    (fun n i g hi h hw => pk_le 32 i (fun z => absurd z (by omega)) (fun _ => ⟨pk_in i 64 (by omega), by
      rw [nI_clamp (n := i) (by omega)]
      exact sr_write (a := 5) (x := B i) (by omega) (nm_r (nI_1 i) (hw _ (sr_Ws h (hv i hi))))⟩))
theorem sr_po140 {post : St2 → Prop} {J : Int32 → (Nat → Int32) → (Nat → Int32) → (Nat → Int32) → (Nat → Int32) → (Nat → Int32) → (Nat → Int32) → (Nat → Int32) → (Nat → Int32) → (Nat → Int32) → (Nat → Int32) → (Nat → Int32) → (Nat → Int32) → (Nat → Int32) → (Nat → Int32) → (Nat → Int32) → Prop} {A B : Nat → sr_F} {a1 a2 a3 a4 a5 a6 a7 a8 a9 a10 a11 a12 a15 : Nat → Int32} {x : Nat} (hx : x < 63) (hJ : ∀ g : Nat → sr_F, (∀ j, j < 64 → g j = (if j = 0 then A x else B (j - 1)) - B j * sr_n x) → J (nI x + (-1)) a1 a2 a3 a4 a5 a6 a7 a8 a9 a10 a11 a12 (sr_E A) (sr_E g) a15) : ∃ n, wX_multiplyByPoints_140 post J (nI x) n 63 a1 a2 a3 a4 a5 a6 a7 a8 a9 a10 a11 a12 (sr_E A) (sr_E B) a15 := by
  refine Exists.intro 64 (pk_loopD (fun n i g => wX_multiplyByPoints_140 post J (nI x) n (nI i) a1 a2 a3 a4 a5 a6 a7 a8 a9 a10 a11 a12 (sr_E A) (sr_E g) a15) (fun i g => i < 64 ∧ (∀ j, j ≤ i → g j = B j) ∧ (∀ j, i < j → j < 64 → g j = B (j - 1) - B j * sr_n x))
    (fun n g h => br_t (by decide) ⟨sr_ne, nm_r (e' := sr_e (g 0 * sr_n x)) ?_ ⟨pk_in x 64 (by omega), ?_⟩⟩)
    (fun n i g h hw => br_f (nI_nle (by omega) (by omega)) ⟨pk_in (i + 1) 64 (by omega), sr_ne, nm_r (e' := sr_e (g (i + 1) * sr_n x)) ?_ ⟨pk_in i 64 (by omega) (nI_pred i), ?_⟩⟩) 63 B ⟨by omega, fun j _ => rfl, fun j h1 h2 => absurd h1 (by omega)⟩)
  · rw [sr_nn (show x < 12289 by omega)]
    exact sr_mu (g 0) (sr_n x)
  · rw [nI_clamp (n := x) (by omega)]
    refine sr_minus (x := A x) (nm_r (sr_up (k := 0) rfl rfl) (nm_e (hJ _ (fun j hj => ?_))))
    by_cases e : j = 0
    · rw [sr_ut e, if_pos e, h.2.1 0 (by omega), e]
    · rw [sr_un e, if_neg e]
      exact h.2.2 j (by omega) hj
  · rw [sr_nn (show x < 12289 by omega), nI_clamp (n := (i + 1)) (by omega)]
    exact sr_mu (g (i + 1)) (sr_n x)
  · rw [nI_pred, nI_clamp (n := i) (by omega)]
    refine sr_minus (x := g i) ⟨pk_in (i + 1) 64 (by omega), nm_r (sr_up (k := i + 1) (pk_cl (i + 1)) rfl) (nm_r (pk_m1 i) (hw _ ⟨by omega, fun j hj => ?_, fun j h1 h2 => ?_⟩))⟩
    · rw [sr_un (by omega)]
      exact h.2.1 j (by omega)
    · by_cases e : j = i + 1
      · rw [sr_ut e, e, h.2.1 i (by omega), h.2.1 (i + 1) (by omega), Nat.add_sub_cancel]
      · rw [sr_un e]
        exact h.2.2 j (by omega) h2
theorem sr_po132 {post : St2 → Prop} {r A B d : Nat → sr_F} {a2 a3 a4 a5 a6 a7 a8 a9 a10 a11 a12 a15 : Nat → Int32} (hA : ∀ x, x < 63 → A x = d x) (hB : ∀ j, j < 64 → B j = 0) (hp : ∀ g g14 : Nat → sr_F, sr_W r g (sr_rb d 63) 32 → post (sr_E g, a2, a3, a4, a5, a6, a7, a8, a9, a10, a11, a12, sr_E A, sr_E g14, a15)) : ∃ n, wX_multiplyByPoints_132 post n 62 (sr_E r) a2 a3 a4 a5 a6 a7 a8 a9 a10 a11 a12 (sr_E A) (sr_E B) a15 :=
  sr_down (fun n i g => wX_multiplyByPoints_132 post n i (sr_E r) a2 a3 a4 a5 a6 a7 a8 a9 a10 a11 a12 (sr_E A) (sr_E g) a15) (fun i g => i ≤ 63 ∧ ∀ j, j < 64 → g j = sr_rb d (63 - i) j)
    (fun n g h => br_t (by decide) (sr_po226 (v := sr_rb d 63) (fun i hi => h.2 i (by omega)) (fun g1 h1 => hp g1 g h1)))
    (fun n i g h hw => br_f (nI_pos (by omega)) (sr_po140 (x := i) (by omega) (fun g' h' => hw g' ⟨by omega, fun j hj => by
      rw [h' j hj, h.2 j hj, hA i (by omega), show 63 - i = (63 - (i + 1)) + 1 by omega]
      show _ = (if j = 0 then d (62 - (63 - (i + 1))) else sr_rb d (63 - (i + 1)) (j - 1)) - sr_rb d (63 - (i + 1)) j * sr_n (62 - (63 - (i + 1)))
      rw [show 62 - (63 - (i + 1)) = i by omega]
      by_cases e : j = 0
      · rw [if_pos e, if_pos e]
      · rw [if_neg e, if_neg e, h.2 (j - 1) (by omega)]⟩))) 62 B ⟨by omega, fun j hj => hB j hj⟩
theorem sr_po110 {post : St2 → Prop} {r A B d : Nat → sr_F} {a2 a3 a4 a5 a6 a7 a8 a9 a10 a11 a12 a15 : Nat → Int32} (hA : ∀ x, x < 63 → A x = d x) (hp : ∀ g g14 : Nat → sr_F, sr_W r g (sr_rb d 63) 32 → post (sr_E g, a2, a3, a4, a5, a6, a7, a8, a9, a10, a11, a12, sr_E A, sr_E g14, a15)) : ∃ n, wX_multiplyByPoints_110 post n 0 (sr_E r) a2 a3 a4 a5 a6 a7 a8 a9 a10 a11 a12 (sr_E A) (sr_E B) a15 :=
  pk_loop (fun n i g => wX_multiplyByPoints_110 post n (nI i) (sr_E r) a2 a3 a4 a5 a6 a7 a8 a9 a10 a11 a12 (sr_E A) (sr_E g) a15) (fun i g => ∀ j, j < i → g j = 0) 64 0 B (by omega) (fun j h => absurd h (by omega))
    (fun n g h => pk_le 64 64 (fun _ => sr_po132 hA h hp) (fun z => absurd z (by omega)))
    (fun n i g hi h hw => pk_le 64 i (fun z => absurd z (by omega)) (fun _ => ⟨pk_in i 64 hi, nm_r (sr_up (k := i) (x := 0) (pk_cl i) rfl) (nm_r (nI_1 i) (hw _ (sr_fl (f := fun _ => 0) rfl h rfl)))⟩))
theorem sr_po53 {post : St2 → Prop} {J : Int32 → (Nat → Int32) → (Nat → Int32) → (Nat → Int32) → (Nat → Int32) → (Nat → Int32) → (Nat → Int32) → (Nat → Int32) → (Nat → Int32) → (Nat → Int32) → (Nat → Int32) → (Nat → Int32) → (Nat → Int32) → (Nat → Int32) → (Nat → Int32) → (Nat → Int32) → Prop} {v A : Nat → sr_F} {a1 a3 a4 a5 a6 a7 a8 a9 a10 a11 a12 a14 a15 : Nat → Int32} {f : Nat} (hf : 1 ≤ f) (hf2 : f < 63) (hJ : ∀ g : Nat → sr_F, (∀ j, j < 63 → g j = if f ≤ j then (A j - A (j - 1)) * v f else A j) → J (nI (f + 1)) a1 (sr_E v) a3 a4 a5 a6 a7 a8 a9 a10 a11 a12 (sr_E g) a14 a15) : ∃ n, wX_multiplyByPoints_53 post J (nI f) n 62 a1 (sr_E v) a3 a4 a5 a6 a7 a8 a9 a10 a11 a12 (sr_E A) a14 a15 := by
  have e : (62 : Int32) = nI (f - 1 + (63 - f)) := by
    rw [show f - 1 + (63 - f) = 62 by omega]
    rfl
  refine Exists.intro (63 - f + 1) ?_
  rw [e]
  exact pk_loopD (fun n i g => wX_multiplyByPoints_53 post J (nI f) n (nI (f - 1 + i)) a1 (sr_E v) a3 a4 a5 a6 a7 a8 a9 a10 a11 a12 (sr_E g) a14 a15) (fun i g => f - 1 + i < 63 ∧ (∀ j, j ≤ f - 1 + i → g j = A j) ∧ (∀ j, f - 1 + i < j → j < 63 → g j = (A j - A (j - 1)) * v f))
    (fun n g h => pk_lt (f - 1 + 0) f (fun _ => nm_r (nI_1 f) (hJ g (fun j hj => by
      by_cases c : f ≤ j
      · rw [if_pos c]
        exact h.2.2 j (by omega) hj
      · rw [if_neg c]
        exact h.2.1 j (by omega)))) (fun z => absurd z (by omega)))
    (fun n i g h hw => pk_lt (f - 1 + (i + 1)) f (fun z => absurd z (by omega)) (fun _ => ⟨pk_in (f - 1 + (i + 1)) 64 (by omega), pk_in (f - 1 + i) 64 (by omega) (nI_pred (f - 1 + i)), by
      rw [nI_clamp (n := (f - 1 + (i + 1))) (by omega), show nI (f - 1 + (i + 1)) - 1 = nI (f - 1 + i) from nI_pred (f - 1 + i), nI_clamp (n := (f - 1 + i)) (by omega)]
      refine sr_minus (x := g (f - 1 + (i + 1))) (y := g (f - 1 + i)) ⟨pk_in f 64 (by omega), sr_ne, pk_in (f - 1 + (i + 1)) 64 (by omega), nm_r (sr_up (k := f - 1 + (i + 1)) (x := (g (f - 1 + (i + 1)) - g (f - 1 + i)) * v f) rfl (by rw [nI_clamp (n := f) (by omega)]; exact sr_mu _ (v f))) (nm_r (pk_m1 (f - 1 + i)) (hw _ ⟨by omega, fun j hj => ?_, fun j h1 h2 => ?_⟩))⟩
      · rw [sr_un (by omega)]
        exact h.2.1 j (by omega)
      · by_cases e : j = f - 1 + (i + 1)
        · rw [sr_ut e, h.2.1 _ (Nat.le_refl _), h.2.1 (f - 1 + i) (by omega), e, show f - 1 + (i + 1) - 1 = f - 1 + i by omega]
        · rw [sr_un e]
          exact h.2.2 j (by omega) h2⟩)) (63 - f) A ⟨by omega, fun _ _ => rfl, fun j h1 h2 => absurd h1 (by omega)⟩
theorem sr_po43 {post : St2 → Prop} {r v A B d : Nat → sr_F} {a3 a4 a5 a6 a7 a8 a9 a10 a11 a12 a15 : Nat → Int32} (hv : ∀ k, 1 ≤ k → k < 63 → sr_n k * v k = 1) (hA : ∀ x, x < 63 → A x = sr_ds d x 0) (hp : ∀ g g13 g14 : Nat → sr_F, sr_W r g (sr_rb d 63) 32 → post (sr_E g, sr_E v, a3, a4, a5, a6, a7, a8, a9, a10, a11, a12, sr_E g13, sr_E g14, a15)) : ∃ n, wX_multiplyByPoints_43 post n 1 (sr_E r) (sr_E v) a3 a4 a5 a6 a7 a8 a9 a10 a11 a12 (sr_E A) (sr_E B) a15 :=
  pk_loop (fun n f g => wX_multiplyByPoints_43 post n (nI f) (sr_E r) (sr_E v) a3 a4 a5 a6 a7 a8 a9 a10 a11 a12 (sr_E g) (sr_E B) a15) (fun f g => 1 ≤ f ∧ ∀ x, x < 63 → g x = sr_ds d (x - (f - 1)) (min x (f - 1))) 63 1 A (by omega) ⟨by omega, fun x hx => by
      rw [hA x hx, show x - (1 - 1) = x by omega, show min x (1 - 1) = 0 by omega]⟩
    (fun n g h => pk_le 63 63 (fun _ => sr_po110 (d := d) (fun x hx => by
      rw [h.2 x hx, show x - (63 - 1) = 0 by omega, show min x (63 - 1) = x by omega]
      exact if_pos hx) (fun g1 g14 h1 => hp g1 g g14 h1)) (fun z => absurd z (by omega)))
    (fun n f g hf h hw => pk_le 63 f (fun z => absurd z (by omega)) (fun _ => sr_po53 h.1 hf (fun g' h' => hw g' ⟨by omega, fun x hx => by
      rw [h' x hx]
      by_cases c : f ≤ x
      · rw [if_pos c, h.2 x hx, h.2 (x - 1) (by omega), show x - (f - 1) = (x - f) + 1 by omega, show min x (f - 1) = f - 1 by omega, show x - 1 - (f - 1) = x - f by omega, show min (x - 1) (f - 1) = f - 1 by omega, show x - (f + 1 - 1) = x - f by omega, show min x (f + 1 - 1) = (f - 1) + 1 by omega]
        exact sr_ds1 d (x - f) (f - 1) (v f) (by rw [show f - 1 + 1 = f by omega]; exact hv f h.1 hf)
      · rw [if_neg c, h.2 x hx, show x - (f - 1) = x - (f + 1 - 1) by omega, show min x (f - 1) = min x (f + 1 - 1) by omega]⟩)))
theorem sr_points {post : St2 → Prop} {r v A B : Nat → sr_F} {a3 a4 a5 a6 a7 a8 a9 a10 a11 a12 a15 : Nat → Int32} {a b : Nat} (ha : a < 12) (hb : b < 12) (hv : ∀ k, 1 ≤ k → k < 63 → sr_n k * v k = 1) (hp : ∀ g g13 g14 : Nat → sr_F, sr_R r g a b → post (sr_E g, sr_E v, a3, a4, a5, a6, a7, a8, a9, a10, a11, a12, sr_E g13, sr_E g14, a15)) : wpX_multiplyByPoints post (sr_E r, sr_E v, a3, a4, a5, a6, a7, a8, a9, a10, a11, a12, sr_E A, sr_E B, a15) (nI a) (nI b) := by
  obtain ⟨d, hd⟩ := sr_rbx 63 (by omega) (sr_c 32 (fun i => r (a * 32 + i)) (fun i => r (b * 32 + i))) (fun i hi => sr_cz _ _ (by omega))
  exact pk_loop (fun n i g => wX_multiplyByPoints_2 post (nI a) (nI b) n (nI i) (sr_E r) (sr_E v) a3 a4 a5 a6 a7 a8 a9 a10 a11 a12 (sr_E g) (sr_E B) a15) (fun i g => ∀ j, j < i → g j = sr_ds d j 0) 63 0 A (by omega) (fun j h => absurd h (by omega))
    (fun n g h => pk_le 63 63 (fun _ => sr_po43 hv h (fun g1 g13 g14 h1 => hp g1 g13 g14 (sr_WR h1 (fun i _ => by rw [hd])))) (fun z => absurd z (by omega)))
    (fun n i g hi h hw => pk_le 63 i (fun z => absurd z (by omega)) (fun _ => sr_valueAt ha (by omega) (sr_valueAt hb (by omega) ⟨sr_ne, pk_in i 64 (by omega), nm_r (sr_up (k := i) (pk_cl i) (sr_mu _ _)) (nm_r (nI_1 i) (hw _ (sr_fl (f := fun j => sr_ds d j 0) rfl h (by rw [sr_evm, sr_dsv hd]))))⟩)))
end
section
theorem sr_ra {C : Nat → sr_F} {v : Int32} {k : Nat} (hv : v = nI k) (hk : k < 2 ^ 31) : sr_E C v.toNatClampNeg = sr_e (C k) := by
  rw [hv, nI_clamp hk]
  rfl
theorem sr_jx (c b h i : Nat) : nI c * nI b * nI h + nI i = nI (c * (b * h) + i) := by
  rw [pk_mul, pk_mul, nI_add, Nat.mul_assoc]
theorem sr_jy (c d b h i : Nat) : (nI c * nI b + nI d) * nI h + nI i = nI (c * (b * h) + d * h + i) := by
  rw [pk_mul, nI_add, pk_mul, nI_add, Nat.add_mul, Nat.mul_assoc]
theorem sr_spreadAt {post : St2 → Prop} {x : Nat → sr_F} {a1 a2 a3 a4 a6 a7 a8 a9 a10 a11 a12 a13 a14 a15 : Nat → Int32} {p h : Nat} {lo hi : sr_F} (hb : p + 2 * h < 243) (hp : post (a1, a2, a3, a4, sr_E (sr_u (sr_u (sr_u x p lo) (p + h) hi) (p + 2 * h) (lo + hi)), a6, a7, a8, a9, a10, a11, a12, a13, a14, a15)) : wpX_spreadAt post (a1, a2, a3, a4, sr_E x, a6, a7, a8, a9, a10, a11, a12, a13, a14, a15) (nI p) (nI h) (sr_e lo) (sr_e hi) := by
  have e1 : nI p + nI h = nI (p + h) := nI_add p h
  have e2 : nI p + 2 * nI h = nI (p + 2 * h) := by
    rw [show (2 : Int32) = nI 2 from rfl, pk_mul, nI_add]
  exact And.intro (pk_in p 243 (by omega)) (nm_r (sr_up (k := p) (pk_cl p) rfl) ⟨pk_in (p + h) 243 (by omega) e1, nm_r (sr_up (k := p + h) (pk_cl (p + h) e1) rfl) (sr_plus ⟨pk_in (p + 2 * h) 243 hb e2, nm_r (sr_up (k := p + 2 * h) (pk_cl (p + 2 * h) e2) rfl) hp⟩)⟩)
/-- b blocks, and i numbers of the next, are spread -/
def sr_Sp (C g : Nat → sr_F) (h b i : Nat) : Prop := ∀ b' i', i' < h → (b' < b ∨ (b' = b ∧ i' < i)) →
  g (3 * (b' * h) + i') = C (2 * (b' * h) + i') ∧ g (3 * (b' * h) + i' + h) = C (2 * (b' * h) + h + i') ∧ g (3 * (b' * h) + i' + 2 * h) = C (2 * (b' * h) + i') + C (2 * (b' * h) + h + i')
theorem sr_Spe {C g : Nat → sr_F} {h b : Nat} (hs : sr_Sp C g h b h) : sr_Sp C g h (b + 1) 0 := fun b' i' hi hb => hs b' i' hi (by omega)
theorem sr_lem {b b' h : Nat} (hb : b' < b) : b' * h + h ≤ b * h := by
  have t : (b' + 1) * h ≤ b * h := Nat.mul_le_mul_right h hb
  rw [Nat.succ_mul] at t
  exact t
theorem sr_Sps {C g : Nat → sr_F} {h b i : Nat} (hi : i < h) (hs : sr_Sp C g h b i) : sr_Sp C (sr_u (sr_u (sr_u g (3 * (b * h) + i) (C (2 * (b * h) + i))) (3 * (b * h) + i + h) (C (2 * (b * h) + h + i))) (3 * (b * h) + i + 2 * h) (C (2 * (b * h) + i) + C (2 * (b * h) + h + i))) h b (i + 1) := by
  intro b' i' hi' hb'
  by_cases e : b' = b ∧ i' = i
  · obtain ⟨e1, e2⟩ := e
    subst e1
    subst e2
    refine ⟨?_, ?_, ?_⟩
    · rw [sr_un (by omega), sr_un (by omega), sr_us]
    · rw [sr_un (by omega), sr_us]
    · rw [sr_us]
  · have t := hs b' i' hi' (by omega)
    have q : b' * h + h ≤ b * h ∨ (b' * h = b * h ∧ i' < i) := by
      rcases hb' with c | c
      · exact Or.inl (sr_lem c)
      · refine Or.inr ⟨by rw [c.1], by omega⟩
    refine ⟨?_, ?_, ?_⟩
    · rw [sr_un (by omega), sr_un (by omega), sr_un (by omega)]
      exact t.1
    · rw [sr_un (by omega), sr_un (by omega), sr_un (by omega)]
      exact t.2.1
    · rw [sr_un (by omega), sr_un (by omega), sr_un (by omega)]
      exact t.2.2
theorem sr_sp48 {post : St2 → Prop} {J5 : Int32 → Int32 → (Nat → Int32) → (Nat → Int32) → (Nat → Int32) → (Nat → Int32) → (Nat → Int32) → (Nat → Int32) → (Nat → Int32) → (Nat → Int32) → (Nat → Int32) → (Nat → Int32) → (Nat → Int32) → (Nat → Int32) → (Nat → Int32) → (Nat → Int32) → (Nat → Int32) → Prop} {J40 : Int32 → (Nat → Int32) → (Nat → Int32) → (Nat → Int32) → (Nat → Int32) → (Nat → Int32) → (Nat → Int32) → (Nat → Int32) → (Nat → Int32) → (Nat → Int32) → (Nat → Int32) → (Nat → Int32) → (Nat → Int32) → (Nat → Int32) → (Nat → Int32) → (Nat → Int32) → Prop} {C x : Nat → sr_F} {a1 a2 a3 a4 a6 a8 a9 a10 a11 a12 a13 a14 a15 : Nat → Int32} {B h b : Nat} (hB : B * h ≤ 81) (hh : h ≤ 16) (hb : b < B) (h0 : sr_Sp C x h b 0) (hJ : ∀ g : Nat → sr_F, sr_Sp C g h (b + 1) 0 → J40 (nI (b + 1)) a1 a2 a3 a4 (sr_E g) a6 (sr_E C) a8 a9 a10 a11 a12 a13 a14 a15) (hBl : B ≤ 81) : ∃ n, wX_spread_48 post J5 J40 (nI B) (nI h) (nI b) n 0 a1 a2 a3 a4 (sr_E x) a6 (sr_E C) a8 a9 a10 a11 a12 a13 a14 a15 := by
  have q := sr_lem (h := h) hb
  refine pk_loop (fun n i g => wX_spread_48 post J5 J40 (nI B) (nI h) (nI b) n (nI i) a1 a2 a3 a4 (sr_E g) a6 (sr_E C) a8 a9 a10 a11 a12 a13 a14 a15) (fun i g => sr_Sp C g h b i) h 0 x (by omega) h0
    (fun n g hg => pk_le h h (fun _ => nm_r (nI_1 b) (hJ g (sr_Spe hg))) (fun z => absurd z (by omega)))
    (fun n i g hi hg hw => pk_le h i (fun z => absurd z (by omega)) (fun _ => ⟨pk_in (2 * (b * h) + i) 243 (by omega) (sr_jx 2 b h i), nm_r (e' := sr_e (C (2 * (b * h) + i))) (sr_ra (sr_jx 2 b h i) (by omega)) ⟨pk_in (2 * (b * h) + h + i) 243 (by omega) ?_, nm_r (e' := sr_e (C (2 * (b * h) + h + i))) ?_ ?_⟩⟩))
  · exact (sr_jy 2 1 b h i).trans (by rw [Nat.one_mul])
  · exact sr_ra ((sr_jy 2 1 b h i).trans (by rw [Nat.one_mul])) (by omega)
  · rw [show 3 * nI b * nI h + nI i = nI (3 * (b * h) + i) from sr_jx 3 b h i]
    exact sr_spreadAt (by omega) (nm_r (nI_1 i) (hw _ (sr_Sps hi hg)))
theorem sr_sp40 {post : St2 → Prop} {J5 : Int32 → Int32 → (Nat → Int32) → (Nat → Int32) → (Nat → Int32) → (Nat → Int32) → (Nat → Int32) → (Nat → Int32) → (Nat → Int32) → (Nat → Int32) → (Nat → Int32) → (Nat → Int32) → (Nat → Int32) → (Nat → Int32) → (Nat → Int32) → (Nat → Int32) → (Nat → Int32) → Prop} {C x : Nat → sr_F} {a1 a2 a3 a4 a6 a8 a9 a10 a11 a12 a13 a14 a15 : Nat → Int32} {B h : Nat} (hB : B * h ≤ 81) (hh : h ≤ 16) (hBl : B ≤ 81) (hJ : ∀ g : Nat → sr_F, sr_Sp C g h B 0 → J5 (nI (B * 3)) (nI (h / 2)) a1 a2 a3 a4 (sr_E g) a6 (sr_E C) a8 a9 a10 a11 a12 a13 a14 a15) : ∃ n, wX_spread_40 post J5 (nI B) (nI h) n 0 a1 a2 a3 a4 (sr_E x) a6 (sr_E C) a8 a9 a10 a11 a12 a13 a14 a15 :=
  pk_loop (fun n b g => wX_spread_40 post J5 (nI B) (nI h) n (nI b) a1 a2 a3 a4 (sr_E g) a6 (sr_E C) a8 a9 a10 a11 a12 a13 a14 a15) (fun b g => sr_Sp C g h b 0) B 0 x (by omega) (fun b' i' _ z => absurd z (by omega))
    (fun n g hg => pk_le B B (fun _ => nm_r (pk_mul B 3) ⟨by decide, nm_r (pk_div (a := h) (d := 2) (by omega) (by omega) (by omega)) (hJ g hg)⟩) (fun z => absurd z (by omega)))
    (fun n b g hb hg hw => pk_le B b (fun z => absurd z (by omega)) (fun _ => sr_sp48 hB hh hb hg hw hBl))
theorem sr_sp11 {post : St2 → Prop} {J5 : Int32 → Int32 → (Nat → Int32) → (Nat → Int32) → (Nat → Int32) → (Nat → Int32) → (Nat → Int32) → (Nat → Int32) → (Nat → Int32) → (Nat → Int32) → (Nat → Int32) → (Nat → Int32) → (Nat → Int32) → (Nat → Int32) → (Nat → Int32) → (Nat → Int32) → (Nat → Int32) → Prop} {x y : Nat → sr_F} {a1 a2 a3 a4 a6 a8 a9 a10 a11 a12 a13 a14 a15 : Nat → Int32} {B h : Nat} (hB : B * h ≤ 81) (hh : h ≤ 16) (hBl : B ≤ 81) (hJ : ∀ g C : Nat → sr_F, (∀ j, j < 2 * (B * h) → C j = x j) → sr_Sp C g h B 0 → J5 (nI (B * 3)) (nI (h / 2)) a1 a2 a3 a4 (sr_E g) a6 (sr_E C) a8 a9 a10 a11 a12 a13 a14 a15) : ∃ n, wX_spread_11 post J5 (nI B) (nI h) n 0 a1 a2 a3 a4 (sr_E x) a6 (sr_E y) a8 a9 a10 a11 a12 a13 a14 a15 := by
  have e : nI B * 2 * nI h = nI (2 * (B * h)) := by
    rw [show (2 : Int32) = nI 2 from rfl, pk_mul, pk_mul, Nat.mul_comm B 2, Nat.mul_assoc]
  exact pk_loop (fun n i g => wX_spread_11 post J5 (nI B) (nI h) n (nI i) a1 a2 a3 a4 (sr_E x) a6 (sr_E g) a8 a9 a10 a11 a12 a13 a14 a15) (fun i g => ∀ j, j < i → g j = x j) (2 * (B * h)) 0 y (by omega) (fun j z => absurd z (by omega))
    (fun n g hg => pk_le (2 * (B * h)) (2 * (B * h)) (fun _ => sr_sp40 hB hh hBl (fun g' h' => hJ g' g hg h')) (fun z => absurd z (by omega)) e)
    (fun n i g hi hg hw => pk_le (2 * (B * h)) i (fun z => absurd z (by omega)) (fun _ => ⟨pk_in i 243 (by omega), pk_in i 243 (by omega), nm_r (sr_up (k := i) (x := x i) (pk_cl i) (by rw [pk_cl i]; rfl)) (nm_r (nI_1 i) (hw _ (sr_fl rfl hg rfl)))⟩) e)
/-- the blocks after t steps stand there -/
def sr_VL (a : Nat → sr_F) (t : Nat) (g : Nat → sr_F) : Prop := ∀ b i, b < 3 ^ t → i < 2 ^ (5 - t) → g (b * 2 ^ (5 - t) + i) = sr_V a t b i
theorem sr_vstep {a x C g : Nat → sr_F} {t h : Nat} (ht : t < 5) (hh : h = 2 ^ (4 - t)) (hx : sr_VL a t x) (hC : ∀ j, j < 2 * (3 ^ t * h) → C j = x j) (hg : sr_Sp C g h (3 ^ t) 0) : sr_VL a (t + 1) g := by
  intro b i hb hi
  have e1 : (2 : Nat) ^ (5 - t) = h + h := by
    rw [hh, show 5 - t = (4 - t) + 1 by omega, Nat.pow_succ]
    omega
  have e2 : (2 : Nat) ^ (5 - (t + 1)) = h := by rw [hh, show 5 - (t + 1) = 4 - t by omega]
  have e3 : (3 : Nat) ^ (t + 1) = 3 * 3 ^ t := by rw [Nat.pow_succ, Nat.mul_comm]
  rw [e3] at hb
  rw [e2] at hi ⊢
  unfold sr_VL at hx
  rw [e1] at hx
  have hb3 : b / 3 < 3 ^ t := by omega
  have T := hg (b / 3) i hi (Or.inl hb3)
  have q := sr_lem (h := h) hb3
  have c1 : C (2 * (b / 3 * h) + i) = sr_V a t (b / 3) i := by
    rw [hC _ (by omega), ← hx (b / 3) i hb3 (by omega)]
    congr 1
    grind
  have c2 : C (2 * (b / 3 * h) + h + i) = sr_V a t (b / 3) (h + i) := by
    rw [hC _ (by omega), ← hx (b / 3) (h + i) hb3 (by omega)]
    congr 1
    grind
  rw [c1, c2] at T
  show g (b * h + i) = if b % 3 = 0 then sr_V a t (b / 3) i else if b % 3 = 1 then sr_V a t (b / 3) (2 ^ (4 - t) + i) else sr_V a t (b / 3) i + sr_V a t (b / 3) (2 ^ (4 - t) + i)
  rw [← hh]
  have eb : b = 3 * (b / 3) + b % 3 := by omega
  have m3 : b % 3 < 3 := Nat.mod_lt _ (by omega)
  generalize b / 3 = k at *
  generalize b % 3 = c at *
  subst eb
  have ex : (3 * k + c) * h = 3 * (k * h) + c * h := by rw [Nat.add_mul, Nat.mul_assoc]
  rw [ex]
  by_cases z0 : c = 0
  · rw [if_pos z0, z0, Nat.zero_mul, Nat.add_zero]
    exact T.1
  · rw [if_neg z0]
    by_cases z1 : c = 1
    · rw [if_pos z1, z1, Nat.one_mul, show 3 * (k * h) + h + i = 3 * (k * h) + i + h by omega]
      exact T.2.1
    · rw [if_neg z1, show c = 2 by omega, show 3 * (k * h) + 2 * h + i = 3 * (k * h) + i + 2 * h by omega]
      exact T.2.2
theorem sr_b81 : ∀ t, t < 5 → 3 ^ t * (16 / 2 ^ t) ≤ 81 ∧ 16 / 2 ^ t ≤ 16 ∧ 3 ^ t ≤ 81 ∧ 16 / 2 ^ t = 2 ^ (4 - t) ∧ 0 < 16 / 2 ^ t := by decide
theorem sr_spread {post : St2 → Prop} {a x y : Nat → sr_F} {a1 a2 a3 a4 a6 a8 a9 a10 a11 a12 a13 a14 a15 : Nat → Int32} (ha : ∀ i, i < 32 → x i = a i) (hp : ∀ g C : Nat → sr_F, (∀ b, b < 243 → g b = sr_V a 5 b 0) → post (a1, a2, a3, a4, sr_E g, a6, sr_E C, a8, a9, a10, a11, a12, a13, a14, a15)) : wpX_spread post (a1, a2, a3, a4, sr_E x, a6, sr_E y, a8, a9, a10, a11, a12, a13, a14, a15) := by
  refine Exists.elim (pk_loop (σ := (Nat → sr_F) × (Nat → sr_F)) (fun n t s => wX_spread_5 post n (nI (3 ^ t)) (nI (16 / 2 ^ t)) a1 a2 a3 a4 (sr_E s.1) a6 (sr_E s.2) a8 a9 a10 a11 a12 a13 a14 a15) (fun t s => sr_VL a t s.1) 5 0 (x, y) (by omega) (fun b i hb hi => by
      have b0 : b = 0 := by omega
      subst b0
      show x (0 * 32 + i) = a i
      rw [show 0 * 32 + i = i by omega]
      exact ha i hi)
    (fun n s h => pk_le 0 0 (fun _ => hp s.1 s.2 (fun b hb => by
      have t := h b 0 hb (by decide)
      rw [show b * 2 ^ (5 - 5) + 0 = b by omega] at t
      exact t)) (fun z => absurd z (by omega)))
    (fun n t s ht h hw => by
      have q := sr_b81 t ht
      refine pk_le (16 / 2 ^ t) 0 (fun z => absurd z (by omega)) (fun _ => sr_sp11 q.1 q.2.1 q.2.2.1 (fun g C hC hg => ?_)) rfl rfl (by omega) (by omega)
      have w := hw (g, C) (sr_vstep ht q.2.2.2.1 h hC hg)
      have w' : wX_spread_5 post n (nI (3 ^ (t + 1))) (nI (16 / 2 ^ (t + 1))) a1 a2 a3 a4 (sr_E g) a6 (sr_E C) a8 a9 a10 a11 a12 a13 a14 a15 := w
      rw [Nat.pow_succ 3 t, Nat.pow_succ 2 t, ← Nat.div_div_eq_div_mul] at w'
      exact w')) (fun n hn => Exists.intro n ?_)
  have hn' : wX_spread_5 post n (nI (3 ^ 0)) (nI (16 / 2 ^ 0)) a1 a2 a3 a4 (sr_E x) a6 (sr_E y) a8 a9 a10 a11 a12 a13 a14 a15 := hn
  rw [show nI (3 ^ 0) = 1 from rfl, show nI (16 / 2 ^ 0) = 16 from rfl] at hn'
  exact hn'
end
section
theorem sr_plusv {post : Int32 → Prop} {u v : Int32} {x y : sr_F} (hu : u = sr_e x) (hv : v = sr_e y) (h : post (sr_e (x + y))) : wpX_plus post () u v := by
  subst hu
  subst hv
  exact sr_plus h
theorem sr_minusv {post : Int32 → Prop} {u v : Int32} {x y : sr_F} (hu : u = sr_e x) (hv : v = sr_e y) (h : post (sr_e (x - y))) : wpX_minus post () u v := by
  subst hu
  subst hv
  exact sr_minus h
theorem sr_k2 (p h : Nat) : nI p + 2 * nI h = nI (p + 2 * h) := by
  rw [show (2 : Int32) = nI 2 from rfl, pk_mul, nI_add]
theorem sr_gatherAt {post : St2 → Prop} {G K : Nat → sr_F} {a1 a2 a3 a4 a5 a6 a7 a10 a11 a12 a13 a14 a15 : Nat → Int32} {b h i : Nat} (h1 : 6 * (b * h) + 4 * h + i < 486)
    (hp : post (a1, a2, a3, a4, a5, a6, a7, sr_E G, sr_E (sr_u (sr_u (sr_u K (4 * (b * h) + i) (K (4 * (b * h) + i) + G (6 * (b * h) + i))) (4 * (b * h) + i + h) (sr_u K (4 * (b * h) + i) (K (4 * (b * h) + i) + G (6 * (b * h) + i)) (4 * (b * h) + i + h) + (G (6 * (b * h) + 4 * h + i) - G (6 * (b * h) + i) - G (6 * (b * h) + 2 * h + i)))) (4 * (b * h) + i + 2 * h) (sr_u (sr_u K (4 * (b * h) + i) (K (4 * (b * h) + i) + G (6 * (b * h) + i))) (4 * (b * h) + i + h) (sr_u K (4 * (b * h) + i) (K (4 * (b * h) + i) + G (6 * (b * h) + i)) (4 * (b * h) + i + h) + (G (6 * (b * h) + 4 * h + i) - G (6 * (b * h) + i) - G (6 * (b * h) + 2 * h + i))) (4 * (b * h) + i + 2 * h) + G (6 * (b * h) + 2 * h + i))), a10, a11, a12, a13, a14, a15)) :
    wpX_gatherAt post (a1, a2, a3, a4, a5, a6, a7, sr_E G, sr_E K, a10, a11, a12, a13, a14, a15) (nI b) (nI h) (nI i) := by
  refine And.intro (pk_in (6 * (b * h) + i) 486 (by omega) (sr_jx 6 b h i)) (nm_r (sr_ra (sr_jx 6 b h i) (by omega)) ⟨pk_in (6 * (b * h) + 2 * h + i) 486 (by omega) (sr_jy 6 2 b h i), nm_r (sr_ra (sr_jy 6 2 b h i) (by omega)) ⟨pk_in (6 * (b * h) + 4 * h + i) 486 (by omega) (sr_jy 6 4 b h i), nm_r (sr_ra (sr_jy 6 4 b h i) (by omega)) ?_⟩⟩)
  refine sr_minus (sr_minus (nm_r (sr_jx 4 b h i) ⟨pk_in (4 * (b * h) + i) 486 (by omega), ?_⟩))
  refine sr_plusv (sr_ra (k := 4 * (b * h) + i) rfl (by omega)) rfl ⟨pk_in (4 * (b * h) + i) 486 (by omega), nm_r (sr_up (k := 4 * (b * h) + i) (pk_cl (4 * (b * h) + i)) rfl) ⟨pk_in (4 * (b * h) + i + h) 486 (by omega) (nI_add _ _), ?_⟩⟩
  refine sr_plusv (sr_ra (k := 4 * (b * h) + i + h) (nI_add _ _) (by omega)) rfl ⟨pk_in (4 * (b * h) + i + h) 486 (by omega) (nI_add _ _), nm_r (sr_up (k := 4 * (b * h) + i + h) (pk_cl (4 * (b * h) + i + h) (nI_add _ _)) rfl) ⟨pk_in (4 * (b * h) + i + 2 * h) 486 (by omega) (sr_k2 _ _), ?_⟩⟩
  exact sr_plusv (sr_ra (k := 4 * (b * h) + i + 2 * h) (sr_k2 _ _) (by omega)) rfl ⟨pk_in (4 * (b * h) + i + 2 * h) 486 (by omega) (sr_k2 _ _), nm_r (sr_up (k := 4 * (b * h) + i + 2 * h) (pk_cl (4 * (b * h) + i + 2 * h) (sr_k2 _ _)) rfl) hp⟩
/-- i numbers of block b put together -/
def sr_Qt (G : Nat → sr_F) (h b i n : Nat) : sr_F := sr_pt h (fun m => G (6 * (b * h) + m)) (fun m => G (6 * (b * h) + 4 * h + m) - G (6 * (b * h) + m) - G (6 * (b * h) + 2 * h + m)) (fun m => G (6 * (b * h) + 2 * h + m)) i n
/-- all blocks below b, and i numbers of block b, are put together -/
def sr_Gt (G K : Nat → sr_F) (h B b i : Nat) : Prop := ∀ b' n, b' < B → n < 4 * h → K (4 * (b' * h) + n) = sr_Qt G h b' (if b' < b then h + h else if b' = b then i else 0) n
theorem sr_Gts {G K : Nat → sr_F} {h B b i : Nat} (h0 : 0 < h) (hi : i < 2 * h) (hG : sr_Gt G K h B b i) : sr_Gt G (sr_u (sr_u (sr_u K (4 * (b * h) + i) (K (4 * (b * h) + i) + G (6 * (b * h) + i))) (4 * (b * h) + i + h) (sr_u K (4 * (b * h) + i) (K (4 * (b * h) + i) + G (6 * (b * h) + i)) (4 * (b * h) + i + h) + (G (6 * (b * h) + 4 * h + i) - G (6 * (b * h) + i) - G (6 * (b * h) + 2 * h + i)))) (4 * (b * h) + i + 2 * h) (sr_u (sr_u K (4 * (b * h) + i) (K (4 * (b * h) + i) + G (6 * (b * h) + i))) (4 * (b * h) + i + h) (sr_u K (4 * (b * h) + i) (K (4 * (b * h) + i) + G (6 * (b * h) + i)) (4 * (b * h) + i + h) + (G (6 * (b * h) + 4 * h + i) - G (6 * (b * h) + i) - G (6 * (b * h) + 2 * h + i))) (4 * (b * h) + i + 2 * h) + G (6 * (b * h) + 2 * h + i))) h B b (i + 1) := by
  intro b' n hb' hn
  by_cases e : b' = b
  · subst e
    have t : ∀ n, n < 4 * h → K (4 * (b' * h) + n) = sr_Qt G h b' i n := by
      intro n hn
      have t := hG b' n hb' hn
      rw [if_neg (by omega), if_pos rfl] at t
      exact t
    rw [if_neg (by omega), if_pos rfl]
    unfold sr_Qt
    rw [sr_pts h0]
    by_cases c0 : n = i
    · subst c0
      rw [if_pos rfl, sr_un (by omega), sr_un (by omega), sr_us, t n hn]
      rfl
    · rw [if_neg c0]
      by_cases c1 : n = i + h
      · subst c1
        rw [if_pos rfl, sr_un (by omega), sr_ut (by omega), sr_un (by omega), show 4 * (b' * h) + i + h = 4 * (b' * h) + (i + h) by omega, t (i + h) hn]
        rfl
      · rw [if_neg c1]
        by_cases c2 : n = i + (h + h)
        · subst c2
          rw [if_pos rfl, sr_ut (by omega), sr_un (by omega), sr_un (by omega), show 4 * (b' * h) + i + 2 * h = 4 * (b' * h) + (i + (h + h)) by omega, t (i + (h + h)) hn]
          rfl
        · rw [if_neg c2, sr_un (by omega), sr_un (by omega), sr_un (by omega), t n hn]
          rfl
  · have q : b' * h + h ≤ b * h ∨ b * h + h ≤ b' * h := by
      rcases Nat.lt_or_ge b' b with c | c
      · exact Or.inl (sr_lem c)
      · exact Or.inr (sr_lem (by omega))
    have t := hG b' n hb' hn
    rw [if_neg e] at t
    rw [if_neg e, sr_un (by omega), sr_un (by omega), sr_un (by omega)]
    exact t
theorem sr_Gte {G K : Nat → sr_F} {h B b : Nat} (hG : sr_Gt G K h B b (2 * h)) : sr_Gt G K h B (b + 1) 0 := by
  intro b' n hb' hn
  rw [hG b' n hb' hn]
  by_cases c : b' < b
  · rw [if_pos c, if_pos (by omega)]
  · rw [if_neg c]
    by_cases c1 : b' = b
    · rw [if_pos c1, if_pos (by omega), show 2 * h = h + h by omega]
    · rw [if_neg c1, if_neg (by omega)]
      by_cases c2 : b' = b + 1
      · rw [if_pos c2]
      · rw [if_neg c2]
theorem sr_ga50 {post : St2 → Prop} {J6 : Int32 → Int32 → (Nat → Int32) → (Nat → Int32) → (Nat → Int32) → (Nat → Int32) → (Nat → Int32) → (Nat → Int32) → (Nat → Int32) → (Nat → Int32) → (Nat → Int32) → (Nat → Int32) → (Nat → Int32) → (Nat → Int32) → (Nat → Int32) → (Nat → Int32) → (Nat → Int32) → Prop} {J42 : Int32 → (Nat → Int32) → (Nat → Int32) → (Nat → Int32) → (Nat → Int32) → (Nat → Int32) → (Nat → Int32) → (Nat → Int32) → (Nat → Int32) → (Nat → Int32) → (Nat → Int32) → (Nat → Int32) → (Nat → Int32) → (Nat → Int32) → (Nat → Int32) → (Nat → Int32) → Prop} {G K : Nat → sr_F} {a1 a2 a3 a4 a5 a6 a7 a10 a11 a12 a13 a14 a15 : Nat → Int32} {B h b : Nat} (hB : B * h ≤ 81) (hh : h ≤ 16) (h0 : 0 < h) (hb : b < B) (hG : sr_Gt G K h B b 0) (hJ : ∀ g : Nat → sr_F, sr_Gt G g h B (b + 1) 0 → J42 (nI (b + 1)) a1 a2 a3 a4 a5 a6 a7 (sr_E G) (sr_E g) a10 a11 a12 a13 a14 a15) : ∃ n, wX_gather_50 post J6 J42 (nI B) (nI h) (nI b) n 0 a1 a2 a3 a4 a5 a6 a7 (sr_E G) (sr_E K) a10 a11 a12 a13 a14 a15 := by
  have q := sr_lem (h := h) hb
  exact pk_loop (fun n i g => wX_gather_50 post J6 J42 (nI B) (nI h) (nI b) n (nI i) a1 a2 a3 a4 a5 a6 a7 (sr_E G) (sr_E g) a10 a11 a12 a13 a14 a15) (fun i g => sr_Gt G g h B b i) (2 * h) 0 K (by omega) hG
    (fun n g hg => pk_le (2 * h) (2 * h) (fun _ => nm_r (nI_1 b) (hJ g (sr_Gte hg))) (fun z => absurd z (by omega)) (pk_mul 2 h))
    (fun n i g hi hg hw => pk_le (2 * h) i (fun z => absurd z (by omega)) (fun _ => sr_gatherAt (by omega) (nm_r (nI_1 i) (hw _ (sr_Gts h0 hi hg)))) (pk_mul 2 h))
theorem sr_x44 (B h : Nat) : nI B * 4 * nI h = nI (4 * (B * h)) := by
  rw [show (4 : Int32) = nI 4 from rfl, pk_mul, pk_mul, Nat.mul_comm B 4, Nat.mul_assoc]
theorem sr_ga80 {post : St2 → Prop} {J6 : Int32 → Int32 → (Nat → Int32) → (Nat → Int32) → (Nat → Int32) → (Nat → Int32) → (Nat → Int32) → (Nat → Int32) → (Nat → Int32) → (Nat → Int32) → (Nat → Int32) → (Nat → Int32) → (Nat → Int32) → (Nat → Int32) → (Nat → Int32) → (Nat → Int32) → (Nat → Int32) → Prop} {G K : Nat → sr_F} {a1 a2 a3 a4 a5 a6 a7 a10 a11 a12 a13 a14 a15 : Nat → Int32} {B h : Nat} (hB : B * h ≤ 81) (hJ : ∀ g : Nat → sr_F, (∀ j, j < 4 * (B * h) → g j = K j) → J6 (nI B) (nI (h * 2)) a1 a2 a3 a4 a5 a6 a7 (sr_E g) (sr_E K) a10 a11 a12 a13 a14 a15) : ∃ n, wX_gather_80 post J6 (nI B) (nI h) n 0 a1 a2 a3 a4 a5 a6 a7 (sr_E G) (sr_E K) a10 a11 a12 a13 a14 a15 :=
  pk_loop (fun n i g => wX_gather_80 post J6 (nI B) (nI h) n (nI i) a1 a2 a3 a4 a5 a6 a7 (sr_E g) (sr_E K) a10 a11 a12 a13 a14 a15) (fun i g => ∀ j, j < i → g j = K j) (4 * (B * h)) 0 G (by omega) (fun j z => absurd z (by omega))
    (fun n g hg => pk_le (4 * (B * h)) (4 * (B * h)) (fun _ => nm_r (pk_mul h 2) (hJ g hg)) (fun z => absurd z (by omega)) (sr_x44 B h))
    (fun n i g hi hg hw => pk_le (4 * (B * h)) i (fun z => absurd z (by omega)) (fun _ => ⟨pk_in i 486 (by omega), pk_in i 486 (by omega), nm_r (sr_up (k := i) (x := K i) (pk_cl i) (sr_ra rfl (by omega))) (nm_r (nI_1 i) (hw _ (sr_fl rfl hg rfl)))⟩) (sr_x44 B h))
theorem sr_ga42 {post : St2 → Prop} {J6 : Int32 → Int32 → (Nat → Int32) → (Nat → Int32) → (Nat → Int32) → (Nat → Int32) → (Nat → Int32) → (Nat → Int32) → (Nat → Int32) → (Nat → Int32) → (Nat → Int32) → (Nat → Int32) → (Nat → Int32) → (Nat → Int32) → (Nat → Int32) → (Nat → Int32) → (Nat → Int32) → Prop} {G K : Nat → sr_F} {a1 a2 a3 a4 a5 a6 a7 a10 a11 a12 a13 a14 a15 : Nat → Int32} {B h : Nat} (hB : B * h ≤ 81) (hBl : B ≤ 81) (hh : h ≤ 16) (h0 : 0 < h) (hG : sr_Gt G K h B 0 0) (hJ : ∀ g k : Nat → sr_F, sr_Gt G k h B B 0 → (∀ j, j < 4 * (B * h) → g j = k j) → J6 (nI B) (nI (h * 2)) a1 a2 a3 a4 a5 a6 a7 (sr_E g) (sr_E k) a10 a11 a12 a13 a14 a15) : ∃ n, wX_gather_42 post J6 (nI B) (nI h) n 0 a1 a2 a3 a4 a5 a6 a7 (sr_E G) (sr_E K) a10 a11 a12 a13 a14 a15 :=
  pk_loop (fun n b g => wX_gather_42 post J6 (nI B) (nI h) n (nI b) a1 a2 a3 a4 a5 a6 a7 (sr_E G) (sr_E g) a10 a11 a12 a13 a14 a15) (fun b g => sr_Gt G g h B b 0) B 0 K (by omega) hG
    (fun n g hg => pk_le B B (fun _ => sr_ga80 hB (fun g' h' => hJ g' g hg h')) (fun z => absurd z (by omega)))
    (fun n b g hb hg hw => pk_le B b (fun z => absurd z (by omega)) (fun _ => sr_ga50 hB hh h0 hb hg hw))
theorem sr_Gt0 {G K : Nat → sr_F} {h B : Nat} (hK : ∀ j, j < 4 * (B * h) → K j = 0) : sr_Gt G K h B 0 0 := by
  intro b' n hb' hn
  have q := sr_lem (h := h) hb'
  rw [if_neg (by omega), hK _ (by omega)]
  by_cases c : b' = 0
  · rw [if_pos c]
    exact (sr_pt0 _ _ _ _ _).symm
  · rw [if_neg c]
    exact (sr_pt0 _ _ _ _ _).symm
theorem sr_ga18 {post : St2 → Prop} {J6 : Int32 → Int32 → (Nat → Int32) → (Nat → Int32) → (Nat → Int32) → (Nat → Int32) → (Nat → Int32) → (Nat → Int32) → (Nat → Int32) → (Nat → Int32) → (Nat → Int32) → (Nat → Int32) → (Nat → Int32) → (Nat → Int32) → (Nat → Int32) → (Nat → Int32) → (Nat → Int32) → Prop} {G K : Nat → sr_F} {a1 a2 a3 a4 a5 a6 a7 a10 a11 a12 a13 a14 a15 : Nat → Int32} {B h : Nat} (hB : B * h ≤ 81) (hBl : B ≤ 81) (hh : h ≤ 16) (h0 : 0 < h) (hJ : ∀ g k : Nat → sr_F, sr_Gt G k h B B 0 → (∀ j, j < 4 * (B * h) → g j = k j) → J6 (nI B) (nI (h * 2)) a1 a2 a3 a4 a5 a6 a7 (sr_E g) (sr_E k) a10 a11 a12 a13 a14 a15) : ∃ n, wX_gather_18 post J6 (nI B) (nI h) n 0 a1 a2 a3 a4 a5 a6 a7 (sr_E G) (sr_E K) a10 a11 a12 a13 a14 a15 :=
  pk_loop (fun n i g => wX_gather_18 post J6 (nI B) (nI h) n (nI i) a1 a2 a3 a4 a5 a6 a7 (sr_E G) (sr_E g) a10 a11 a12 a13 a14 a15) (fun i g => ∀ j, j < i → g j = 0) (4 * (B * h)) 0 K (by omega) (fun j z => absurd z (by omega))
    (fun n g hg => pk_le (4 * (B * h)) (4 * (B * h)) (fun _ => sr_ga42 hB hBl hh h0 (sr_Gt0 hg) hJ) (fun z => absurd z (by omega)) (sr_x44 B h))
    (fun n i g hi hg hw => pk_le (4 * (B * h)) i (fun z => absurd z (by omega)) (fun _ => ⟨pk_in i 486 (by omega), nm_r (sr_up (k := i) (x := 0) (pk_cl i) rfl) (nm_r (nI_1 i) (hw _ (sr_fl (f := fun _ => 0) rfl hg rfl)))⟩) (sr_x44 B h))
theorem sr_b82 : ∀ k, k < 5 → 3 ^ (4 - k) * 2 ^ k ≤ 81 ∧ 3 ^ (4 - k) ≤ 81 ∧ 2 ^ k ≤ 16 ∧ 0 < 2 ^ k ∧ 3 ^ (5 - k) / 3 = 3 ^ (4 - k) ∧ 3 ^ (5 - k) ≤ 243 := by decide
theorem sr_gather {post : St2 → Prop} {a c x y : Nat → sr_F} {a1 a2 a3 a4 a5 a6 a7 a10 a11 a12 a13 a14 a15 : Nat → Int32} (hx : sr_GL a c 5 x) (hp : ∀ g k : Nat → sr_F, (∀ i, i < 32 → g i = sr_c 32 a c i) → post (a1, a2, a3, a4, a5, a6, a7, sr_E g, sr_E k, a10, a11, a12, a13, a14, a15)) : wpX_gather post (a1, a2, a3, a4, a5, a6, a7, sr_E x, sr_E y, a10, a11, a12, a13, a14, a15) := by
  refine Exists.elim (pk_loop (σ := (Nat → sr_F) × (Nat → sr_F)) (fun n k s => wX_gather_6 post n (nI (3 ^ (5 - k))) (nI (2 ^ k)) a1 a2 a3 a4 a5 a6 a7 (sr_E s.1) (sr_E s.2) a10 a11 a12 a13 a14 a15) (fun k s => sr_GL a c (5 - k) s.1) 5 0 (x, y) (by omega) hx
    (fun n s h => pk_le 32 (2 ^ 5) (fun _ => hp s.1 s.2 (fun i hi => by
      have t := h 0 i (by decide) (by show i < 2 * 32; omega)
      rw [show 0 * (2 * 2 ^ (5 - (5 - 5))) + i = i by omega] at t
      exact t)) (fun z => absurd z (by omega)))
    (fun n k s hk h hw => by
      have q := sr_b82 k hk
      refine pk_le 32 (2 ^ k) (fun z => absurd z (by omega)) (fun _ => ⟨by decide, nm_r (e' := nI (3 ^ (4 - k))) ?_ (sr_ga18 q.1 q.2.1 q.2.2.1 q.2.2.2.1 (fun g K hK hg => ?_))⟩) rfl rfl (by omega) (by omega)
      · refine (pk_div (a := 3 ^ (5 - k)) (d := 3) (by omega) (by omega) (by omega)).trans ?_
        rw [q.2.2.2.2.1]
      · have h' : sr_GL a c (4 - k + 1) s.1 := by
          rw [show 4 - k + 1 = 5 - k by omega]
          exact h
        have G := sr_gstep (g' := g) (t := 4 - k) (h := 2 ^ k) (by omega) (by rw [show 4 - (4 - k) = k by omega]) h' (fun b n hb hn => by
          have l := sr_lem (h := 2 ^ k) hb
          rw [hg _ (by omega), hK b n hb hn, if_pos hb]
          rfl)
        have w := hw (g, K) (by rw [show 5 - (k + 1) = 4 - k by omega]; exact G)
        have w' : wX_gather_6 post n (nI (3 ^ (5 - (k + 1)))) (nI (2 ^ (k + 1))) a1 a2 a3 a4 a5 a6 a7 (sr_E g) (sr_E K) a10 a11 a12 a13 a14 a15 := w
        rw [show 5 - (k + 1) = 4 - k by omega, Nat.pow_succ 2 k] at w'
        exact w')) (fun n hn => Exists.intro n ?_)
  have hn' : wX_gather_6 post n (nI (3 ^ (5 - 0))) (nI (2 ^ 0)) a1 a2 a3 a4 a5 a6 a7 (sr_E x) (sr_E y) a10 a11 a12 a13 a14 a15 := hn
  rw [show nI (3 ^ (5 - 0)) = 243 from rfl, show nI (2 ^ 0) = 1 from rfl] at hn'
  exact hn'
end
section
theorem sr_ha144 {post : St2 → Prop} {r G v : Nat → sr_F} {a2 a3 a4 a5 a6 a7 a9 a10 a11 a12 a13 a14 a15 : Nat → Int32} (hv : ∀ i, i < 32 → G i = v i) (hp : ∀ g : Nat → sr_F, sr_W r g v 32 → post (sr_E g, a2, a3, a4, a5, a6, a7, sr_E G, a9, a10, a11, a12, a13, a14, a15)) : ∃ n, wX_multiplyByHalves_144 post n 0 (sr_E r) a2 a3 a4 a5 a6 a7 (sr_E G) a9 a10 a11 a12 a13 a14 a15 :=
  pk_loop (fun n i g => wX_multiplyByHalves_144 post n (nI i) (sr_E g) a2 a3 a4 a5 a6 a7 (sr_E G) a9 a10 a11 a12 a13 a14 a15) (fun i g => sr_W r g v i) 32 0 r (by omega) (sr_W0 r v)
    (fun n g h => pk_le 32 32 (fun _ => hp g h) (fun z => absurd z (by omega)))
    (fun n i g hi h hw => pk_le 32 i (fun z => absurd z (by omega)) (fun _ => ⟨pk_in i 486 (by omega), by
      rw [nI_clamp (n := i) (by omega)]
      exact sr_write (a := 5) (x := G i) (by omega) (nm_r (nI_1 i) (hw _ (sr_Ws h (hv i hi))))⟩))
theorem sr_c1a (a b : Nat → sr_F) : sr_c 1 a b 0 = a 0 * b 0 := by
  show 0 + (0 + a 0 * b 0) = a 0 * b 0
  rw [sr_zf, sr_zf]
theorem sr_ha89 {post : St2 → Prop} {r a c A B G K : Nat → sr_F} {a2 a3 a4 a7 a10 a11 a12 a13 a14 a15 : Nat → Int32} (hA : ∀ b, b < 243 → A b = sr_V a 5 b 0) (hB : ∀ b, b < 243 → B b = sr_V c 5 b 0) (hp : ∀ g g8 g9 : Nat → sr_F, sr_W r g (sr_c 32 a c) 32 → post (sr_E g, a2, a3, a4, sr_E A, sr_E B, a7, sr_E g8, sr_E g9, a10, a11, a12, a13, a14, a15)) : ∃ n, wX_multiplyByHalves_89 post n 0 (sr_E r) a2 a3 a4 (sr_E A) (sr_E B) a7 (sr_E G) (sr_E K) a10 a11 a12 a13 a14 a15 := by
  have e2 : ∀ i, 2 * nI i = nI (2 * i) := fun i => pk_mul 2 i
  have e3 : ∀ i, 2 * nI i + 1 = nI (2 * i + 1) := fun i => by rw [e2, nI_1]
  refine pk_loop (fun n i g => wX_multiplyByHalves_89 post n (nI i) (sr_E r) a2 a3 a4 (sr_E A) (sr_E B) a7 (sr_E g) (sr_E K) a10 a11 a12 a13 a14 a15) (fun i g => ∀ j, j < i → g (2 * j) = A j * B j ∧ g (2 * j + 1) = 0) 243 0 G (by omega) (fun j h => absurd h (by omega))
    (fun n g h => pk_le 243 243 (fun _ => sr_gather (a := a) (c := c) (fun b i hb hi => ?_) (fun g8 g9 h8 => sr_ha144 h8 (fun g1 h1 => hp g1 g8 g9 h1))) (fun z => absurd z (by omega)))
    (fun n i g hi h hw => pk_le 243 i (fun z => absurd z (by omega)) (fun _ => ⟨pk_in i 243 hi, pk_in i 243 hi, sr_ne, pk_in (2 * i) 486 (by omega) (e2 i), nm_r (sr_up (k := 2 * i) (x := A i * B i) (pk_cl (2 * i) (e2 i)) (by rw [nI_clamp (n := i) (by omega)]; exact sr_mu (A i) (B i))) ⟨pk_in (2 * i + 1) 486 (by omega) (e3 i), nm_r (sr_up (k := 2 * i + 1) (x := 0) (pk_cl (2 * i + 1) (e3 i)) rfl) (nm_r (nI_1 i) (hw _ (fun j hj => ?_)))⟩⟩))
  · have hb' : b < 243 := hb
    have t := h b hb'
    have hi' : i < 2 := hi
    show g (b * 2 + i) = sr_c 1 (sr_V a 5 b) (sr_V c 5 b) i
    by_cases c0 : i = 0
    · subst c0
      rw [show b * 2 + 0 = 2 * b by omega, t.1, sr_c1a, hA b hb', hB b hb']
    · rw [show b * 2 + i = 2 * b + 1 by omega, t.2, sr_cz _ _ (by omega)]
  · by_cases e : j = i
    · subst e
      refine ⟨?_, sr_us _ _ _⟩
      rw [sr_un (by omega), sr_us]
    · have t := h j (by omega)
      refine ⟨?_, ?_⟩
      · rw [sr_un (by omega), sr_un (by omega)]
        exact t.1
      · rw [sr_un (by omega), sr_un (by omega)]
        exact t.2
theorem sr_ha59 {post : St2 → Prop} {r c A B C G K : Nat → sr_F} {a2 a3 a4 a10 a11 a12 a13 a14 a15 : Nat → Int32} {a : Nat} (ha : a < 12) (hB : ∀ b, b < 243 → B b = sr_V c 5 b 0) (hp : ∀ g g5 g7 g8 g9 : Nat → sr_F, sr_W r g (sr_c 32 (fun i => r (a * 32 + i)) c) 32 → post (sr_E g, a2, a3, a4, sr_E g5, sr_E B, sr_E g7, sr_E g8, sr_E g9, a10, a11, a12, a13, a14, a15)) : ∃ n, wX_multiplyByHalves_59 post (nI a) n 0 (sr_E r) a2 a3 a4 (sr_E A) (sr_E B) (sr_E C) (sr_E G) (sr_E K) a10 a11 a12 a13 a14 a15 :=
  pk_loop (fun n i g => wX_multiplyByHalves_59 post (nI a) n (nI i) (sr_E r) a2 a3 a4 (sr_E g) (sr_E B) (sr_E C) (sr_E G) (sr_E K) a10 a11 a12 a13 a14 a15) (fun i g => ∀ j, j < i → g j = r (a * 32 + j)) 32 0 A (by omega) (fun j h => absurd h (by omega))
    (fun n g h => pk_le 32 32 (fun _ => sr_spread (a := fun i => r (a * 32 + i)) h (fun g5 g7 h5 => sr_ha89 h5 hB (fun g1 g8 g9 h1 => hp g1 g5 g7 g8 g9 h1))) (fun z => absurd z (by omega)))
    (fun n i g hi h hw => pk_le 32 i (fun z => absurd z (by omega)) (fun _ => sr_cell (by omega) ⟨pk_in i 243 (by omega), nm_r (sr_up (k := i) (pk_cl i) rfl) (nm_r (nI_1 i) (hw _ (sr_fl (f := fun j => r (a * 32 + j)) rfl h rfl)))⟩))
theorem sr_ha32 {post : St2 → Prop} {r c A B C G K : Nat → sr_F} {a2 a3 a4 a10 a11 a12 a13 a14 a15 : Nat → Int32} {a : Nat} (ha : a < 12) (hA : ∀ b, b < 243 → A b = sr_V c 5 b 0) (hp : ∀ g g5 g6 g7 g8 g9 : Nat → sr_F, sr_W r g (sr_c 32 (fun i => r (a * 32 + i)) c) 32 → post (sr_E g, a2, a3, a4, sr_E g5, sr_E g6, sr_E g7, sr_E g8, sr_E g9, a10, a11, a12, a13, a14, a15)) : ∃ n, wX_multiplyByHalves_32 post (nI a) n 0 (sr_E r) a2 a3 a4 (sr_E A) (sr_E B) (sr_E C) (sr_E G) (sr_E K) a10 a11 a12 a13 a14 a15 :=
  pk_loop (fun n i g => wX_multiplyByHalves_32 post (nI a) n (nI i) (sr_E r) a2 a3 a4 (sr_E A) (sr_E g) (sr_E C) (sr_E G) (sr_E K) a10 a11 a12 a13 a14 a15) (fun i g => ∀ j, j < i → g j = A j) 243 0 B (by omega) (fun j h => absurd h (by omega))
    (fun n g h => pk_le 243 243 (fun _ => sr_ha59 (c := c) ha (fun b hb => (h b hb).trans (hA b hb)) (fun g1 g5 g7 g8 g9 h1 => hp g1 g5 g g7 g8 g9 h1)) (fun z => absurd z (by omega)))
    (fun n i g hi h hw => pk_le 243 i (fun z => absurd z (by omega)) (fun _ => ⟨pk_in i 243 hi, pk_in i 243 hi, nm_r (sr_up (k := i) (x := A i) (pk_cl i) (sr_ra rfl (by omega))) (nm_r (nI_1 i) (hw _ (sr_fl rfl h rfl)))⟩))
theorem sr_halves {post : St2 → Prop} {r A B C G K : Nat → sr_F} {a2 a3 a4 a10 a11 a12 a13 a14 a15 : Nat → Int32} {a b : Nat} (ha : a < 12) (hb : b < 12) (hp : ∀ g g5 g6 g7 g8 g9 : Nat → sr_F, sr_R r g a b → post (sr_E g, a2, a3, a4, sr_E g5, sr_E g6, sr_E g7, sr_E g8, sr_E g9, a10, a11, a12, a13, a14, a15)) : wpX_multiplyByHalves post (sr_E r, a2, a3, a4, sr_E A, sr_E B, sr_E C, sr_E G, sr_E K, a10, a11, a12, a13, a14, a15) (nI a) (nI b) :=
  pk_loop (fun n i g => wX_multiplyByHalves_2 post (nI a) (nI b) n (nI i) (sr_E r) a2 a3 a4 (sr_E g) (sr_E B) (sr_E C) (sr_E G) (sr_E K) a10 a11 a12 a13 a14 a15) (fun i g => ∀ j, j < i → g j = r (b * 32 + j)) 32 0 A (by omega) (fun j h => absurd h (by omega))
    (fun n g h => pk_le 32 32 (fun _ => sr_spread (a := fun i => r (b * 32 + i)) h (fun g5 g7 h5 => sr_ha32 (c := fun i => r (b * 32 + i)) ha h5 (fun g1 g5 g6 g7 g8 g9 h1 => hp g1 g5 g6 g7 g8 g9 (sr_WR h1 (fun _ _ => rfl))))) (fun z => absurd z (by omega)))
    (fun n i g hi h hw => pk_le 32 i (fun z => absurd z (by omega)) (fun _ => sr_cell (by omega) ⟨pk_in i 243 (by omega), nm_r (sr_up (k := i) (pk_cl i) rfl) (nm_r (nI_1 i) (hw _ (sr_fl (f := fun j => r (b * 32 + j)) rfl h rfl)))⟩))
end
section
theorem sr_thirdOf {post : Int32 → Prop} {r : Nat → sr_F} {a2 a3 a4 a5 a6 a7 a8 a9 a10 a11 a12 a13 a14 a15 : Nat → Int32} {a t i : Nat} (ha : a < 12) (ht : t < 3) (hi : i < 11) (hp : post (sr_e (sr_x (fun j => r (a * 32 + j)) (t * 11 + i)))) : wpX_thirdOf post (sr_E r, a2, a3, a4, a5, a6, a7, a8, a9, a10, a11, a12, a13, a14, a15) (nI a) (nI t) (nI i) := by
  have e : nI t * 11 + nI i = nI (t * 11 + i) := by
    rw [show (11 : Int32) = nI 11 from rfl, pk_mul, nI_add]
  refine nm_r e (pk_le 32 (t * 11 + i) (fun z => ?_) (fun z => sr_cell (by omega) ?_))
  · rw [show sr_x (fun j => r (a * 32 + j)) (t * 11 + i) = 0 from if_neg (by omega)] at hp
    exact hp
  · rw [show sr_x (fun j => r (a * 32 + j)) (t * 11 + i) = r (a * 32 + (t * 11 + i)) from if_pos z] at hp
    exact hp
theorem sr_layThirds {post : St2 → Prop} {r x : Nat → sr_F} {a2 a3 a4 a5 a6 a7 a8 a9 a10 a12 a13 a14 a15 : Nat → Int32} {a : Nat} (ha : a < 12) (hp : ∀ g : Nat → sr_F, (∀ p j, p < 5 → j < 11 → g (p * 11 + j) = sr_tv (fun j => r (a * 32 + j)) p j) → post (sr_E r, a2, a3, a4, a5, a6, a7, a8, a9, a10, sr_E g, a12, a13, a14, a15)) : wpX_layThirds post (sr_E r, a2, a3, a4, a5, a6, a7, a8, a9, a10, sr_E x, a12, a13, a14, a15) (nI a) := by
  refine pk_loop (fun n i g => wX_layThirds_2 post (nI a) n (nI i) (sr_E r) a2 a3 a4 a5 a6 a7 a8 a9 a10 (sr_E g) a12 a13 a14 a15) (fun i g => ∀ p j, p < 5 → j < i → g (p * 11 + j) = sr_tv (fun j => r (a * 32 + j)) p j) 11 0 x (by omega) (fun p j _ h => absurd h (by omega))
    (fun n g h => pk_le 11 11 (fun _ => hp g h) (fun z => absurd z (by omega)))
    (fun n i g hi h hw => pk_le 11 i (fun z => absurd z (by omega)) (fun _ => sr_thirdOf (t := 0) ha (by omega) hi (sr_thirdOf (t := 1) ha (by omega) hi (sr_thirdOf (t := 2) ha (by omega) hi (sr_plus ⟨pk_in i 55 (by omega), nm_r (sr_up (k := i) (pk_cl i) rfl) (sr_plus ⟨pk_in (11 + i) 55 (by omega) (nI_add 11 i), nm_r (sr_up (k := 11 + i) (pk_cl (11 + i) (nI_add 11 i)) rfl) (sr_minus ⟨pk_in (22 + i) 55 (by omega) (nI_add 22 i), nm_r (sr_up (k := 22 + i) (pk_cl (22 + i) (nI_add 22 i)) rfl) ⟨sr_ne, pk_in (33 + i) 55 (by omega) (nI_add 33 i), nm_r (sr_up (k := 33 + i) (pk_cl (33 + i) (nI_add 33 i)) (sr_a3 _ _ _ 2 4 (by omega) (by omega))) ⟨pk_in (44 + i) 55 (by omega) (nI_add 44 i), nm_r (sr_up (k := 44 + i) (pk_cl (44 + i) (nI_add 44 i)) rfl) (nm_r (nI_1 i) (hw _ ?_))⟩⟩⟩)⟩)⟩)))))
  intro p j hp5 hj
  by_cases e : j = i
  · subst e
    have c : p = 0 ∨ p = 1 ∨ p = 2 ∨ p = 3 ∨ p = 4 := by omega
    rcases c with c | c | c | c | c
    · subst c
      rw [sr_un (by omega), sr_un (by omega), sr_un (by omega), sr_un (by omega), sr_ut (by omega), show 0 * 11 + j = j by omega]
      rfl
    · subst c
      rw [sr_un (by omega), sr_un (by omega), sr_un (by omega), sr_ut (by omega), show 0 * 11 + j = j by omega]
      rfl
    · subst c
      rw [sr_un (by omega), sr_un (by omega), sr_ut (by omega), show 0 * 11 + j = j by omega]
      rfl
    · subst c
      rw [sr_un (by omega), sr_ut (by omega), show 0 * 11 + j = j by omega]
      rfl
    · subst c
      rw [sr_ut (by omega)]
      rfl
  · rw [sr_un (by omega), sr_un (by omega), sr_un (by omega), sr_un (by omega), sr_un (by omega)]
    exact h p j hp5 (by omega)
/-- the pairs up to i, j are added -/
def sr_ac3 (a b : Nat → sr_F) (i j n : Nat) : sr_F := sr_s i (fun i' => sr_s 11 (fun j' => if i' + j' = n then a i' * b j' else 0)) + sr_s j (fun j' => if i + j' = n then a i * b j' else 0)
theorem sr_ac30 (a b : Nat → sr_F) (n : Nat) : sr_ac3 a b 0 0 n = 0 := rfl
theorem sr_ac3s (a b : Nat → sr_F) (i j n : Nat) : sr_ac3 a b i (j + 1) n = if i + j = n then sr_ac3 a b i j n + a i * b j else sr_ac3 a b i j n := by
  show sr_s i _ + (sr_s j _ + (if i + j = n then a i * b j else 0)) = _
  by_cases c : i + j = n
  · rw [if_pos c, if_pos c, ← sr_aa]
    rfl
  · rw [if_neg c, if_neg c, sr_fz]
    rfl
theorem sr_ac3e (a b : Nat → sr_F) (i n : Nat) : sr_ac3 a b (i + 1) 0 n = sr_ac3 a b i 11 n := sr_fz _
theorem sr_ac3f (a b : Nat → sr_F) (n : Nat) : sr_ac3 a b 11 0 n = sr_c 11 a b n := sr_fz _
/-- the product of point p is there up to i, j -/
def sr_T3 (A B x g : Nat → sr_F) (p i j : Nat) : Prop := (∀ n, n < 21 → g (p * 21 + n) = sr_ac3 (fun i => A (p * 11 + i)) (fun i => B (p * 11 + i)) i j n) ∧ (∀ m, (m < p * 21 ∨ p * 21 + 21 ≤ m) → g m = x m)
theorem sr_T3s {A B x g : Nat → sr_F} {p i j : Nat} (hi : i < 11) (hj : j < 11) (h : sr_T3 A B x g p i j) : sr_T3 A B x (sr_u g (p * 21 + i + j) (g (p * 21 + i + j) + A (p * 11 + i) * B (p * 11 + j))) p i (j + 1) := by
  refine ⟨fun n hn => ?_, fun m hm => ?_⟩
  · rw [sr_ac3s]
    by_cases c : i + j = n
    · rw [if_pos c, sr_ut (by omega), show p * 21 + i + j = p * 21 + n by omega, h.1 n hn]
    · rw [if_neg c, sr_un (by omega), h.1 n hn]
  · rw [sr_un (by omega)]
    exact h.2 m hm
theorem sr_mt36 {post : St2 → Prop} {J : Int32 → (Nat → Int32) → (Nat → Int32) → (Nat → Int32) → (Nat → Int32) → (Nat → Int32) → (Nat → Int32) → (Nat → Int32) → (Nat → Int32) → (Nat → Int32) → (Nat → Int32) → (Nat → Int32) → (Nat → Int32) → (Nat → Int32) → (Nat → Int32) → (Nat → Int32) → Prop} {A B x y : Nat → sr_F} {a1 a2 a3 a4 a5 a6 a7 a8 a9 a13 a14 a15 : Nat → Int32} {p i : Nat} (hp5 : p < 5) (hi : i < 11) (h0 : sr_T3 A B x y p i 0) (hJ : ∀ g : Nat → sr_F, sr_T3 A B x g p (i + 1) 0 → J (nI (i + 1)) a1 a2 a3 a4 a5 a6 a7 a8 a9 (sr_E A) (sr_E B) (sr_E g) a13 a14 a15) : ∃ n, wX_multiplyThirds_36 post J (nI p) (nI i) n 0 a1 a2 a3 a4 a5 a6 a7 a8 a9 (sr_E A) (sr_E B) (sr_E y) a13 a14 a15 := by
  have e1 : ∀ k, nI p * 11 + nI k = nI (p * 11 + k) := fun k => by rw [show (11 : Int32) = nI 11 from rfl, pk_mul, nI_add]
  have e2 : ∀ k, nI p * 21 + nI i + nI k = nI (p * 21 + i + k) := fun k => by rw [show (21 : Int32) = nI 21 from rfl, pk_mul, nI_add, nI_add]
  exact pk_loop (fun n j g => wX_multiplyThirds_36 post J (nI p) (nI i) n (nI j) a1 a2 a3 a4 a5 a6 a7 a8 a9 (sr_E A) (sr_E B) (sr_E g) a13 a14 a15) (fun j g => sr_T3 A B x g p i j) 11 0 y (by omega) h0
    (fun n g h => pk_le 11 11 (fun _ => nm_r (nI_1 i) (hJ g ⟨fun n hn => by rw [sr_ac3e]; exact h.1 n hn, h.2⟩)) (fun z => absurd z (by omega)))
    (fun n j g hj h hw => pk_le 11 j (fun z => absurd z (by omega)) (fun _ => nm_r (e2 j) ⟨pk_in (p * 21 + i + j) 105 (by omega), pk_in (p * 11 + i) 55 (by omega) (e1 i), pk_in (p * 11 + j) 55 (by omega) (e1 j), sr_ne, pk_in (p * 21 + i + j) 105 (by omega), nm_r (sr_up (k := p * 21 + i + j) (x := g (p * 21 + i + j) + A (p * 11 + i) * B (p * 11 + j)) (pk_cl (p * 21 + i + j)) (by
      rw [e1 i, e1 j, sr_ra (k := p * 21 + i + j) rfl (by omega), sr_ra (k := p * 11 + i) rfl (by omega), sr_ra (k := p * 11 + j) rfl (by omega)]
      exact sr_ma _ _ _)) (nm_r (nI_1 j) (hw _ (sr_T3s hi hj h)))⟩))
theorem sr_mt28 {post : St2 → Prop} {A B x y : Nat → sr_F} {a1 a2 a3 a4 a5 a6 a7 a8 a9 a13 a14 a15 : Nat → Int32} {p : Nat} (hp5 : p < 5) (h0 : sr_T3 A B x y p 0 0) (hp : ∀ g : Nat → sr_F, (∀ n, n < 21 → g (p * 21 + n) = sr_c 11 (fun i => A (p * 11 + i)) (fun i => B (p * 11 + i)) n) → (∀ m, (m < p * 21 ∨ p * 21 + 21 ≤ m) → g m = x m) → post (a1, a2, a3, a4, a5, a6, a7, a8, a9, sr_E A, sr_E B, sr_E g, a13, a14, a15)) : ∃ n, wX_multiplyThirds_28 post (nI p) n 0 a1 a2 a3 a4 a5 a6 a7 a8 a9 (sr_E A) (sr_E B) (sr_E y) a13 a14 a15 :=
  pk_loop (fun n i g => wX_multiplyThirds_28 post (nI p) n (nI i) a1 a2 a3 a4 a5 a6 a7 a8 a9 (sr_E A) (sr_E B) (sr_E g) a13 a14 a15) (fun i g => sr_T3 A B x g p i 0) 11 0 y (by omega) h0
    (fun n g h => pk_le 11 11 (fun _ => hp g (fun n hn => by rw [h.1 n hn, sr_ac3f]) h.2) (fun z => absurd z (by omega)))
    (fun n i g hi h hw => pk_le 11 i (fun z => absurd z (by omega)) (fun _ => sr_mt36 hp5 hi h hw))
theorem sr_multiplyThirds {post : St2 → Prop} {A B x : Nat → sr_F} {a1 a2 a3 a4 a5 a6 a7 a8 a9 a13 a14 a15 : Nat → Int32} {p : Nat} (hp5 : p < 5) (hp : ∀ g : Nat → sr_F, (∀ n, n < 21 → g (p * 21 + n) = sr_c 11 (fun i => A (p * 11 + i)) (fun i => B (p * 11 + i)) n) → (∀ m, (m < p * 21 ∨ p * 21 + 21 ≤ m) → g m = x m) → post (a1, a2, a3, a4, a5, a6, a7, a8, a9, sr_E A, sr_E B, sr_E g, a13, a14, a15)) : wpX_multiplyThirds post (a1, a2, a3, a4, a5, a6, a7, a8, a9, sr_E A, sr_E B, sr_E x, a13, a14, a15) (nI p) := by
  have e2 : ∀ k, nI p * 21 + nI k = nI (p * 21 + k) := fun k => by rw [show (21 : Int32) = nI 21 from rfl, pk_mul, nI_add]
  refine pk_loop (fun n i g => wX_multiplyThirds_2 post (nI p) n (nI i) a1 a2 a3 a4 a5 a6 a7 a8 a9 (sr_E A) (sr_E B) (sr_E g) a13 a14 a15) (fun i g => (∀ n, n < i → g (p * 21 + n) = 0) ∧ (∀ m, (m < p * 21 ∨ p * 21 + 21 ≤ m) → g m = x m)) 21 0 x (by omega) ⟨fun n h => absurd h (by omega), fun _ _ => rfl⟩
    (fun n g h => pk_le 21 21 (fun _ => sr_mt28 (x := x) hp5 ⟨fun n hn => by rw [sr_ac30]; exact h.1 n hn, h.2⟩ hp) (fun z => absurd z (by omega)))
    (fun n i g hi h hw => pk_le 21 i (fun z => absurd z (by omega)) (fun _ => ⟨pk_in (p * 21 + i) 105 (by omega) (e2 i), nm_r (sr_up (k := p * 21 + i) (x := 0) (pk_cl (p * 21 + i) (e2 i)) rfl) (nm_r (nI_1 i) (hw _ ⟨?_, ?_⟩))⟩))
  · intro j hj
    by_cases e : j = i
    · rw [sr_ut (by omega)]
    · rw [sr_un (by omega)]
      exact h.1 j (by omega)
  · intro m hm
    rw [sr_un (by omega)]
    exact h.2 m hm
/-- what is added to a place of row 5, if it is one -/
def sr_ad (r : Nat → sr_F) (k : Nat) (v : sr_F) : Nat → sr_F := if k < 32 then sr_u r (160 + k) (r (160 + k) + v) else r
theorem sr_adi (r : Nat → sr_F) (k : Nat) (v : sr_F) {n : Nat} (hn : n < 32) : sr_ad r k v (160 + n) = r (160 + n) + (if n = k then v else 0) := by
  unfold sr_ad
  by_cases c : k < 32
  · rw [if_pos c]
    by_cases e : n = k
    · rw [if_pos e, sr_ut (by omega), e]
    · rw [if_neg e, sr_un (by omega), sr_fz]
  · rw [if_neg c, if_neg (by omega), sr_fz]
theorem sr_ado (r : Nat → sr_F) (k : Nat) (v : sr_F) {j : Nat} (hj : j < 160 ∨ 192 ≤ j) : sr_ad r k v j = r j := by
  unfold sr_ad
  by_cases c : k < 32
  · rw [if_pos c, sr_un (by omega)]
  · rw [if_neg c]
theorem sr_addTo {post : St2 → Prop} {r : Nat → sr_F} {a2 a3 a4 a5 a6 a7 a8 a9 a10 a11 a12 a13 a14 a15 : Nat → Int32} {k : Nat} {u : Int32} {v : sr_F} (hk : k < 100) (hu : u = nI k) (hp : post (sr_E (sr_ad r k v), a2, a3, a4, a5, a6, a7, a8, a9, a10, a11, a12, a13, a14, a15)) : wpX_addTo post (sr_E r, a2, a3, a4, a5, a6, a7, a8, a9, a10, a11, a12, a13, a14, a15) u (sr_e v) := by
  subst hu
  unfold sr_ad at hp
  refine pk_le 32 k (fun z => ?_) (fun z => ⟨pk_in (160 + k) 384 (by omega) (nI_add 160 k), sr_plusv (sr_ra (nI_add 160 k) (by omega)) rfl ⟨pk_in (160 + k) 384 (by omega) (nI_add 160 k), nm_r (sr_up (k := 160 + k) (pk_cl (160 + k) (nI_add 160 k)) rfl) ?_⟩⟩)
  · rw [if_neg (by omega)] at hp
    exact hp
  · rw [if_pos z] at hp
    exact hp
theorem sr_joinThirds {post : St2 → Prop} {r v C : Nat → sr_F} {a3 a4 a5 a6 a7 a8 a9 a10 a11 a13 a14 a15 : Nat → Int32} {i : Nat} {D0 D1 D2 D3 D4 : sr_F} (hi : i < 21) (hv2 : 2 * v 2 = 1) (hv3 : 3 * v 3 = 1) (h0 : C i = D0) (h1 : C (21 + i) = D0 + D1 + D2 + D3 + D4) (h2 : C (42 + i) = D0 - D1 + D2 - D3 + D4) (h3 : C (63 + i) = D0 + 2 * D1 + 4 * D2 + 8 * D3 + 16 * D4) (h4 : C (84 + i) = D4)
    (hp : post (sr_E (sr_ad (sr_ad (sr_ad (sr_ad (sr_ad r i D0) (i + 11) D1) (i + 22) D2) (i + 33) D3) (i + 44) D4), sr_E v, a3, a4, a5, a6, a7, a8, a9, a10, a11, sr_E C, a13, a14, a15)) : wpX_joinThirds post (sr_E r, sr_E v, a3, a4, a5, a6, a7, a8, a9, a10, a11, sr_E C, a13, a14, a15) (nI i) := by
  have r0 : sr_E C (nI i).toNatClampNeg = sr_e D0 := (sr_ra rfl (by omega)).trans (congrArg sr_e h0)
  have r1 : sr_E C (21 + nI i).toNatClampNeg = sr_e (D0 + D1 + D2 + D3 + D4) := (sr_ra (nI_add 21 i) (by omega)).trans (congrArg sr_e h1)
  have r2 : sr_E C (42 + nI i).toNatClampNeg = sr_e (D0 - D1 + D2 - D3 + D4) := (sr_ra (nI_add 42 i) (by omega)).trans (congrArg sr_e h2)
  have r3 : sr_E C (63 + nI i).toNatClampNeg = sr_e (D0 + 2 * D1 + 4 * D2 + 8 * D3 + 16 * D4) := (sr_ra (nI_add 63 i) (by omega)).trans (congrArg sr_e h3)
  have r4 : sr_E C (84 + nI i).toNatClampNeg = sr_e D4 := (sr_ra (nI_add 84 i) (by omega)).trans (congrArg sr_e h4)
  have p1 : vp_in (21 + nI i) 105 := pk_in (21 + i) 105 (by omega) (nI_add 21 i)
  have p2 : vp_in (42 + nI i) 105 := pk_in (42 + i) 105 (by omega) (nI_add 42 i)
  have p3 : vp_in (63 + nI i) 105 := pk_in (63 + i) 105 (by omega) (nI_add 63 i)
  have p4 : vp_in (84 + nI i) 105 := pk_in (84 + i) 105 (by omega) (nI_add 84 i)
  refine And.intro (pk_in i 105 (by omega)) (nm_r r0 ⟨p4, nm_r r4 ⟨p1, p2, sr_plusv r1 r2 ⟨sr_ne, nm_r (sr_mu _ (v 2)) ⟨p1, p2, sr_minusv r1 r2 ⟨sr_ne, nm_r (e' := sr_e (D1 + D3)) ?_ (sr_minus (sr_minus ⟨sr_ne, ?_⟩))⟩⟩⟩⟩⟩)
  · refine (sr_mu _ (v 2)).trans ?_
    rw [sr_jo _ _ _ _ _ _ hv2]
  rw [sr_j3 _ _ _ _ _ _ hv2]
  refine nm_r (e' := sr_e (D0 + 4 * D2 + 16 * D4)) (sr_a3 D0 D2 D4 4 16 (by omega) (by omega)) ⟨p3, sr_minusv r3 rfl ⟨sr_ne, nm_r (sr_mu _ (v 2)) (sr_minus ⟨sr_ne, nm_r (e' := sr_e D3) ?_ (sr_minus ?_)⟩)⟩⟩
  · refine (sr_mu _ (v 3)).trans ?_
    rw [sr_j4 _ _ _ _ _ _ _ hv2 hv3]
  rw [sr_j2]
  exact sr_addTo (by omega) rfl (sr_addTo (by omega) (nI_add i 11) (sr_addTo (by omega) (nI_add i 22) (sr_addTo (by omega) (nI_add i 33) (sr_addTo (by omega) (nI_add i 44) hp))))
end
section
theorem sr_ots (D : Nat → Nat → sr_F) (g : Nat → sr_F) (i n : Nat) (hn : n < 32) (h : g (160 + n) = sr_ot D i n) : sr_ad (sr_ad (sr_ad (sr_ad (sr_ad g i (D 0 i)) (i + 11) (D 1 i)) (i + 22) (D 2 i)) (i + 33) (D 3 i)) (i + 44) (D 4 i) (160 + n) = sr_ot D (i + 1) n := by
  rw [sr_adi _ _ _ hn, sr_adi _ _ _ hn, sr_adi _ _ _ hn, sr_adi _ _ _ hn, sr_adi _ _ _ hn, h]
  unfold sr_ot
  rw [sr_oqs, sr_oqs, sr_oqs, sr_oqs, sr_oqs]
  show sr_oq D i n 0 + sr_oq D i n 1 + sr_oq D i n 2 + sr_oq D i n 3 + sr_oq D i n 4 + (if n = i then D 0 i else 0) + (if n = i + 11 then D 1 i else 0) + (if n = i + 22 then D 2 i else 0) + (if n = i + 33 then D 3 i else 0) + (if n = i + 44 then D 4 i else 0) = sr_oq D i n 0 + (if n = i then D 0 i else 0) + (sr_oq D i n 1 + (if n = i + 11 then D 1 i else 0)) + (sr_oq D i n 2 + (if n = i + 22 then D 2 i else 0)) + (sr_oq D i n 3 + (if n = i + 33 then D 3 i else 0)) + (sr_oq D i n 4 + (if n = i + 44 then D 4 i else 0))
  generalize (if n = i then D 0 i else 0) = t0
  generalize (if n = i + 11 then D 1 i else 0) = t1
  generalize (if n = i + 22 then D 2 i else 0) = t2
  generalize (if n = i + 33 then D 3 i else 0) = t3
  generalize (if n = i + 44 then D 4 i else 0) = t4
  generalize sr_oq D i n 0 = q0
  generalize sr_oq D i n 1 = q1
  generalize sr_oq D i n 2 = q2
  generalize sr_oq D i n 3 = q3
  generalize sr_oq D i n 4 = q4
  grind
theorem sr_th61 {post : St2 → Prop} {r r0 v C : Nat → sr_F} {a3 a4 a5 a6 a7 a8 a9 a10 a11 a13 a14 a15 : Nat → Int32} {a b : Nat} (hv2 : 2 * v 2 = 1) (hv3 : 3 * v 3 = 1) (hC : ∀ p n, p < 5 → n < 21 → C (p * 21 + n) = sr_c 11 (sr_tv (fun i => r (a * 32 + i)) p) (sr_tv (fun i => r (b * 32 + i)) p) n) (h0 : ∀ i, i < 32 → r0 (5 * 32 + i) = 0) (h1 : ∀ j, (j < 5 * 32 ∨ 5 * 32 + 32 ≤ j) → r0 j = r j) (hp : ∀ g : Nat → sr_F, sr_R r g a b → post (sr_E g, sr_E v, a3, a4, a5, a6, a7, a8, a9, a10, a11, sr_E C, a13, a14, a15)) : ∃ n, wX_multiplyByThirds_61 post n 0 (sr_E r0) (sr_E v) a3 a4 a5 a6 a7 a8 a9 a10 a11 (sr_E C) a13 a14 a15 := by
  refine pk_loop (fun n i g => wX_multiplyByThirds_61 post n (nI i) (sr_E g) (sr_E v) a3 a4 a5 a6 a7 a8 a9 a10 a11 (sr_E C) a13 a14 a15) (fun i g => (∀ n, n < 32 → g (160 + n) = sr_ot (sr_dq (fun i => r (a * 32 + i)) (fun i => r (b * 32 + i))) i n) ∧ (∀ j, (j < 160 ∨ 192 ≤ j) → g j = r j)) 21 0 r0 (by omega) ⟨?_, fun j hj => h1 j (by omega)⟩
    (fun n g h => pk_le 21 21 (fun _ => hp g ⟨fun i hi => by rw [h.1 i hi, sr_otf], h.2⟩) (fun z => absurd z (by omega)))
    (fun n i g hi h hw => pk_le 21 i (fun z => absurd z (by omega)) (fun _ => sr_joinThirds (D0 := sr_dq (fun i => r (a * 32 + i)) (fun i => r (b * 32 + i)) 0 i) (D1 := sr_dq (fun i => r (a * 32 + i)) (fun i => r (b * 32 + i)) 1 i) (D2 := sr_dq (fun i => r (a * 32 + i)) (fun i => r (b * 32 + i)) 2 i) (D3 := sr_dq (fun i => r (a * 32 + i)) (fun i => r (b * 32 + i)) 3 i) (D4 := sr_dq (fun i => r (a * 32 + i)) (fun i => r (b * 32 + i)) 4 i) hi hv2 hv3 ?_ ?_ ?_ ?_ ?_ (nm_r (nI_1 i) (hw _ ⟨fun n hn => sr_ots _ g i n hn (h.1 n hn), fun j hj => ?_⟩))))
  · intro n hn
    rw [show 160 + n = 5 * 32 + n by omega, h0 n hn]
    unfold sr_ot
    rw [sr_oq0, sr_oq0, sr_oq0, sr_oq0, sr_oq0]
    rfl
  · have t := hC 0 i (by omega) hi
    rw [show 0 * 21 + i = i by omega] at t
    rw [t, sr_t0]
  · have t := hC 1 i (by omega) hi
    rw [show 1 * 21 + i = 21 + i by omega] at t
    rw [t, sr_t1]
  · have t := hC 2 i (by omega) hi
    rw [show 2 * 21 + i = 42 + i by omega] at t
    rw [t, sr_t2]
  · have t := hC 3 i (by omega) hi
    rw [show 3 * 21 + i = 63 + i by omega] at t
    rw [t, sr_t3]
  · have t := hC 4 i (by omega) hi
    rw [show 4 * 21 + i = 84 + i by omega] at t
    rw [t, sr_t4]
  · rw [sr_ado _ _ _ hj, sr_ado _ _ _ hj, sr_ado _ _ _ hj, sr_ado _ _ _ hj, sr_ado _ _ _ hj]
    exact h.2 j hj
theorem sr_th38 {post : St2 → Prop} {r v A B C : Nat → sr_F} {a3 a4 a5 a6 a7 a8 a9 a13 a14 a15 : Nat → Int32} {a b : Nat} (hv2 : 2 * v 2 = 1) (hv3 : 3 * v 3 = 1) (hA : ∀ p j, p < 5 → j < 11 → A (p * 11 + j) = sr_tv (fun i => r (a * 32 + i)) p j) (hB : ∀ p j, p < 5 → j < 11 → B (p * 11 + j) = sr_tv (fun i => r (b * 32 + i)) p j) (hp : ∀ g g12 : Nat → sr_F, sr_R r g a b → post (sr_E g, sr_E v, a3, a4, a5, a6, a7, a8, a9, sr_E A, sr_E B, sr_E g12, a13, a14, a15)) : ∃ n, wX_multiplyByThirds_38 post n 0 (sr_E r) (sr_E v) a3 a4 a5 a6 a7 a8 a9 (sr_E A) (sr_E B) (sr_E C) a13 a14 a15 := by
  refine pk_loop (fun n p g => wX_multiplyByThirds_38 post n (nI p) (sr_E r) (sr_E v) a3 a4 a5 a6 a7 a8 a9 (sr_E A) (sr_E B) (sr_E g) a13 a14 a15) (fun p g => ∀ q n, q < p → n < 21 → g (q * 21 + n) = sr_c 11 (sr_tv (fun i => r (a * 32 + i)) q) (sr_tv (fun i => r (b * 32 + i)) q) n) 5 0 C (by omega) (fun q n h => absurd h (by omega))
    (fun n g h => pk_le 5 5 (fun _ => sr_clearRow (b := 5) (by omega) (fun r0 h0 h1 => sr_th61 hv2 hv3 h h0 h1 (fun g1 hg1 => hp g1 g hg1))) (fun z => absurd z (by omega)))
    (fun n p g hp5 h hw => pk_le 5 p (fun z => absurd z (by omega)) (fun _ => sr_multiplyThirds hp5 (fun g' h1 h2 => nm_r (nI_1 p) (hw g' (fun q n hq hn => ?_)))))
  by_cases e : q = p
  · subst e
    rw [h1 n hn]
    exact sr_ccg (fun i hi => hA q i hp5 hi) (fun i hi => hB q i hp5 hi) n
  · rw [h2 _ (by omega)]
    exact h q n (by omega) hn
theorem sr_thirds {post : St2 → Prop} {r v x y z : Nat → sr_F} {a3 a4 a5 a6 a7 a8 a9 a13 a14 a15 : Nat → Int32} {a b : Nat} (ha : a < 12) (hb : b < 12) (hv2 : 2 * v 2 = 1) (hv3 : 3 * v 3 = 1) (hp : ∀ g g10 g11 g12 : Nat → sr_F, sr_R r g a b → post (sr_E g, sr_E v, a3, a4, a5, a6, a7, a8, a9, sr_E g10, sr_E g11, sr_E g12, a13, a14, a15)) : wpX_multiplyByThirds post (sr_E r, sr_E v, a3, a4, a5, a6, a7, a8, a9, sr_E x, sr_E y, sr_E z, a13, a14, a15) (nI a) (nI b) :=
  sr_layThirds ha (fun g1 h1 => pk_loop (fun n i g => wX_multiplyByThirds_7 post (nI b) n (nI i) (sr_E r) (sr_E v) a3 a4 a5 a6 a7 a8 a9 (sr_E g) (sr_E g1) (sr_E z) a13 a14 a15) (fun i g => ∀ j, j < i → g j = g1 j) 55 0 x (by omega) (fun j h => absurd h (by omega))
    (fun n g h => pk_le 55 55 (fun _ => sr_layThirds hb (fun g2 h2 => sr_th38 hv2 hv3 (fun p j hp5 hj => (h _ (by omega)).trans (h1 p j hp5 hj)) h2 (fun g3 g12 h3 => hp g3 g g2 g12 h3))) (fun z => absurd z (by omega)))
    (fun n i g hi h hw => pk_le 55 i (fun z => absurd z (by omega)) (fun _ => ⟨pk_in i 55 hi, pk_in i 55 hi, nm_r (sr_up (k := i) (x := g1 i) (pk_cl i) (sr_ra rfl (by omega))) (nm_r (nI_1 i) (hw _ (sr_fl rfl h rfl)))⟩)))
theorem sr_pl13 {post : St2 → Prop} {J : Int32 → (Nat → Int32) → (Nat → Int32) → (Nat → Int32) → (Nat → Int32) → (Nat → Int32) → (Nat → Int32) → (Nat → Int32) → (Nat → Int32) → (Nat → Int32) → (Nat → Int32) → (Nat → Int32) → (Nat → Int32) → (Nat → Int32) → (Nat → Int32) → (Nat → Int32) → Prop} {r : Nat → sr_F} {a2 a3 a4 a5 a6 a7 a8 a9 a10 a11 a12 a13 a14 a15 : Nat → Int32} {a b m : Nat} (ha : a < 12) (hb : b < 12) (hm : m < 32) (hJ : J (nI m + (-1)) (sr_E (sr_u r (5 * 32 + m) (sr_s (m + 1) (fun i => r (a * 32 + i) * r (b * 32 + (m - i)))))) a2 a3 a4 a5 a6 a7 a8 a9 a10 a11 a12 a13 a14 a15) : ∃ n, wX_multiplyPlain_13 post J (nI a) (nI b) (nI m) (sr_E r) a2 a3 a4 a5 a6 a7 a8 a9 a10 a11 a12 a13 a14 a15 n 0 0 :=
  pk_loop (σ := Unit) (fun n i _ => wX_multiplyPlain_13 post J (nI a) (nI b) (nI m) (sr_E r) a2 a3 a4 a5 a6 a7 a8 a9 a10 a11 a12 a13 a14 a15 n (sr_e (sr_s i (fun i => r (a * 32 + i) * r (b * 32 + (m - i))))) (nI i)) (fun _ _ => True) (m + 1) 0 () (by omega) trivial
    (fun n _ _ => pk_lt m (m + 1) (fun _ => sr_write (a := 5) (by omega) (nm_e hJ)) (fun z => absurd z (by omega)))
    (fun n i _ hi _ hw => pk_lt m i (fun z => absurd z (by omega)) (fun z => by
      rw [pk_sub z]
      exact sr_cell (by omega) (sr_cell (by omega) ⟨sr_ne, nm_r (sr_ma _ _ _) (nm_r (nI_1 i) (hw () trivial))⟩)))
theorem sr_plain {post : St2 → Prop} {r : Nat → sr_F} {a2 a3 a4 a5 a6 a7 a8 a9 a10 a11 a12 a13 a14 a15 : Nat → Int32} {a b : Nat} (ha : a < 12) (hb : b < 12) (ha5 : a ≠ 5) (hb5 : b ≠ 5) (hp : ∀ g : Nat → sr_F, sr_R r g a b → post (sr_E g, a2, a3, a4, a5, a6, a7, a8, a9, a10, a11, a12, a13, a14, a15)) : wpX_multiplyPlain post (sr_E r, a2, a3, a4, a5, a6, a7, a8, a9, a10, a11, a12, a13, a14, a15) (nI a) (nI b) := by
  refine sr_down (fun n i g => wX_multiplyPlain_3 post (nI a) (nI b) n i (sr_E g) a2 a3 a4 a5 a6 a7 a8 a9 a10 a11 a12 a13 a14 a15) (fun i g => i ≤ 32 ∧ (∀ n, i ≤ n → n < 32 → g (160 + n) = sr_c 32 (fun i => r (a * 32 + i)) (fun i => r (b * 32 + i)) n) ∧ (∀ j, (j < 160 ∨ 192 ≤ j) → g j = r j))
    (fun n g h => br_t (by decide) (hp g ⟨fun i hi => h.2.1 i (by omega) hi, h.2.2⟩))
    (fun n i g h hw => br_f (nI_pos (by omega)) (sr_pl13 (m := i) ha hb (by omega) (hw _ ⟨by omega, fun k h1 h2 => ?_, fun j hj => ?_⟩))) 31 r ⟨by omega, fun n h1 h2 => absurd h1 (by omega), fun _ _ => rfl⟩
  · by_cases e : k = i
    · rw [sr_ut (by omega), sr_c1 _ _ h2, e]
      refine sr_sc (fun j hj => ?_)
      rw [h.2.2 (a * 32 + j) (by omega), h.2.2 (b * 32 + (i - j)) (by omega)]
    · rw [sr_un (by omega)]
      exact h.2.1 k (by omega) h2
  · rw [sr_un (by omega)]
    exact h.2.2 j hj
/-- what a product leaves -/
theorem sr_rows {post : St2 → Prop} {f1 f2 f3 f4 f5 f6 f7 f8 f9 f10 f11 f12 f13 f14 f15 : Nat → sr_F} {e a b : Nat} (he : e < 5) (ha : a < 12) (hb : b < 12) (ha5 : a ≠ 5) (hb5 : b ≠ 5) (hv : ∀ k, 1 ≤ k → k < 63 → sr_n k * f2 k = 1)
    (hp : ∀ g1 g5 g6 g7 g8 g9 g10 g11 g12 g13 g14 g15 : Nat → sr_F, sr_R f1 g1 a b → post (sr_E g1, sr_E f2, sr_E f3, sr_E f4, sr_E g5, sr_E g6, sr_E g7, sr_E g8, sr_E g9, sr_E g10, sr_E g11, sr_E g12, sr_E g13, sr_E g14, sr_E g15)) :
    wpX_multiplyRows post (sr_E f1, sr_E f2, sr_E f3, sr_E f4, sr_E f5, sr_E f6, sr_E f7, sr_E f8, sr_E f9, sr_E f10, sr_E f11, sr_E f12, sr_E f13, sr_E f14, sr_E f15) (nI e) (nI a) (nI b) := by
  refine br_f (nI_pos (by omega)) (pk_lt 3 e (fun z => ?_) (fun z => ?_))
  · exact sr_points ha hb hv (fun g1 g13 g14 h => hp g1 f5 f6 f7 f8 f9 f10 f11 f12 g13 g14 f15 h)
  · refine pk_eq e 0 (fun z0 => ?_) (fun z0 => ?_)
    · exact sr_plain ha hb ha5 hb5 (fun g1 h => hp g1 f5 f6 f7 f8 f9 f10 f11 f12 f13 f14 f15 h)
    · refine pk_eq e 1 (fun z1 => ?_) (fun z1 => ?_)
      · exact sr_halves ha hb (fun g1 g5 g6 g7 g8 g9 h => hp g1 g5 g6 g7 g8 g9 f10 f11 f12 f13 f14 f15 h)
      · refine pk_eq e 2 (fun z2 => ?_) (fun z2 => ?_)
        · exact sr_thirds ha hb (hv 2 (by omega) (by omega)) (hv 3 (by omega) (by omega)) (fun g1 g10 g11 g12 h => hp g1 f5 f6 f7 f8 f9 g10 g11 g12 f13 f14 f15 h)
        · exact pk_eq e 3 (fun z3 => sr_roots ha hb (fun g1 g13 g14 g15 h => hp g1 f5 f6 f7 f8 f9 f10 f11 f12 g13 g14 g15 h)) (fun z3 => trivial)
end
section
theorem sr_powu {post : Int32 → Prop} {u : Int32} {b v : sr_F} {e : Nat} (hu : u = sr_e b) (he : e < 2 ^ 14) (hv : sr_pw 14 1 b e = v) (h : post (sr_e v)) : wpX_power post () u (nI e) := by
  subst hu
  exact sr_powv he hv h
theorem sr_inv : ∀ k, k < 64 → 1 ≤ k → sr_n k * sr_pw 14 1 (sr_n k) 12287 = 1 := by decide +kernel
theorem sr_pw1 : sr_pw 14 1 1 12287 = 1 := by decide +kernel
theorem sr_in180 {post : St2 → Prop} {mc ms kc ks : Nat} {v x y : Nat → sr_F} {a1 a5 a6 a7 a8 a9 a10 a11 a12 a13 a14 a15 : Nat → Int32} (hp : ∀ g3 g4 : Nat → sr_F, post (a1, sr_E v, sr_E g3, sr_E g4, a5, a6, a7, a8, a9, a10, a11, a12, a13, a14, a15)) : ∃ n, wX_init_180 post mc ms kc ks n 1 a1 (sr_E v) (sr_E x) (sr_E y) a5 a6 a7 a8 a9 a10 a11 a12 a13 a14 a15 :=
  pk_loop (σ := (Nat → sr_F) × (Nat → sr_F)) (fun n i s => wX_init_180 post mc ms kc ks n (nI i) a1 (sr_E v) (sr_E s.1) (sr_E s.2) a5 a6 a7 a8 a9 a10 a11 a12 a13 a14 a15) (fun i _ => 1 ≤ i) 32 1 (x, y) (by omega) (Nat.le_refl 1)
    (fun n s _ => pk_le 32 32 (fun _ => hp s.1 s.2) (fun z => absurd z (by omega)))
    (fun n i s hi h hw => pk_le 32 i (fun z => absurd z (by omega)) (fun _ => ⟨pk_in (i - 1) 32 (by omega) (sr_i1 h), sr_ne, pk_in i 32 hi, nm_r (sr_up (k := i) (x := s.1 (i - 1) * sr_n i) (pk_cl i) (by
        rw [sr_ra (sr_i1 h) (by omega), sr_nn (show i < 12289 by omega)]
        exact sr_mu _ _)) ⟨pk_in (i - 1) 32 (by omega) (sr_i1 h), pk_in i 64 (by omega), sr_ne, pk_in i 32 hi, nm_r (sr_up (k := i) (x := s.2 (i - 1) * v i) (pk_cl i) (by
        rw [sr_ra (sr_i1 h) (by omega), sr_ra (k := i) rfl (by omega)]
        exact sr_mu _ _)) (nm_r (nI_1 i) (hw (sr_u s.1 i (s.1 (i - 1) * sr_n i), sr_u s.2 i (s.2 (i - 1) * v i)) (by omega)))⟩⟩))
theorem sr_in139 {post : St2 → Prop} {mc ms kc ks : Nat} {x y z : Nat → sr_F} {a1 a5 a6 a7 a8 a9 a10 a11 a12 a13 a14 a15 : Nat → Int32} (hx : ∀ k, 1 ≤ k → k < 2 → sr_n k * x k = 1) (hp : ∀ g2 g3 g4 : Nat → sr_F, (∀ k, 1 ≤ k → k < 64 → sr_n k * g2 k = 1) → post (a1, sr_E g2, sr_E g3, sr_E g4, a5, a6, a7, a8, a9, a10, a11, a12, a13, a14, a15)) : ∃ n, wX_init_139 post mc ms kc ks n 2 a1 (sr_E x) (sr_E y) (sr_E z) a5 a6 a7 a8 a9 a10 a11 a12 a13 a14 a15 := by
  refine pk_loop (fun n i g => wX_init_139 post mc ms kc ks n (nI i) a1 (sr_E g) (sr_E y) (sr_E z) a5 a6 a7 a8 a9 a10 a11 a12 a13 a14 a15) (fun i g => 2 ≤ i ∧ ∀ k, 1 ≤ k → k < i → sr_n k * g k = 1) 64 2 x (by omega) ⟨by omega, hx⟩
    (fun n g h => pk_le 64 64 (fun _ => nm_r (sr_up (f := y) (k := 0) (x := 1) rfl rfl) (nm_r (sr_up (f := z) (k := 0) (x := 1) rfl rfl) (sr_in180 (fun g3 g4 => hp g g3 g4 h.2)))) (fun z => absurd z (by omega)))
    (fun n i g hi h hw => pk_le 64 i (fun z => absurd z (by omega)) (fun _ => sr_powu (e := 12287) (sr_nn (show i < 12289 by omega)) (by decide) rfl ⟨pk_in i 64 hi, nm_r (sr_up (k := i) (pk_cl i) rfl) (nm_r (nI_1 i) (hw _ ⟨by omega, fun k h1 h2 => ?_⟩))⟩))
  by_cases e : k = i
  · rw [sr_ut e, e]
    exact sr_inv i hi (by omega)
  · rw [sr_un e]
    exact h.2 k h1 (by omega)
theorem sr_init {post : St2 → Prop} {mc ms : Nat} (hc : 15 ≤ mc) (hs : 2620 ≤ ms) (hp : ∀ f2 f3 f4 : Nat → sr_F, (∀ k, 1 ≤ k → k < 64 → sr_n k * f2 k = 1) → post (sr_E (fun _ => 0), sr_E f2, sr_E f3, sr_E f4, sr_E (fun _ => 0), sr_E (fun _ => 0), sr_E (fun _ => 0), sr_E (fun _ => 0), sr_E (fun _ => 0), sr_E (fun _ => 0), sr_E (fun _ => 0), sr_E (fun _ => 0), sr_E (fun _ => 0), sr_E (fun _ => 0), sr_E (fun _ => 0))) : wpX_init post mc ms () := by
  unfold wpX_init
  refine ⟨by omega, by omega, by omega, by omega, by omega, by omega, by omega, by omega, by omega, by omega, by omega, by omega, by omega, by omega, by omega, by omega, by omega, by omega, by omega, by omega, by omega, by omega, by omega, by omega, by omega, by omega, by omega, by omega, by omega, by omega, ?_⟩
  rw [sr_E0]
  refine nm_r (sr_up (f := fun _ => 0) (k := 1) (x := 1) rfl rfl) (sr_in139 (fun k h1 h2 => ?_) hp)
  have e : k = 1 := by omega
  subst e
  rw [sr_us]
  rfl
theorem sr_fill {post : Int32 → St2 → Prop} {r : Nat → sr_F} {a2 a3 a4 a5 a6 a7 a8 a9 a10 a11 a12 a13 a14 a15 : Nat → Int32} {s : Nat} {v : Int32} (hs : s < 5) (hp : ∀ g : Nat → sr_F, (∀ i, i < 32 → g (s * 32 + i) = sr_p (sr_z v.toInt) i) → (∀ j, (j < s * 32 ∨ s * 32 + 32 ≤ j) → g j = r j) → post 1 (sr_E g, a2, a3, a4, a5, a6, a7, a8, a9, a10, a11, a12, a13, a14, a15)) : wpX_fill post (sr_E r, a2, a3, a4, a5, a6, a7, a8, a9, a10, a11, a12, a13, a14, a15) (nI s) 0 1 v := by
  unfold wpX_fill
  refine sr_isS hs (br_f sr_one (sr_isP (a := 0) (by omega) (br_f sr_one (sr_normal (sr_normal ?_)))))
  refine pk_loop (fun n i g => wX_fill_32 post (nI s) (sr_e (sr_z v.toInt)) n (sr_e (sr_p (sr_z v.toInt) i)) (nI i) (sr_E g) a2 a3 a4 a5 a6 a7 a8 a9 a10 a11 a12 a13 a14 a15) (fun i g => (∀ j, j < i → g (s * 32 + j) = sr_p (sr_z v.toInt) j) ∧ (∀ j, (j < s * 32 ∨ s * 32 + i ≤ j) → g j = r j)) 32 0 r (by omega) ⟨fun j h => absurd h (by omega), fun _ _ => rfl⟩
    (fun n g h => pk_le 32 32 (fun _ => hp g h.1 h.2) (fun z => absurd z (by omega)))
    (fun n i g hi h hw => pk_le 32 i (fun z => absurd z (by omega)) (fun _ => sr_write (by omega) ⟨sr_ne, nm_r (sr_mu _ _) (nm_r (nI_1 i) (hw _ ⟨fun j hj => ?_, fun j hj => ?_⟩))⟩))
  · by_cases e : j = i
    · rw [sr_ut (by omega), e]
    · rw [sr_un (by omega)]
      exact h.1 j (by omega)
  · rw [sr_un (by omega)]
    exact h.2 j (by omega)
theorem sr_set {post : Int32 → St2 → Prop} {r : Nat → sr_F} {a2 a3 a4 a5 a6 a7 a8 a9 a10 a11 a12 a13 a14 a15 : Nat → Int32} {s i : Nat} {v : Int32} (hs : s < 5) (hi : i < 32) (hp : post 1 (sr_E (sr_u r (s * 32 + i) (sr_z v.toInt)), a2, a3, a4, a5, a6, a7, a8, a9, a10, a11, a12, a13, a14, a15)) : wpX_set post (sr_E r, a2, a3, a4, a5, a6, a7, a8, a9, a10, a11, a12, a13, a14, a15) (nI s) (nI i) v := by
  unfold wpX_set
  exact sr_isS hs (br_f sr_one (sr_isP hi (br_f sr_one (sr_normal ⟨pk_in (s * 32 + i) 384 (by omega) (sr_ix s i), nm_r (sr_up (k := s * 32 + i) (pk_cl (s * 32 + i) (sr_ix s i)) rfl) hp⟩))))
theorem sr_copy {post : Int32 → St2 → Prop} {r : Nat → sr_F} {a2 a3 a4 a5 a6 a7 a8 a9 a10 a11 a12 a13 a14 a15 : Nat → Int32} {s t : Nat} (hs : s < 5) (ht : t < 5) (hst : t ≠ s) (hp : ∀ g : Nat → sr_F, (∀ i, i < 32 → g (s * 32 + i) = r (t * 32 + i)) → (∀ j, (j < s * 32 ∨ s * 32 + 32 ≤ j) → g j = r j) → post 1 (sr_E g, a2, a3, a4, a5, a6, a7, a8, a9, a10, a11, a12, a13, a14, a15)) : wpX_copy post (sr_E r, a2, a3, a4, a5, a6, a7, a8, a9, a10, a11, a12, a13, a14, a15) (nI s) (nI t) := by
  unfold wpX_copy
  exact sr_isS hs (br_f sr_one (sr_isS ht (br_f sr_one (sr_copyRow (by omega) (by omega) hst hp))))
theorem sr_coefficient {post : Int32 → Prop} {r : Nat → sr_F} {a2 a3 a4 a5 a6 a7 a8 a9 a10 a11 a12 a13 a14 a15 : Nat → Int32} {s i : Nat} (hs : s < 5) (hi : i < 32) (hp : post (sr_e (r (s * 32 + i)))) : wpX_coefficient post (sr_E r, a2, a3, a4, a5, a6, a7, a8, a9, a10, a11, a12, a13, a14, a15) (nI s) (nI i) := by
  unfold wpX_coefficient
  exact sr_isS hs (br_f sr_one (sr_isP hi (br_f sr_one (sr_cell (by omega) hp))))
theorem sr_e0 {x : sr_F} (h : sr_e x = 0) : x = 0 := sr_ei (y := 0) h
theorem sr_degree {post : Int32 → Prop} {r : Nat → sr_F} {a2 a3 a4 a5 a6 a7 a8 a9 a10 a11 a12 a13 a14 a15 : Nat → Int32} {s : Nat} (hs : s < 5) (h0 : r (s * 32) ≠ 0) (h1 : ∀ i, 1 ≤ i → i < 32 → r (s * 32 + i) = 0) (hp : post 0) : wpX_degree post (sr_E r, a2, a3, a4, a5, a6, a7, a8, a9, a10, a11, a12, a13, a14, a15) (nI s) := by
  unfold wpX_degree
  refine sr_isS hs (br_f sr_one ?_)
  refine Exists.intro 32 (pk_loopD (σ := Unit) (fun n i _ => wX_degreeOf_3 post (nI s) (sr_E r) a2 a3 a4 a5 a6 a7 a8 a9 a10 a11 a12 a13 a14 a15 n (nI i)) (fun i _ => i < 32)
    (fun n _ _ => br_f (by decide) (sr_cell (i := 0) (by omega) (br_f (fun z => h0 (sr_e0 z)) hp)))
    (fun n i _ hi hw => br_f (nI_pos (by omega)) (sr_cell (by omega) (br_t ?_ (nm_r (pk_m1 i) (hw () (by omega)))))) 31 () (by omega))
  rw [h1 (i + 1) (by omega) hi]
  rfl
theorem sr_multiply {post : Int32 → St2 → Prop} {f1 f2 f3 f4 f5 f6 f7 f8 f9 f10 f11 f12 f13 f14 f15 : Nat → sr_F} {e s t : Nat} (he : e < 5) (hs : s < 5) (ht : t < 5) (hv : ∀ k, 1 ≤ k → k < 63 → sr_n k * f2 k = 1)
    (hp : ∀ g1 g5 g6 g7 g8 g9 g10 g11 g12 g13 g14 g15 : Nat → sr_F, (∀ i, i < 32 → g1 (s * 32 + i) = sr_c 32 (fun i => f1 (s * 32 + i)) (fun i => f1 (t * 32 + i)) i) → post 1 (sr_E g1, sr_E f2, sr_E f3, sr_E f4, sr_E g5, sr_E g6, sr_E g7, sr_E g8, sr_E g9, sr_E g10, sr_E g11, sr_E g12, sr_E g13, sr_E g14, sr_E g15)) :
    wpX_multiply post (sr_E f1, sr_E f2, sr_E f3, sr_E f4, sr_E f5, sr_E f6, sr_E f7, sr_E f8, sr_E f9, sr_E f10, sr_E f11, sr_E f12, sr_E f13, sr_E f14, sr_E f15) (nI e) (nI s) (nI t) := by
  unfold wpX_multiply
  exact sr_isE he (br_f sr_one (sr_isS hs (br_f sr_one (sr_isS ht (br_f sr_one (sr_rows he (by omega) (by omega) (by omega) (by omega) hv (fun g1 g5 g6 g7 g8 g9 g10 g11 g12 g13 g14 g15 h => sr_copyRow (a := 5) (by omega) (by omega) (by omega) (fun g h1 h2 => hp g g5 g6 g7 g8 g9 g10 g11 g12 g13 g14 g15 (fun i hi => by
    rw [h1 i hi]
    exact h.1 i hi)))))))))
end
section
theorem sr_iv68 {post : St2 → Prop} {J34 J51 : Int32 → (Nat → Int32) → (Nat → Int32) → (Nat → Int32) → (Nat → Int32) → (Nat → Int32) → (Nat → Int32) → (Nat → Int32) → (Nat → Int32) → (Nat → Int32) → (Nat → Int32) → (Nat → Int32) → (Nat → Int32) → (Nat → Int32) → (Nat → Int32) → (Nat → Int32) → Prop} {x1 x3 : Int32} {g : Nat → sr_F} {a2 a3 a4 a5 a6 a7 a8 a9 a10 a11 a12 a13 a14 a15 : Nat → Int32} {i : Nat} {z : sr_F} (hi : i < 32) (hJ : J51 (nI (i + 1)) (sr_E (sr_u g (8 * 32 + i) (z - g (160 + i)))) a2 a3 a4 a5 a6 a7 a8 a9 a10 a11 a12 a13 a14 a15) : wX_invertRow_68 post J34 J51 x1 x3 (nI i) (sr_e z) (sr_E g) a2 a3 a4 a5 a6 a7 a8 a9 a10 a11 a12 a13 a14 a15 :=
  And.intro (pk_in (160 + i) 384 (by omega) (nI_add 160 i)) (sr_minusv rfl (sr_ra (nI_add 160 i) (by omega)) (sr_write (a := 8) (by omega) (nm_r (nI_1 i) hJ)))
theorem sr_iv51 {post : St2 → Prop} {J : Int32 → (Nat → Int32) → (Nat → Int32) → (Nat → Int32) → (Nat → Int32) → (Nat → Int32) → (Nat → Int32) → (Nat → Int32) → (Nat → Int32) → (Nat → Int32) → (Nat → Int32) → (Nat → Int32) → (Nat → Int32) → (Nat → Int32) → (Nat → Int32) → (Nat → Int32) → Prop} {f1 f2 f3 f4 f5 f6 f7 f8 f9 f10 f11 f12 f13 f14 f15 : Nat → sr_F} {x1 : Int32} {m : Nat} (hv : ∀ k, 1 ≤ k → k < 63 → sr_n k * f2 k = 1)
    (hJ : ∀ g1 g5 g6 g7 g8 g9 g10 g11 g12 g13 g14 g15 : Nat → sr_F, (∀ n, n < 32 → g1 (7 * 32 + n) = sr_c 32 (fun n => (if n = 0 then 2 else 0) - f1 (160 + n)) (fun n => f1 (7 * 32 + n)) n) → (∀ j, j < 160 → g1 j = f1 j) → J (nI (m * 2)) (sr_E g1) (sr_E f2) (sr_E f3) (sr_E f4) (sr_E g5) (sr_E g6) (sr_E g7) (sr_E g8) (sr_E g9) (sr_E g10) (sr_E g11) (sr_E g12) (sr_E g13) (sr_E g14) (sr_E g15)) : ∃ n, wX_invertRow_51 post J x1 (nI m) n 0 (sr_E f1) (sr_E f2) (sr_E f3) (sr_E f4) (sr_E f5) (sr_E f6) (sr_E f7) (sr_E f8) (sr_E f9) (sr_E f10) (sr_E f11) (sr_E f12) (sr_E f13) (sr_E f14) (sr_E f15) := by
  refine pk_loop (fun n i g => wX_invertRow_51 post J x1 (nI m) n (nI i) (sr_E g) (sr_E f2) (sr_E f3) (sr_E f4) (sr_E f5) (sr_E f6) (sr_E f7) (sr_E f8) (sr_E f9) (sr_E f10) (sr_E f11) (sr_E f12) (sr_E f13) (sr_E f14) (sr_E f15)) (fun i g => (∀ n, n < i → g (8 * 32 + n) = (if n = 0 then 2 else 0) - f1 (160 + n)) ∧ (∀ j, (j < 8 * 32 ∨ 8 * 32 + i ≤ j) → g j = f1 j)) 32 0 f1 (by omega) ⟨fun n h => absurd h (by omega), fun _ _ => rfl⟩
    (fun n g h => pk_le 32 32 (fun _ => sr_rows (e := 3) (a := 8) (b := 7) (by omega) (by omega) (by omega) (by omega) (by omega) hv (fun g1 g5 g6 g7 g8 g9 g10 g11 g12 g13 g14 g15 hR => sr_copyRow (a := 5) (b := 7) (by omega) (by omega) (by omega) (fun k1 hk1 hk2 => nm_r (pk_mul m 2) (hJ k1 g5 g6 g7 g8 g9 g10 g11 g12 g13 g14 g15 (fun n hn => ?_) (fun j hj => ?_))))) (fun z => absurd z (by omega)))
    (fun n i g hi h hw => pk_le 32 i (fun z => absurd z (by omega)) (fun _ => pk_eq i 0 (fun z => sr_iv68 (z := 2) hi (hw _ ⟨fun k hk => ?_, fun j hj => ?_⟩)) (fun z => sr_iv68 (z := 0) hi (hw _ ⟨fun k hk => ?_, fun j hj => ?_⟩))))
  · rw [hk1 n hn, show 5 * 32 + n = 160 + n by omega, hR.1 n hn]
    exact sr_ccg (fun i hi => h.1 i hi) (fun i hi => h.2 _ (by omega)) n
  · rw [hk2 j (by omega), hR.2 j (by omega), h.2 j (by omega)]
  · by_cases e : k = i
    · rw [sr_ut (by omega), if_pos (by omega), h.2 _ (by omega), e]
    · rw [sr_un (by omega)]
      exact h.1 k (by omega)
  · rw [sr_un (by omega)]
    exact h.2 j (by omega)
  · by_cases e : k = i
    · rw [sr_ut (by omega), if_neg (by omega), h.2 _ (by omega), e]
    · rw [sr_un (by omega)]
      exact h.1 k (by omega)
  · rw [sr_un (by omega)]
    exact h.2 j (by omega)
theorem sr_iv34 {post : St2 → Prop} {f1 f2 f3 f4 f5 f6 f7 f8 f9 f10 f11 f12 f13 f14 f15 : Nat → sr_F} {w : sr_F} (hv : ∀ k, 1 ≤ k → k < 63 → sr_n k * f2 k = 1) (ha : ∀ i, i < 32 → f1 (2 * 32 + i) = if i = 0 then 1 else if i = 1 then -w else 0) (h7 : ∀ i, i < 32 → f1 (7 * 32 + i) = sr_gm w 1 i)
    (hp : ∀ g1 g5 g6 g7 g8 g9 g10 g11 g12 g13 g14 g15 : Nat → sr_F, (∀ i, i < 32 → g1 (7 * 32 + i) = sr_gm w 32 i) → (∀ j, j < 160 → g1 j = f1 j) → post (sr_E g1, sr_E f2, sr_E f3, sr_E f4, sr_E g5, sr_E g6, sr_E g7, sr_E g8, sr_E g9, sr_E g10, sr_E g11, sr_E g12, sr_E g13, sr_E g14, sr_E g15)) : ∃ n, wX_invertRow_34 post 2 n 1 (sr_E f1) (sr_E f2) (sr_E f3) (sr_E f4) (sr_E f5) (sr_E f6) (sr_E f7) (sr_E f8) (sr_E f9) (sr_E f10) (sr_E f11) (sr_E f12) (sr_E f13) (sr_E f14) (sr_E f15) := by
  refine pk_loop (σ := (Nat → sr_F) × (Nat → sr_F) × (Nat → sr_F) × (Nat → sr_F) × (Nat → sr_F) × (Nat → sr_F) × (Nat → sr_F) × (Nat → sr_F) × (Nat → sr_F) × (Nat → sr_F) × (Nat → sr_F) × (Nat → sr_F)) (fun n i s => wX_invertRow_34 post 2 n (nI (2 ^ i)) (sr_E s.1) (sr_E f2) (sr_E f3) (sr_E f4) (sr_E s.2.1) (sr_E s.2.2.1) (sr_E s.2.2.2.1) (sr_E s.2.2.2.2.1) (sr_E s.2.2.2.2.2.1) (sr_E s.2.2.2.2.2.2.1) (sr_E s.2.2.2.2.2.2.2.1) (sr_E s.2.2.2.2.2.2.2.2.1) (sr_E s.2.2.2.2.2.2.2.2.2.1) (sr_E s.2.2.2.2.2.2.2.2.2.2.1) (sr_E s.2.2.2.2.2.2.2.2.2.2.2)) (fun i s => (∀ n, n < 32 → s.1 (7 * 32 + n) = sr_gm w (2 ^ i) n) ∧ (∀ j, j < 160 → s.1 j = f1 j)) 5 0 (f1, f5, f6, f7, f8, f9, f10, f11, f12, f13, f14, f15) (by omega) ⟨h7, fun _ _ => rfl⟩
    (fun n s h => pk_le 32 (2 ^ 5) (fun _ => hp s.1 s.2.1 s.2.2.1 s.2.2.2.1 s.2.2.2.2.1 s.2.2.2.2.2.1 s.2.2.2.2.2.2.1 s.2.2.2.2.2.2.2.1 s.2.2.2.2.2.2.2.2.1 s.2.2.2.2.2.2.2.2.2.1 s.2.2.2.2.2.2.2.2.2.2.1 s.2.2.2.2.2.2.2.2.2.2.2 h.1 h.2) (fun z => absurd z (by omega)))
    (fun n i s hi h hw => ?_)
  have m0 : 0 < 2 ^ i := Nat.two_pow_pos i
  have m1 : 2 ^ i ≤ 2 ^ 4 := Nat.pow_le_pow_right (by omega) (by omega)
  refine pk_le 32 (2 ^ i) (fun z => absurd z (by omega)) (fun _ => sr_rows (e := 3) (a := 2) (b := 7) (by omega) (by omega) (by omega) (by omega) (by omega) hv (fun g1 g5 g6 g7 g8 g9 g10 g11 g12 g13 g14 g15 hR => sr_iv51 hv (fun k1 k5 k6 k7 k8 k9 k10 k11 k12 k13 k14 k15 c1 c2 => ?_)))
  have w' := hw (k1, k5, k6, k7, k8, k9, k10, k11, k12, k13, k14, k15) ⟨fun n hn => ?_, fun j hj => ?_⟩
  · exact w'
  · show k1 (7 * 32 + n) = _
    rw [c1 n hn, Nat.pow_succ, Nat.mul_comm (2 ^ i) 2]
    refine sr_nw2 (w := w) m0 (fun j hj => ?_) (fun j hj => ?_) hn
    · rw [hR.1 j hj, sr_nw1 (w := w) m0 (fun k hk => (h.2 _ (by omega)).trans (ha k hk)) h.1 hj]
    · rw [hR.2 _ (by omega)]
      exact h.1 j hj
  · show k1 j = f1 j
    rw [c2 j hj, hR.2 j (by omega)]
    exact h.2 j hj
theorem sr_invertRow {post : St2 → Prop} {f1 f2 f3 f4 f5 f6 f7 f8 f9 f10 f11 f12 f13 f14 f15 : Nat → sr_F} {w : sr_F} (hv : ∀ k, 1 ≤ k → k < 63 → sr_n k * f2 k = 1) (ha : ∀ i, i < 32 → f1 (2 * 32 + i) = if i = 0 then 1 else if i = 1 then -w else 0)
    (hp : ∀ g1 g5 g6 g7 g8 g9 g10 g11 g12 g13 g14 g15 : Nat → sr_F, (∀ i, i < 32 → g1 (7 * 32 + i) = sr_gm w 32 i) → (∀ j, j < 160 → g1 j = f1 j) → post (sr_E g1, sr_E f2, sr_E f3, sr_E f4, sr_E g5, sr_E g6, sr_E g7, sr_E g8, sr_E g9, sr_E g10, sr_E g11, sr_E g12, sr_E g13, sr_E g14, sr_E g15)) : wpX_invertRow post (sr_E f1, sr_E f2, sr_E f3, sr_E f4, sr_E f5, sr_E f6, sr_E f7, sr_E f8, sr_E f9, sr_E f10, sr_E f11, sr_E f12, sr_E f13, sr_E f14, sr_E f15) 2 := by
  unfold wpX_invertRow
  refine sr_clearRow (b := 7) (by omega) (fun g h0 h1 => And.intro (pk_in 64 384 (by omega) (by decide)) (sr_powu (b := 1) (e := 12287) ?_ (by decide) sr_pw1 (sr_write (a := 7) (i := 0) (by omega) (sr_iv34 (w := w) hv (fun i hi => ?_) (fun i hi => ?_) (fun k1 k5 k6 k7 k8 k9 k10 k11 k12 k13 k14 k15 c1 c2 => hp k1 k5 k6 k7 k8 k9 k10 k11 k12 k13 k14 k15 c1 (fun j hj => ?_))))))
  · refine (sr_ra (k := 64) (by decide) (by omega)).trans (congrArg sr_e ?_)
    rw [h1 64 (by omega)]
    exact ha 0 (by omega)
  · rw [sr_un (by omega), h1 _ (by omega)]
    exact ha i hi
  · unfold sr_gm
    by_cases e : i = 0
    · rw [sr_ut (by omega), if_pos (by omega), e]
      rfl
    · rw [sr_un (by omega), if_neg (by omega)]
      exact h0 i hi
  · rw [c2 j hj, sr_un (by omega)]
    exact h1 j (by omega)
theorem sr_invert {post : Int32 → St2 → Prop} {f1 f2 f3 f4 f5 f6 f7 f8 f9 f10 f11 f12 f13 f14 f15 : Nat → sr_F} {w : sr_F} (hv : ∀ k, 1 ≤ k → k < 63 → sr_n k * f2 k = 1) (ha : ∀ i, i < 32 → f1 (2 * 32 + i) = if i = 0 then 1 else if i = 1 then -w else 0)
    (hp : ∀ g1 g5 g6 g7 g8 g9 g10 g11 g12 g13 g14 g15 : Nat → sr_F, (∀ i, i < 32 → g1 (2 * 32 + i) = sr_gm w 32 i) → (∀ j, j < 64 → g1 j = f1 j) → post 1 (sr_E g1, sr_E f2, sr_E f3, sr_E f4, sr_E g5, sr_E g6, sr_E g7, sr_E g8, sr_E g9, sr_E g10, sr_E g11, sr_E g12, sr_E g13, sr_E g14, sr_E g15)) : wpX_invert post (sr_E f1, sr_E f2, sr_E f3, sr_E f4, sr_E f5, sr_E f6, sr_E f7, sr_E f8, sr_E f9, sr_E f10, sr_E f11, sr_E f12, sr_E f13, sr_E f14, sr_E f15) 2 := by
  unfold wpX_invert
  refine sr_isS (a := 2) (by omega) (br_f sr_one (sr_cell (a := 2) (i := 0) (by omega) (br_f ?_ (sr_invertRow (w := w) hv ha (fun g1 g5 g6 g7 g8 g9 g10 g11 g12 g13 g14 g15 c1 c2 => sr_copyRow (a := 7) (b := 2) (by omega) (by omega) (by omega) (fun k1 d1 d2 => hp k1 g5 g6 g7 g8 g9 g10 g11 g12 g13 g14 g15 (fun i hi => ?_) (fun j hj => ?_)))))))
  · rw [ha 0 (by omega), if_pos rfl]
    decide
  · rw [d1 i hi]
    exact c1 i hi
  · rw [d2 j (by omega)]
    exact c2 j (by omega)
end
section
theorem sr_cellAt {post : Int32 → Prop} {L : Nat} {xs : Nat → Int32} {k : Nat} (hL : L ≤ 3) (hk : k < 3) (hp : ∀ v, post v) : wpL_cellAt post L xs () (nI k) :=
  pk_le L k (fun _ => hp 0) (fun z => ⟨pk_in k L z, hp _⟩)
theorem sr_neg {v : Int32} (h : -2 ^ 31 < v.toInt) : (-v).toInt = -v.toInt := by
  have h1 := Int32.toInt_lt v
  rw [Int32.toInt_neg, Int.bmod_eq_of_le_mul_two (by omega) (by omega)]
theorem sr_l163 {post : Int32 → St0 → Prop} {mc ms kc ks k : Nat} {v x : Int32} {w : sr_F} (hw : sr_z v.toInt = w) (hx : x = sr_e (sr_p w k)) (hk : k < 32) (hp : post 1 ()) : wL_lawOf_163 post mc ms v (nI k) x kc ks := by
  subst hw
  subst hx
  refine pk_eq k 1 (fun z => sr_mod (br_t ?_ hp)) (fun z => hp)
  subst z
  rw [Int32.toInt_toInt64]
  refine congrArg sr_e ?_
  show 1 * sr_z v.toInt = sr_z v.toInt
  exact sr_1m _
theorem sr_lawOf {post : Int32 → St0 → Prop} (p0 p1 p2 : Int32) (hp : post 1 ()) : wpL_lawOf post 16 2635 () p0 p1 p2 := by
  unfold wpL_lawOf
  refine ⟨by omega, by omega, 15, 2620, by omega, by omega, sr_init (by omega) (by omega) (fun f2 f3 f4 hv => ?_)⟩
  have hv' : ∀ k, 1 ≤ k → k < 63 → sr_n k * f2 k = 1 := fun k h1 h2 => hv k h1 (by omega)
  have b0 : (p0 >>> ((1 : Int32) &&& 31)).toInt = p0.toInt >>> 1 := pk_shr p0 _ 1 (by decide)
  have b1 : -2 ^ 31 < (p0 >>> ((1 : Int32) &&& 31)).toInt := by
    have t := Int32.le_toInt p0
    rw [b0, Int.shiftRight_eq_div_pow]
    omega
  obtain ⟨k, hk, ek⟩ := pk_andE p1 (m := 31) 5 (by decide)
  obtain ⟨q, hq, eq⟩ := pk_andE p2 (m := 65535) 16 (by decide)
  refine nm_e (nm_r ek ⟨by decide, nm_r (e' := nI (q % 5)) ?_ ?_⟩)
  · rw [eq]
    exact pk_rem (d := 5) (by omega) (by omega) (by omega)
  refine sr_fill (s := 0) (by omega) (fun r1 a1 a2 => sr_set (s := 1) (i := 0) (by omega) (by omega) (sr_set (s := 1) (i := 1) (by omega) (by omega) (sr_copy (s := 2) (t := 1) (by omega) (by omega) (by omega) (fun r2 c1 c2 => ?_))))
  rw [sr_neg b1, sr_zn, show sr_z (1 : Int32).toInt = 1 from sr_z1] at c1 c2
  generalize hw : sr_z (p0 >>> ((1 : Int32) &&& 31)).toInt = w at *
  have w0 : ∀ i, i < 32 → r2 (0 * 32 + i) = sr_p w i := fun i hi => by
    rw [c2 _ (by omega), sr_un (by omega), sr_un (by omega)]
    exact a1 i hi
  have w1 : ∀ i, i < 32 → sr_u (sr_u r1 (1 * 32 + 0) 1) (1 * 32 + 1) (-w) (1 * 32 + i) = if i = 0 then 1 else if i = 1 then -w else 0 := fun i hi => by
    by_cases e0 : i = 0
    · rw [if_pos e0, sr_un (by omega), sr_ut (by omega)]
    · rw [if_neg e0]
      by_cases e1 : i = 1
      · rw [if_pos e1, sr_ut (by omega)]
      · rw [if_neg e1, sr_un (by omega), sr_un (by omega)]
        exact a2 _ (by omega)
  refine sr_invert (w := w) hv' (fun i hi => (c1 i hi).trans (w1 i hi)) (fun g1 g5 g6 g7 g8 g9 g10 g11 g12 g13 g14 g15 d1 d2 => ?_)
  have u0 : ∀ i, i < 32 → g1 (0 * 32 + i) = sr_p w i := fun i hi => (d2 _ (by omega)).trans (w0 i hi)
  have u1 : ∀ i, i < 32 → g1 (1 * 32 + i) = if i = 0 then 1 else if i = 1 then -w else 0 := fun i hi => by
    rw [d2 _ (by omega), c2 _ (by omega)]
    exact w1 i hi
  have u2 : ∀ i, i < 32 → g1 (2 * 32 + i) = sr_p w i := fun i hi => (d1 i hi).trans (if_pos hi)
  refine sr_coefficient (s := 0) (by omega) hk (sr_coefficient (s := 2) (by omega) hk (sr_multiply (s := 0) (t := 1) (by omega) (by omega) (by omega) hv' (fun k1 k5 k6 k7 k8 k9 k10 k11 k12 k13 k14 k15 m1 => ?_)))
  have n1 : ∀ i, i < 32 → k1 (0 * 32 + i) = if i = 0 then 1 else 0 := fun i hi => by
    rw [m1 i hi]
    exact sr_nw3 (w := w) u1 (fun j hj => (u0 j hj).trans (if_pos hj).symm) hi
  refine sr_coefficient (s := 0) (i := 0) (by omega) (by omega) (sr_degree (s := 0) (by omega) ?_ (fun i h1 h2 => ?_) ?_)
  · have t : k1 (0 * 32) = 1 := n1 0 (by omega)
    rw [t]
    decide
  · rw [n1 i h2, if_neg (by omega)]
  · rw [u0 k hk, u2 k hk, n1 0 (by omega), if_pos rfl]
    refine br_f sr_one (br_f sr_one (br_f sr_one (br_t rfl (br_t rfl (br_t rfl (pk_lt 0 k (fun _ => sr_l163 hw rfl hk hp) (fun z => ?_)))))))
    have k0 : k = 0 := by omega
    subst k0
    exact br_t rfl (br_t rfl (sr_l163 hw rfl hk hp))
theorem i_vc (xs : Nat → Int32) (L : Nat) (hL : L ≤ 3) : wpL_law (fun r => r = 1) L xs := by
  unfold wpL_law
  exact sr_cellAt (k := 0) hL (by omega) (fun v0 => sr_cellAt (k := 1) hL (by omega) (fun v1 => sr_cellAt (k := 2) hL (by omega) (fun v2 => ⟨16, 2635, by omega, by omega, sr_lawOf v0 v1 v2 rfl⟩)))
end
