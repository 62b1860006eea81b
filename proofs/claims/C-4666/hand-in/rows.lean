section
/-! rows of the kit (kit/rows/PURE-ROWS), pasted -/
theorem pk_us {f : Nat → Int32} {k : Nat} {x : Int32} : upd f k x k = x := if_pos rfl
theorem pk_un {f : Nat → Int32} {k j : Nat} {x : Int32} (h : j ≠ k) : upd f k x j = f j := if_neg h
theorem pk_sub {a b : Nat} (h : b ≤ a) : nI a - nI b = nI (a - b) := by
  obtain ⟨c, rfl⟩ : ∃ c, a = c + b := ⟨a - b, by omega⟩
  rw [← nI_add, Int32.add_sub_cancel, Nat.add_sub_cancel]
theorem pk_m1 (n : Nat) : nI (n + 1) + (-1) = nI n := by
  rw [← nI_1, Int32.add_assoc, show (1 : Int32) + (-1) = 0 from rfl, Int32.add_zero]
theorem pk_mul (a b : Nat) : nI a * nI b = nI (a * b) := (Int32.ofNat_mul a b).symm
theorem pk_le {x y : Int32} {A B : Prop} (a b : Nat) (f : a ≤ b → A) (g : b < a → B) (hx : x = nI a := by rfl) (hy : y = nI b := by rfl) (ha : a < 2 ^ 31 := by omega) (hb : b < 2 ^ 31 := by omega) : (x ≤ y → A) ∧ (¬ x ≤ y → B) := by
  subst hx hy
  rw [nI_leI ha hb]
  exact ⟨f, fun z => g (by omega)⟩
theorem pk_lt {x y : Int32} {A B : Prop} (a b : Nat) (f : a < b → A) (g : b ≤ a → B) (hx : x = nI a := by rfl) (hy : y = nI b := by rfl) (ha : a < 2 ^ 31 := by omega) (hb : b < 2 ^ 31 := by omega) : (x < y → A) ∧ (¬ x < y → B) := by
  subst hx hy
  rw [nI_ltI ha hb]
  exact ⟨f, fun z => g (by omega)⟩
theorem pk_eq {x y : Int32} {A B : Prop} (a b : Nat) (f : a = b → A) (g : a ≠ b → B) (hx : x = nI a := by rfl) (hy : y = nI b := by rfl) (ha : a < 2 ^ 31 := by omega) (hb : b < 2 ^ 31 := by omega) : (x = y → A) ∧ (¬ x = y → B) := by
  subst hx hy
  rw [nI_eq ha hb]
  exact ⟨f, g⟩
theorem pk_in {x : Int32} (n N : Nat) (h : n < N) (hx : x = nI n := by rfl) (hN : N < 2 ^ 31 := by omega) : vp_in x N := by
  subst hx
  exact vp_in_nI h hN
theorem pk_cl {x : Int32} (n : Nat) (hx : x = nI n := by rfl) (h : n < 2 ^ 31 := by omega) : x.toNatClampNeg = n := by
  subst hx
  exact nI_clamp h
theorem pk_tn {n : Nat} (h : n < 2 ^ 32) : (nI n).toBitVec.toNat = n := Nat.mod_eq_of_lt h
theorem pk_and (x : Int32) {m : Int32} (k : Nat) (hm : m.toBitVec.toNat = 2 ^ k - 1) : x &&& m = nI (x.toBitVec.toNat % 2 ^ k) := by
  apply Int32.toBitVec_inj.mp
  apply BitVec.eq_of_toNat_eq
  rw [Int32.toBitVec_and, BitVec.toNat_and, hm, Nat.and_two_pow_sub_one_eq_mod]
  show _ = (BitVec.ofNat 32 _).toNat
  rw [BitVec.toNat_ofNat]
  exact (Nat.mod_eq_of_lt (Nat.lt_of_le_of_lt (Nat.mod_le _ _) x.toBitVec.isLt)).symm
theorem pk_andN {n : Nat} (h : n < 2 ^ 32) {m : Int32} (k : Nat) (hm : m.toBitVec.toNat = 2 ^ k - 1) : nI n &&& m = nI (n % 2 ^ k) := by
  rw [pk_and _ k hm, pk_tn h]
end
section
/-! the field of eight symbols: words of three bits, product and quotient by table -/
def gf_mul (a b : BitVec 3) : BitVec 3 := BitVec.ofNat 3 (Nat.shiftRight 2821848294356612419217921029917578219971947684264937521152 (Nat.mul 3 (Nat.add (Nat.mul 8 a.toNat) b.toNat)))
def gf_div (a b : BitVec 3) : BitVec 3 := BitVec.ofNat 3 (Nat.shiftRight 1047628189932426741136043465902155670087605318451074170880 (Nat.mul 3 (Nat.add (Nat.mul 8 a.toNat) b.toNat)))
def gf_pw (k : Nat) : BitVec 3 := BitVec.ofNat 3 (Nat.shiftRight 3285150328593 (Nat.mul 3 k))
def gf_ex (a : BitVec 3) : Nat := Nat.mod (Nat.shiftRight 11740736 (Nat.mul 3 a.toNat)) 8
def gf_I (a : BitVec 3) : Int32 := nI a.toNat
theorem gf_zx : ∀ a : BitVec 3, 0 ^^^ a = a := by decide +kernel
theorem gf_xz : ∀ a : BitVec 3, a ^^^ 0 = a := by decide +kernel
theorem gf_xx : ∀ a : BitVec 3, a ^^^ a = 0 := by decide +kernel
theorem gf_xk : ∀ a b : BitVec 3, a ^^^ (a ^^^ b) = b := by decide +kernel
theorem gf_x0 : ∀ a b : BitVec 3, a ^^^ b = 0 ↔ a = b := by decide +kernel
theorem gf_comm : ∀ a b, gf_mul a b = gf_mul b a := by decide +kernel
theorem gf_assoc : ∀ a b c, gf_mul (gf_mul a b) c = gf_mul a (gf_mul b c) := by decide +kernel
theorem gf_dr : ∀ a b c, gf_mul (a ^^^ b) c = gf_mul a c ^^^ gf_mul b c := by decide +kernel
theorem gf_dl : ∀ a b c, gf_mul a (b ^^^ c) = gf_mul a b ^^^ gf_mul a c := by decide +kernel
theorem gf_0m : ∀ a, gf_mul 0 a = 0 := by decide +kernel
theorem gf_m0 : ∀ a, gf_mul a 0 = 0 := by decide +kernel
theorem gf_m1 : ∀ a, gf_mul a 1 = a := by decide +kernel
theorem gf_0d : ∀ a, gf_div 0 a = 0 := by decide +kernel
theorem gf_dm : ∀ a b, b ≠ 0 → gf_div (gf_mul a b) b = a := by decide +kernel
theorem gf_mne : ∀ a b, a ≠ 0 → b ≠ 0 → gf_mul a b ≠ 0 := by decide +kernel
theorem gf_pne : ∀ k, k < 14 → gf_pw k ≠ 0 := by decide +kernel
theorem gf_I0 : gf_I 0 = 0 := by decide +kernel
theorem gf_I_0 : ∀ a, gf_I a = 0 ↔ a = 0 := by decide +kernel
theorem gf_I_inj : ∀ a b, gf_I a = gf_I b ↔ a = b := by decide +kernel
theorem gf_I_xor : ∀ a b, gf_I a ^^^ gf_I b = gf_I (a ^^^ b) := by decide +kernel
theorem gf_cl (a : BitVec 3) : (gf_I a).toNatClampNeg = a.toNat := nI_clamp (Nat.lt_of_lt_of_le a.isLt (by decide))
theorem gf_in (a : BitVec 3) : vp_in (gf_I a) 8 := vp_in_nI a.isLt (by decide)
theorem gf_e14 : ∀ a b, gf_ex a + gf_ex b < 14 := by decide +kernel
theorem gf_e7 : ∀ a b, gf_ex b ≤ gf_ex a + 7 ∧ gf_ex a + 7 - gf_ex b < 14 := by decide +kernel
theorem gf_pe : ∀ a b, a ≠ 0 → b ≠ 0 → gf_pw (gf_ex a + gf_ex b) = gf_mul a b := by decide +kernel
theorem gf_pd : ∀ a b, a ≠ 0 → gf_pw (gf_ex a + 7 - gf_ex b) = gf_div a b := by decide +kernel
theorem gf_of {x : Int32} (h : ¬ x < 0) (h7 : x ≤ 7) : ∃ a : BitVec 3, x = gf_I a := by
  obtain ⟨j, hj, rfl⟩ := nI_of2 (n := 7) (M := 7) (by decide) h h7
  exact ⟨BitVec.ofNat 3 j, by show nI j = nI (j % 8); rw [Nat.mod_eq_of_lt (by omega)]⟩
/-! sums (by xor) -/
def gf_sum (f : Nat → BitVec 3) : Nat → BitVec 3
  | 0 => 0
  | n + 1 => gf_sum f n ^^^ f n
theorem gf_sum_congr {f g : Nat → BitVec 3} : ∀ n, (∀ k, k < n → f k = g k) → gf_sum f n = gf_sum g n := by
  intro n
  induction n with
  | zero => intro _; rfl
  | succ n ih =>
    intro h
    show gf_sum f n ^^^ f n = gf_sum g n ^^^ g n
    rw [ih (fun k hk => h k (by omega)), h n (by omega)]
theorem gf_x4 (a b c d : BitVec 3) : (a ^^^ b) ^^^ (c ^^^ d) = (a ^^^ c) ^^^ (b ^^^ d) := by
  rw [BitVec.xor_assoc, BitVec.xor_assoc, ← BitVec.xor_assoc b c d, BitVec.xor_comm b c, BitVec.xor_assoc c b d]
theorem gf_sum_xor {f g : Nat → BitVec 3} : ∀ n, gf_sum (fun k => f k ^^^ g k) n = gf_sum f n ^^^ gf_sum g n := by
  intro n
  induction n with
  | zero => exact (by decide : (0 : BitVec 3) = 0 ^^^ 0)
  | succ n ih =>
    show gf_sum (fun k => f k ^^^ g k) n ^^^ (f n ^^^ g n) = (gf_sum f n ^^^ f n) ^^^ (gf_sum g n ^^^ g n)
    rw [ih, gf_x4]
theorem gf_sum_mul {f : Nat → BitVec 3} {c : BitVec 3} : ∀ n, gf_sum (fun k => gf_mul c (f k)) n = gf_mul c (gf_sum f n) := by
  intro n
  induction n with
  | zero => exact (gf_m0 c).symm
  | succ n ih =>
    show gf_sum (fun k => gf_mul c (f k)) n ^^^ gf_mul c (f n) = gf_mul c (gf_sum f n ^^^ f n)
    rw [ih, gf_dl]
theorem gf_sum_zero {f : Nat → BitVec 3} : ∀ n, (∀ k, k < n → f k = 0) → gf_sum f n = 0 := by
  intro n
  induction n with
  | zero => intro _; rfl
  | succ n ih =>
    intro h
    show gf_sum f n ^^^ f n = 0
    rw [ih (fun k hk => h k (by omega)), h n (by omega)]
    decide
theorem gf_sum_one {f : Nat → BitVec 3} {q : Nat} : ∀ n, q < n → (∀ k, k < n → k ≠ q → f k = 0) → gf_sum f n = f q := by
  intro n
  induction n with
  | zero => intro h; omega
  | succ n ih =>
    intro hq h
    show gf_sum f n ^^^ f n = f q
    by_cases e : q = n
    · subst e
      rw [gf_sum_zero q (fun k hk => h k (by omega) (by omega)), gf_zx]
    · rw [ih (by omega) (fun k hk hk' => h k (by omega) hk'), h n (by omega) (by omega), gf_xz]
/-- a linear map of sequences: its value at a combination of sequences -/
def gf_Lin (L : (Nat → BitVec 3) → BitVec 3) : Prop := (∀ a b : Nat → BitVec 3, L (fun j => a j ^^^ b j) = L a ^^^ L b) ∧ (∀ (c : BitVec 3) (a : Nat → BitVec 3), L (fun j => gf_mul c (a j)) = gf_mul c (L a)) ∧ L (fun _ => 0) = 0
theorem gf_lin_sum {L : (Nat → BitVec 3) → BitVec 3} (h : gf_Lin L) (e : Nat → BitVec 3) (B : Nat → Nat → BitVec 3) : ∀ n, L (fun j => gf_sum (fun q => gf_mul (e q) (B q j)) n) = gf_sum (fun q => gf_mul (e q) (L (B q))) n := by
  intro n
  induction n with
  | zero => exact h.2.2
  | succ n ih =>
    show L (fun j => gf_sum (fun q => gf_mul (e q) (B q j)) n ^^^ gf_mul (e n) (B n j)) = gf_sum (fun q => gf_mul (e q) (L (B q))) n ^^^ gf_mul (e n) (L (B n))
    rw [h.1, ih, h.2.1]
theorem gf_lin_at {c : BitVec 3} {i : Nat} : gf_Lin (fun S => gf_mul c (S i)) := by
  refine ⟨fun a b => gf_dl _ _ _, fun d a => ?_, gf_m0 c⟩
  show gf_mul c (gf_mul d (a i)) = gf_mul d (gf_mul c (a i))
  rw [← gf_assoc, gf_comm c d, gf_assoc]
theorem gf_lin_of_sum {F : Nat → (Nat → BitVec 3) → BitVec 3} (h : ∀ k, gf_Lin (F k)) : ∀ n, gf_Lin (fun S => gf_sum (fun k => F k S) n) := by
  intro n
  refine ⟨fun a b => ?_, fun c a => ?_, ?_⟩
  · show gf_sum (fun k => F k (fun j => a j ^^^ b j)) n = gf_sum (fun k => F k a) n ^^^ gf_sum (fun k => F k b) n
    rw [← gf_sum_xor]
    exact gf_sum_congr n (fun k _ => (h k).1 a b)
  · show gf_sum (fun k => F k (fun j => gf_mul c (a j))) n = gf_mul c (gf_sum (fun k => F k a) n)
    rw [← gf_sum_mul]
    exact gf_sum_congr n (fun k _ => (h k).2.1 c a)
  · exact gf_sum_zero n (fun k _ => (h k).2.2)
theorem gf_lin_mul {L : (Nat → BitVec 3) → BitVec 3} (h : gf_Lin L) (x : BitVec 3) : gf_Lin (fun S => gf_mul (L S) x) := by
  refine ⟨fun a b => ?_, fun c a => ?_, ?_⟩
  · show gf_mul (L (fun j => a j ^^^ b j)) x = gf_mul (L a) x ^^^ gf_mul (L b) x
    rw [h.1, gf_dr]
  · show gf_mul (L (fun j => gf_mul c (a j))) x = gf_mul c (gf_mul (L a) x)
    rw [h.2.1, gf_assoc]
  · show gf_mul (L (fun _ => 0)) x = 0
    rw [h.2.2, gf_0m]
theorem gf_lin_0 : gf_Lin (fun _ => 0) := ⟨fun _ _ => (by decide : (0 : BitVec 3) = 0 ^^^ 0), fun c _ => (gf_m0 c).symm, rfl⟩
/-! powers, and the value of a word at a symbol -/
def gf_pow (x : BitVec 3) : Nat → BitVec 3
  | 0 => 1
  | n + 1 => gf_mul (gf_pow x n) x
def gf_hor (w : Nat → BitVec 3) (x : BitVec 3) : Nat → BitVec 3 → BitVec 3
  | 0, s => s
  | i + 1, s => gf_hor w x i (gf_mul s x ^^^ w i)
theorem gf_hor_sum (w : Nat → BitVec 3) (x : BitVec 3) : ∀ n s, gf_hor w x n s = gf_mul s (gf_pow x n) ^^^ gf_sum (fun i => gf_mul (w i) (gf_pow x i)) n := by
  intro n
  induction n with
  | zero =>
    intro s
    show s = gf_mul s 1 ^^^ 0
    rw [gf_m1, gf_xz]
  | succ n ih =>
    intro s
    show gf_hor w x n (gf_mul s x ^^^ w n) = gf_mul s (gf_mul (gf_pow x n) x) ^^^ (gf_sum (fun i => gf_mul (w i) (gf_pow x i)) n ^^^ gf_mul (w n) (gf_pow x n))
    rw [ih, gf_dr, gf_assoc, gf_comm x, BitVec.xor_assoc, BitVec.xor_comm (gf_mul (w n) (gf_pow x n))]
theorem gf_hor0 (w : Nat → BitVec 3) (x : BitVec 3) : gf_hor w x 7 0 = gf_sum (fun i => gf_mul (w i) (gf_pow x i)) 7 := by
  rw [gf_hor_sum, gf_0m, gf_zx]
end
section
/-! the decoder, without the program: polynomials as lists of ten symbols -/
def rs_g (L : List (BitVec 3)) (k : Nat) : BitVec 3 := L.getD k 0
def rs_tb (f : Nat → BitVec 3) : List (BitVec 3) := [f 0, f 1, f 2, f 3, f 4, f 5, f 6, f 7, f 8, f 9]
theorem rs_gt {f : Nat → BitVec 3} : ∀ {k : Nat}, k < 10 → rs_g (rs_tb f) k = f k
  | 0, _ => rfl
  | 1, _ => rfl
  | 2, _ => rfl
  | 3, _ => rfl
  | 4, _ => rfl
  | 5, _ => rfl
  | 6, _ => rfl
  | 7, _ => rfl
  | 8, _ => rfl
  | 9, _ => rfl
  | n + 10, h => absurd h (by omega)
/-- times 1 + x t -/
def rs_mx (R : List (BitVec 3)) (x : BitVec 3) : List (BitVec 3) := rs_tb (fun k => if k = 0 then rs_g R 0 else rs_g R k ^^^ gf_mul (rs_g R (k - 1)) x)
/-- a factor for each missing place below p -/
def rs_era (M : Nat → Bool) : Nat → List (BitVec 3)
  | 0 => rs_tb (fun k => if k = 0 then 1 else 0)
  | p + 1 => cond (M p) (rs_mx (rs_era M p) (gf_pw p)) (rs_era M p)
def rs_gap (R : List (BitVec 3)) (S : Nat → BitVec 3) (r : Nat) : BitVec 3 := gf_sum (fun k => gf_mul (rs_g R k) (S (r - k))) r
def rs_sh (H : List (BitVec 3)) : List (BitVec 3) := rs_tb (fun k => if k = 0 then 0 else rs_g H (k - 1))
def rs_add (R : List (BitVec 3)) (g : BitVec 3) (H : List (BitVec 3)) : List (BitVec 3) := rs_tb (fun k => rs_g R k ^^^ gf_mul g (rs_g H k))
def rs_ov (R : List (BitVec 3)) (g : BitVec 3) : List (BitVec 3) := rs_tb (fun k => gf_div (rs_g R k) g)
def rs_len (g : BitVec 3) (l r : Nat) (R H : List (BitVec 3)) (L : Nat) : List (BitVec 3) × List (BitVec 3) × Nat :=
  if r + l - 1 < 2 * L then (rs_add R g H, H, L) else (rs_add R g H, rs_ov R g, r + l - L)
def rs_nx (g : BitVec 3) (l r : Nat) (R H : List (BitVec 3)) (L : Nat) : List (BitVec 3) × List (BitVec 3) × Nat :=
  if g = 0 then (R, rs_sh H, L) else rs_len g l r R (rs_sh H) L
def rs_st (l r : Nat) (S : Nat → BitVec 3) (s : List (BitVec 3) × List (BitVec 3) × Nat) : List (BitVec 3) × List (BitVec 3) × Nat :=
  rs_nx (rs_gap s.1 S r) l r s.1 s.2.1 s.2.2
def rs_bm (l : Nat) (S : Nat → BitVec 3) : Nat → Nat → List (BitVec 3) × List (BitVec 3) × Nat → List (BitVec 3) × List (BitVec 3) × Nat
  | 0, _, s => s
  | d + 1, r, s => rs_bm l S d (r + 1) (rs_st l r S s)
/-- how many are missing -/
def rs_ct (M : Nat → Bool) : Nat → Nat
  | 0 => 0
  | n + 1 => rs_ct M n + cond (M n) 1 0
/-- in how many places that are not missing two words differ -/
def rs_df (M : Nat → Bool) (w a : Nat → BitVec 3) : Nat → Nat
  | 0 => 0
  | n + 1 => rs_df M w a n + cond (M n) 0 (if w n = a n then 0 else 1)
def rs_rule (M : Nat → Bool) (S : Nat → BitVec 3) : List (BitVec 3) :=
  (rs_bm (rs_ct M 7) S (4 - rs_ct M 7) (rs_ct M 7 + 1) (rs_era M 7, rs_era M 7, rs_ct M 7)).1
def rs_num (R : List (BitVec 3)) (S : Nat → BitVec 3) (k : Nat) : BitVec 3 := gf_sum (fun i => gf_mul (rs_g R i) (S (k - i + 1))) (k + 1)
def rs_fs (R : List (BitVec 3)) (x : BitVec 3) (k : Nat) : BitVec 3 := gf_mul (rs_g R k) (gf_pow x k)
def rs_fo (R : List (BitVec 3)) (x : BitVec 3) (k : Nat) : BitVec 3 := if k % 2 = 0 then 0 else rs_fs R x k
def rs_fu (N : Nat → BitVec 3) (x : BitVec 3) (k : Nat) : BitVec 3 := if k < 4 then gf_mul (N k) (gf_pow x k) else 0
def rs_sm (R : List (BitVec 3)) (p : Nat) : BitVec 3 := gf_sum (rs_fs R (gf_pw (7 - p))) 8
def rs_od (R : List (BitVec 3)) (p : Nat) : BitVec 3 := gf_sum (rs_fo R (gf_pw (7 - p))) 8
def rs_up (N : Nat → BitVec 3) (p : Nat) : BitVec 3 := gf_sum (rs_fu N (gf_pw (7 - p))) 8
def rs_cor (R : List (BitVec 3)) (N : Nat → BitVec 3) (p : Nat) : BitVec 3 :=
  if rs_sm R p = 0 ∧ rs_od R p ≠ 0 then gf_div (rs_up N p) (gf_mul (rs_od R p) (gf_pw p)) else 0
/-- the values at the roots -/
def rs_syn (w : Nat → BitVec 3) (j : Nat) : BitVec 3 := gf_hor w (gf_pw j) 7 0
def rs_dec (M : Nat → Bool) (w : Nat → BitVec 3) (p : Nat) : BitVec 3 :=
  w p ^^^ rs_cor (rs_rule M (rs_syn w)) (rs_num (rs_rule M (rs_syn w)) (rs_syn w)) p
def rs_zero (w : Nat → BitVec 3) : Prop := ∀ j, 1 ≤ j → j < 5 → rs_syn w j = 0
def rs_near (M : Nat → Bool) (w a : Nat → BitVec 3) : Prop := 2 * rs_df M w a 7 + rs_ct M 7 ≤ 4
def rs_ok (M : Nat → Bool) (w : Nat → BitVec 3) : Prop := rs_zero (rs_dec M w) ∧ rs_near M w (rs_dec M w)
/-! linearity -/
def rs_B (q j : Nat) : BitVec 3 := gf_pw (q * j % 7)
theorem rs_pB : ∀ q, q < 7 → ∀ j, j < 5 → gf_pow (gf_pw j) q = rs_B q j := by decide +kernel
theorem rs_syn_sum (w : Nat → BitVec 3) {j : Nat} (hj : j < 5) : rs_syn w j = gf_sum (fun q => gf_mul (w q) (rs_B q j)) 7 := by
  unfold rs_syn
  rw [gf_hor0]
  exact gf_sum_congr 7 (fun q hq => by rw [rs_pB q hq j hj])
theorem rs_syn_xor (a b : Nat → BitVec 3) {j : Nat} (hj : j < 5) : rs_syn (fun p => a p ^^^ b p) j = rs_syn a j ^^^ rs_syn b j := by
  rw [rs_syn_sum _ hj, rs_syn_sum _ hj, rs_syn_sum _ hj, ← gf_sum_xor]
  exact gf_sum_congr 7 (fun q _ => gf_dr _ _ _)
theorem rs_gap_lin (R : List (BitVec 3)) (r : Nat) : gf_Lin (fun S => rs_gap R S r) := gf_lin_of_sum (F := fun k S => gf_mul (rs_g R k) (S (r - k))) (fun k => gf_lin_at) r
theorem rs_gap_congr {R : List (BitVec 3)} {S S' : Nat → BitVec 3} {r : Nat} (h : ∀ j, 1 ≤ j → j < 5 → S j = S' j) (hr : r < 5) : rs_gap R S r = rs_gap R S' r :=
  gf_sum_congr r (fun k hk => by rw [h (r - k) (by omega) (by omega)])
theorem rs_num_lin (R : List (BitVec 3)) (k : Nat) : gf_Lin (fun S => rs_num R S k) := gf_lin_of_sum (F := fun i S => gf_mul (rs_g R i) (S (k - i + 1))) (fun i => gf_lin_at) (k + 1)
theorem rs_fu_lin (R : List (BitVec 3)) (x : BitVec 3) (k : Nat) : gf_Lin (fun S => rs_fu (rs_num R S) x k) := by
  by_cases hk : k < 4
  · have e : (fun S => rs_fu (rs_num R S) x k) = fun S => gf_mul (rs_num R S k) (gf_pow x k) := funext fun S => if_pos hk
    rw [e]
    exact gf_lin_mul (rs_num_lin R k) _
  · have e : (fun S => rs_fu (rs_num R S) x k) = fun _ => 0 := funext fun S => if_neg hk
    rw [e]
    exact gf_lin_0
theorem rs_up_lin (R : List (BitVec 3)) (p : Nat) : gf_Lin (fun S => rs_up (rs_num R S) p) :=
  gf_lin_of_sum (F := fun k S => rs_fu (rs_num R S) (gf_pw (7 - p)) k) (fun k => rs_fu_lin R _ k) 8
theorem rs_num_congr {R : List (BitVec 3)} {S S' : Nat → BitVec 3} {k : Nat} (h : ∀ j, 1 ≤ j → j < 5 → S j = S' j) (hk : k < 4) : rs_num R S k = rs_num R S' k :=
  gf_sum_congr (k + 1) (fun i hi => by rw [h (k - i + 1) (by omega) (by omega)])
theorem rs_up_congr {R : List (BitVec 3)} {S S' : Nat → BitVec 3} {p : Nat} (h : ∀ j, 1 ≤ j → j < 5 → S j = S' j) : rs_up (rs_num R S) p = rs_up (rs_num R S') p :=
  gf_sum_congr 8 (fun k _ => by
    unfold rs_fu
    by_cases hk : k < 4
    · rw [if_pos hk, if_pos hk, rs_num_congr h hk]
    · rw [if_neg hk, if_neg hk])
/-! entries -/
theorem rs_mx_0 {R : List (BitVec 3)} {x : BitVec 3} : rs_g (rs_mx R x) 0 = rs_g R 0 := rfl
theorem rs_mx_s {R : List (BitVec 3)} {x : BitVec 3} {k : Nat} (h : k + 1 < 10) : rs_g (rs_mx R x) (k + 1) = rs_g R (k + 1) ^^^ gf_mul (rs_g R k) x := by
  unfold rs_mx
  rw [rs_gt h, if_neg (by omega), Nat.add_sub_cancel]
theorem rs_era_0 {M : Nat → Bool} {k : Nat} (h : k < 10) : rs_g (rs_era M 0) k = if k = 0 then 1 else 0 := rs_gt h
theorem rs_sh_0 {H : List (BitVec 3)} : rs_g (rs_sh H) 0 = 0 := rfl
theorem rs_sh_s {H : List (BitVec 3)} {k : Nat} (h : k + 1 < 10) : rs_g (rs_sh H) (k + 1) = rs_g H k := by
  unfold rs_sh
  rw [rs_gt h, if_neg (by omega), Nat.add_sub_cancel]
theorem rs_add_at {R H : List (BitVec 3)} {g : BitVec 3} {k : Nat} (h : k < 10) : rs_g (rs_add R g H) k = rs_g R k ^^^ gf_mul g (rs_g H k) := rs_gt h
theorem rs_ov_at {R : List (BitVec 3)} {g : BitVec 3} {k : Nat} (h : k < 10) : rs_g (rs_ov R g) k = gf_div (rs_g R k) g := rs_gt h
theorem rs_nx_le {g : BitVec 3} {l r L : Nat} {R H : List (BitVec 3)} (hr : r ≤ 4) (hl : l ≤ 4) (hL : L ≤ 8) : (rs_nx g l r R H L).2.2 ≤ 8 := by
  unfold rs_nx rs_len
  by_cases h : g = 0
  · rw [if_pos h]; exact hL
  · rw [if_neg h]
    by_cases h2 : r + l - 1 < 2 * L
    · rw [if_pos h2]; exact hL
    · rw [if_neg h2]; show r + l - L ≤ 8; omega
theorem rs_ct_le (M : Nat → Bool) : ∀ n, rs_ct M n ≤ n := by
  intro n
  induction n with
  | zero => exact Nat.le_refl _
  | succ n ih =>
    show rs_ct M n + cond (M n) 1 0 ≤ n + 1
    cases M n with
    | true => show rs_ct M n + 1 ≤ n + 1; omega
    | false => show rs_ct M n + 0 ≤ n + 1; omega
theorem rs_df_le (M : Nat → Bool) (w a : Nat → BitVec 3) : ∀ n, rs_df M w a n ≤ n := by
  intro n
  induction n with
  | zero => exact Nat.le_refl _
  | succ n ih =>
    show rs_df M w a n + cond (M n) 0 (if w n = a n then 0 else 1) ≤ n + 1
    cases M n with
    | true => show rs_df M w a n + 0 ≤ n + 1; omega
    | false =>
      show rs_df M w a n + (if w n = a n then 0 else 1) ≤ n + 1
      by_cases h : w n = a n
      · rw [if_pos h]; omega
      · rw [if_neg h]; omega
end
section
/-! what the kernel reckons: all patterns of missing places and errors within the bound -/
def rs_b (M : List Bool) (p : Nat) : Bool := M.getD p false
def rs_all (f : Nat → Bool) : Nat → Bool
  | 0 => true
  | n + 1 => rs_all f n && f n
theorem rs_all_at {f : Nat → Bool} : ∀ {n : Nat}, rs_all f n = true → ∀ k, k < n → f k = true := by
  intro n
  induction n with
  | zero => intro _ k hk; omega
  | succ n ih =>
    intro h k hk
    have h' : (rs_all f n && f n) = true := h
    rw [Bool.and_eq_true] at h'
    by_cases e : k = n
    · rw [e]; exact h'.2
    · exact ih h'.1 k (by omega)
def rs_z (a : BitVec 3) : Bool := Nat.beq a.toNat 0
theorem rs_z_iff : ∀ a, rs_z a = true ↔ a = 0 := by decide +kernel
def rs_q (a b : BitVec 3) : Bool := Nat.beq a.toNat b.toNat
theorem rs_q_iff : ∀ a b, rs_q a b = true ↔ a = b := by decide +kernel
def rs_eq : List (BitVec 3) → List (BitVec 3) → Bool
  | [], [] => true
  | a :: l, b :: m => rs_q a b && rs_eq l m
  | _, _ => false
theorem rs_eq_of : ∀ l m, rs_eq l m = true → l = m
  | [], [], _ => rfl
  | a :: l, b :: m, h => by
    have h' : (rs_q a b && rs_eq l m) = true := h
    rw [Bool.and_eq_true] at h'
    rw [(rs_q_iff a b).mp h'.1, rs_eq_of l m h'.2]
  | [], _ :: _, h => absurd (show false = true from h) (by decide)
  | _ :: _, [], h => absurd (show false = true from h) (by decide)
/-- the run of the rule's lengthening: at every stage the missing places give no gap of their own, and it ends in F -/
def rs_run (M : Nat → Bool) (l : Nat) (S : Nat → BitVec 3) (F : List (BitVec 3)) : Nat → Nat → List (BitVec 3) × List (BitVec 3) × Nat → Bool
  | 0, _, s => rs_eq s.1 F
  | d + 1, r, s => rs_all (fun q => !M q || rs_z (rs_gap s.1 (rs_B q) r)) 7 && rs_run M l S F d (r + 1) (rs_st l r S s)
def rs_T (M : List Bool) (e : List (BitVec 3)) (p : Nat) : Bool := rs_b M p || !rs_z (rs_g e p)
def rs_S (e : List (BitVec 3)) : List (BitVec 3) := [0, rs_syn (rs_g e) 1, rs_syn (rs_g e) 2, rs_syn (rs_g e) 3, rs_syn (rs_g e) 4]
def rs_ck (M : List Bool) (e : List (BitVec 3)) : Bool :=
  rs_run (rs_b M) (rs_ct (rs_b M) 7) (rs_g (rs_S e)) (rs_era (rs_T M e) 7) (4 - rs_ct (rs_b M) 7) (rs_ct (rs_b M) 7 + 1) (rs_era (rs_b M) 7, rs_era (rs_b M) 7, rs_ct (rs_b M) 7)
/-- all patterns: n places are still to be chosen, b is left of the bound -/
def rs_al (P : List Bool → List (BitVec 3) → Bool) : Nat → Nat → List Bool → List (BitVec 3) → Bool
  | 0, _, M, e => P M e
  | n + 1, b, M, e => rs_al P n b (false :: M) (0 :: e) && (Nat.ble b 0 || rs_al P n (b - 1) (true :: M) (0 :: e)) && (Nat.ble b 1 ||
      (rs_al P n (b - 2) (false :: M) (1 :: e) && rs_al P n (b - 2) (false :: M) (2 :: e) && rs_al P n (b - 2) (false :: M) (3 :: e) && rs_al P n (b - 2) (false :: M) (4 :: e) && rs_al P n (b - 2) (false :: M) (5 :: e) && rs_al P n (b - 2) (false :: M) (6 :: e) && rs_al P n (b - 2) (false :: M) (7 :: e)))
def rs_pre {α : Type} (f : Nat → α) : Nat → List α → List α
  | 0, L => L
  | n + 1, L => rs_pre f n (f n :: L)
def rs_cost (M : Nat → Bool) (e : Nat → BitVec 3) : Nat → Nat
  | 0 => 0
  | n + 1 => rs_cost M e n + cond (M n) 1 (if e n = 0 then 0 else 2)
theorem rs_v7 : ∀ v : BitVec 3, v = 0 ∨ v = 1 ∨ v = 2 ∨ v = 3 ∨ v = 4 ∨ v = 5 ∨ v = 6 ∨ v = 7 := by decide +kernel
theorem rs_al_at {P : List Bool → List (BitVec 3) → Bool} (M : Nat → Bool) (e : Nat → BitVec 3) (hz : ∀ p, M p = true → e p = 0) : ∀ n b LM Le, rs_cost M e n ≤ b → rs_al P n b LM Le = true → P (rs_pre M n LM) (rs_pre e n Le) = true := by
  intro n
  induction n with
  | zero => intro b LM Le _ h; exact h
  | succ n ih =>
    intro b LM Le hc h
    have h' : (rs_al P n b (false :: LM) (0 :: Le) && (Nat.ble b 0 || rs_al P n (b - 1) (true :: LM) (0 :: Le)) && (Nat.ble b 1 ||
      (rs_al P n (b - 2) (false :: LM) (1 :: Le) && rs_al P n (b - 2) (false :: LM) (2 :: Le) && rs_al P n (b - 2) (false :: LM) (3 :: Le) && rs_al P n (b - 2) (false :: LM) (4 :: Le) && rs_al P n (b - 2) (false :: LM) (5 :: Le) && rs_al P n (b - 2) (false :: LM) (6 :: Le) && rs_al P n (b - 2) (false :: LM) (7 :: Le)))) = true := h
    simp only [Bool.and_eq_true, Bool.or_eq_true, Nat.ble_eq] at h'
    obtain ⟨⟨h1, h2⟩, h3⟩ := h'
    have hc' : rs_cost M e n + cond (M n) 1 (if e n = 0 then 0 else 2) ≤ b := hc
    show P (rs_pre M n (M n :: LM)) (rs_pre e n (e n :: Le)) = true
    by_cases hM : M n = true
    · rw [hM, cond_true] at hc'
      rw [hM, hz n hM]
      rcases h2 with h2 | h2
      · omega
      · exact ih (b - 1) _ _ (by omega) h2
    · rw [Bool.not_eq_true] at hM
      rw [hM, cond_false] at hc'
      rw [hM]
      by_cases h0 : e n = 0
      · rw [if_pos h0] at hc'
        rw [h0]
        exact ih b _ _ (by omega) h1
      · rw [if_neg h0] at hc'
        rcases h3 with h3 | h3
        · omega
        · obtain ⟨⟨⟨⟨⟨⟨a1, a2⟩, a3⟩, a4⟩, a5⟩, a6⟩, a7⟩ := h3
          rcases rs_v7 (e n) with q | q | q | q | q | q | q | q
          · exact absurd q h0
          · rw [q]; exact ih (b - 2) _ _ (by omega) a1
          · rw [q]; exact ih (b - 2) _ _ (by omega) a2
          · rw [q]; exact ih (b - 2) _ _ (by omega) a3
          · rw [q]; exact ih (b - 2) _ _ (by omega) a4
          · rw [q]; exact ih (b - 2) _ _ (by omega) a5
          · rw [q]; exact ih (b - 2) _ _ (by omega) a6
          · rw [q]; exact ih (b - 2) _ _ (by omega) a7
/-- the numerator over the slope, at each place of the locator, for a single error at each of its places -/
def rs_f2 (T : List Bool) : Bool :=
  Nat.ble 5 (rs_ct (rs_b T) 7) || rs_all (fun p => cond (rs_b T p)
    (rs_z (rs_sm (rs_era (rs_b T) 7) p) && !rs_z (rs_od (rs_era (rs_b T) 7) p) && rs_all (fun q => !rs_b T q || rs_q (rs_up (rs_num (rs_era (rs_b T) 7) (rs_B q)) p) (cond (Nat.beq p q) (gf_mul (rs_od (rs_era (rs_b T) 7) p) (gf_pw p)) 0)) 7)
    (!rs_z (rs_sm (rs_era (rs_b T) 7) p))) 7
def rs_al2 (P : List Bool → Bool) : Nat → List Bool → Bool
  | 0, M => P M
  | n + 1, M => rs_al2 P n (false :: M) && rs_al2 P n (true :: M)
theorem rs_al2_at {P : List Bool → Bool} (M : Nat → Bool) : ∀ n LM, rs_al2 P n LM = true → P (rs_pre M n LM) = true := by
  intro n
  induction n with
  | zero => intro LM h; exact h
  | succ n ih =>
    intro LM h
    have h' : (rs_al2 P n (false :: LM) && rs_al2 P n (true :: LM)) = true := h
    rw [Bool.and_eq_true] at h'
    show P (rs_pre M n (M n :: LM)) = true
    cases M n with
    | false => exact ih _ h'.1
    | true => exact ih _ h'.2
theorem rs_ct_congr {M N : Nat → Bool} : ∀ n, (∀ p, p < n → M p = N p) → rs_ct M n = rs_ct N n := by
  intro n
  induction n with
  | zero => intro _; rfl
  | succ n ih =>
    intro h
    show rs_ct M n + cond (M n) 1 0 = rs_ct N n + cond (N n) 1 0
    rw [ih (fun p hp => h p (by omega)), h n (by omega)]
theorem rs_era_congr {M N : Nat → Bool} : ∀ n, (∀ p, p < n → M p = N p) → rs_era M n = rs_era N n := by
  intro n
  induction n with
  | zero => intro _; rfl
  | succ n ih =>
    intro h
    show cond (M n) (rs_mx (rs_era M n) (gf_pw n)) (rs_era M n) = cond (N n) (rs_mx (rs_era N n) (gf_pw n)) (rs_era N n)
    rw [ih (fun p hp => h p (by omega)), h n (by omega)]
theorem rs_b_pre (M : Nat → Bool) : ∀ p, p < 7 → rs_b (rs_pre M 7 []) p = M p
  | 0, _ => rfl
  | 1, _ => rfl
  | 2, _ => rfl
  | 3, _ => rfl
  | 4, _ => rfl
  | 5, _ => rfl
  | 6, _ => rfl
  | n + 7, h => absurd h (by omega)
end
section
/-! the first check over numbers: a polynomial is one number, three bits a symbol -/
def kc_d (P k : Nat) : Nat := Nat.mod (Nat.shiftRight P (Nat.mul 3 k)) 8
def kc_m (a b : Nat) : Nat := Nat.mod (Nat.shiftRight 2821848294356612419217921029917578219971947684264937521152 (Nat.mul 3 (Nat.add (Nat.mul 8 a) b))) 8
def kc_v (a b : Nat) : Nat := Nat.mod (Nat.shiftRight 1047628189932426741136043465902155670087605318451074170880 (Nat.mul 3 (Nat.add (Nat.mul 8 a) b))) 8
def kc_w (k : Nat) : Nat := Nat.mod (Nat.shiftRight 3285150328593 (Nat.mul 3 k)) 8
noncomputable def kc_sum (f : Nat → Nat) (n : Nat) : Nat := Nat.rec (motive := fun _ => Nat) 0 (fun k ih => Nat.xor ih (f k)) n
def kc_tb (f : Nat → Nat) : Nat := Nat.add (f 0) (Nat.mul 8 (Nat.add (f 1) (Nat.mul 8 (Nat.add (f 2) (Nat.mul 8 (Nat.add (f 3) (Nat.mul 8 (Nat.add (f 4) (Nat.mul 8 (Nat.add (f 5) (Nat.mul 8 (Nat.add (f 6) (Nat.mul 8 (Nat.add (f 7) (Nat.mul 8 (Nat.add (f 8) (Nat.mul 8 (Nat.add (f 9) (Nat.mul 8 0)))))))))))))))))))
def kc_pk : List (BitVec 3) → Nat
  | [] => 0
  | a :: t => Nat.add a.toNat (Nat.mul 8 (kc_pk t))
theorem kc_dpk : ∀ (L : List (BitVec 3)) (k : Nat), kc_d (kc_pk L) k = (rs_g L k).toNat
  | [], k => by
    show (0 >>> (3 * k)) % 8 = 0
    rw [Nat.zero_shiftRight]
  | a :: t, 0 => by
    show (a.toNat + 8 * kc_pk t) % 8 = a.toNat
    have := a.isLt
    omega
  | a :: t, k + 1 => by
    have ih := kc_dpk t k
    show ((a.toNat + 8 * kc_pk t) >>> (3 * (k + 1))) % 8 = (rs_g t k).toNat
    rw [← ih]
    show _ = (kc_pk t >>> (3 * k)) % 8
    rw [show 3 * (k + 1) = 3 + 3 * k from by omega, Nat.shiftRight_add, Nat.shiftRight_eq_div_pow _ 3]
    have h := a.isLt
    have e : (a.toNat + 8 * kc_pk t) / 2 ^ 3 = kc_pk t := by omega
    rw [e]
theorem kc_pk_inj : ∀ (L N : List (BitVec 3)), L.length = N.length → kc_pk L = kc_pk N → L = N
  | [], [], _, _ => rfl
  | [], _ :: _, h, _ => absurd h (by simp)
  | _ :: _, [], h, _ => absurd h (by simp)
  | a :: t, b :: s, h, q => by
    have q' : a.toNat + 8 * kc_pk t = b.toNat + 8 * kc_pk s := q
    have ha := a.isLt
    have hb := b.isLt
    rw [BitVec.eq_of_toNat_eq (show a.toNat = b.toNat by omega), kc_pk_inj t s (Nat.succ.inj h) (by omega)]
theorem kc_tb_pk {f : Nat → BitVec 3} {g : Nat → Nat} (h : ∀ k, k < 10 → g k = (f k).toNat) : kc_tb g = kc_pk (rs_tb f) := by
  unfold kc_tb
  rw [h 0 (by omega), h 1 (by omega), h 2 (by omega), h 3 (by omega), h 4 (by omega), h 5 (by omega), h 6 (by omega), h 7 (by omega), h 8 (by omega), h 9 (by omega)]
  rfl
theorem kc_m_eq (a b : BitVec 3) : kc_m a.toNat b.toNat = (gf_mul a b).toNat := rfl
theorem kc_v_eq (a b : BitVec 3) : kc_v a.toNat b.toNat = (gf_div a b).toNat := rfl
theorem kc_w_eq (k : Nat) : kc_w k = (gf_pw k).toNat := rfl
theorem kc_x_eq (a b : BitVec 3) : Nat.xor a.toNat b.toNat = (a ^^^ b).toNat := (BitVec.toNat_xor a b).symm
theorem kc_sum_eq {f : Nat → Nat} {g : Nat → BitVec 3} : ∀ n, (∀ k, k < n → f k = (g k).toNat) → kc_sum f n = (gf_sum g n).toNat := by
  intro n
  induction n with
  | zero => intro _; rfl
  | succ n ih =>
    intro h
    show Nat.xor (kc_sum f n) (f n) = (gf_sum g n ^^^ g n).toNat
    rw [ih (fun k hk => h k (by omega)), h n (by omega), kc_x_eq]
/-! the steps -/
def kc_mx (P x : Nat) : Nat := kc_tb (fun k => Nat.rec (motive := fun _ => Nat) (kc_d P 0) (fun j _ => Nat.xor (kc_d P (Nat.succ j)) (kc_m (kc_d P j) x)) k)
def kc_sh (P : Nat) : Nat := kc_tb (fun k => Nat.rec (motive := fun _ => Nat) 0 (fun j _ => kc_d P j) k)
def kc_add (P g Q : Nat) : Nat := kc_tb (fun k => Nat.xor (kc_d P k) (kc_m g (kc_d Q k)))
def kc_ov (P g : Nat) : Nat := kc_tb (fun k => kc_v (kc_d P k) g)
noncomputable def kc_gap (P Q r : Nat) : Nat := kc_sum (fun k => kc_m (kc_d P k) (kc_d Q (Nat.sub r k))) r
theorem kc_mx_eq (R : List (BitVec 3)) (x : BitVec 3) : kc_mx (kc_pk R) x.toNat = kc_pk (rs_mx R x) := by
  refine kc_tb_pk (fun k hk => ?_)
  cases k with
  | zero => exact kc_dpk R 0
  | succ j =>
    show Nat.xor (kc_d (kc_pk R) (j + 1)) (kc_m (kc_d (kc_pk R) j) x.toNat) = (if j + 1 = 0 then rs_g R 0 else rs_g R (j + 1) ^^^ gf_mul (rs_g R (j + 1 - 1)) x).toNat
    rw [kc_dpk, kc_dpk, kc_m_eq, kc_x_eq, if_neg (by omega), Nat.add_sub_cancel]
theorem kc_sh_eq (H : List (BitVec 3)) : kc_sh (kc_pk H) = kc_pk (rs_sh H) := by
  refine kc_tb_pk (fun k hk => ?_)
  cases k with
  | zero => rfl
  | succ j =>
    show kc_d (kc_pk H) j = (if j + 1 = 0 then 0 else rs_g H (j + 1 - 1)).toNat
    rw [kc_dpk, if_neg (by omega), Nat.add_sub_cancel]
theorem kc_add_eq (R H : List (BitVec 3)) (g : BitVec 3) : kc_add (kc_pk R) g.toNat (kc_pk H) = kc_pk (rs_add R g H) := by
  refine kc_tb_pk (fun k hk => ?_)
  rw [kc_dpk, kc_dpk, kc_m_eq, kc_x_eq]
theorem kc_ov_eq (R : List (BitVec 3)) (g : BitVec 3) : kc_ov (kc_pk R) g.toNat = kc_pk (rs_ov R g) := by
  refine kc_tb_pk (fun k hk => ?_)
  rw [kc_dpk, kc_v_eq]
theorem kc_gap_eq {R : List (BitVec 3)} {S : Nat → BitVec 3} {Q r : Nat} (h : ∀ j, j < 5 → kc_d Q j = (S j).toNat) (hr : r < 5) : kc_gap (kc_pk R) Q r = (rs_gap R S r).toNat := by
  refine kc_sum_eq r (fun k hk => ?_)
  show kc_m (kc_d (kc_pk R) k) (kc_d Q (r - k)) = _
  rw [kc_dpk, h (r - k) (by omega), kc_m_eq]
/-! masks -/
def kc_b (m p : Nat) : Bool := Nat.beq (Nat.mod (Nat.shiftRight m p) 2) 1
def kc_ml : List Bool → Nat
  | [] => 0
  | b :: t => Nat.add (cond b 1 0) (Nat.mul 2 (kc_ml t))
theorem kc_b_ml : ∀ (L : List Bool) (p : Nat), kc_b (kc_ml L) p = rs_b L p
  | [], p => by
    show Nat.beq ((0 >>> p) % 2) 1 = false
    rw [Nat.zero_shiftRight]; rfl
  | b :: t, 0 => by
    show Nat.beq ((cond b 1 0 + 2 * kc_ml t) % 2) 1 = b
    cases b with
    | false => rw [show (cond false 1 0 + 2 * kc_ml t) % 2 = 0 from by show (0 + 2 * kc_ml t) % 2 = 0; omega]; rfl
    | true => rw [show (cond true 1 0 + 2 * kc_ml t) % 2 = 1 from by show (1 + 2 * kc_ml t) % 2 = 1; omega]; rfl
  | b :: t, p + 1 => by
    have ih := kc_b_ml t p
    show Nat.beq (((cond b 1 0 + 2 * kc_ml t) >>> (p + 1)) % 2) 1 = rs_b t p
    rw [← ih]
    show _ = Nat.beq ((kc_ml t >>> p) % 2) 1
    have e : (cond b 1 0 + 2 * kc_ml t) / 2 = kc_ml t := by
      cases b with
      | false => show (0 + 2 * kc_ml t) / 2 = kc_ml t; omega
      | true => show (1 + 2 * kc_ml t) / 2 = kc_ml t; omega
    rw [Nat.shiftRight_succ_inside, e]
noncomputable def kc_ct (m n : Nat) : Nat := Nat.rec (motive := fun _ => Nat) 0 (fun k ih => Nat.add ih (cond (kc_b m k) 1 0)) n
theorem kc_ct_eq (m : Nat) : ∀ n, kc_ct m n = rs_ct (kc_b m) n := by
  intro n
  induction n with
  | zero => rfl
  | succ n ih =>
    show kc_ct m n + cond (kc_b m n) 1 0 = rs_ct (kc_b m) n + cond (kc_b m n) 1 0
    rw [ih]
noncomputable def kc_era (m n : Nat) : Nat := Nat.rec (motive := fun _ => Nat) 1 (fun p ih => cond (kc_b m p) (kc_mx ih (kc_w p)) ih) n
theorem kc_era_eq (m : Nat) : ∀ n, kc_era m n = kc_pk (rs_era (kc_b m) n) := by
  intro n
  induction n with
  | zero => rfl
  | succ n ih =>
    show cond (kc_b m n) (kc_mx (kc_era m n) (kc_w n)) (kc_era m n) = kc_pk (cond (kc_b m n) (rs_mx (rs_era (kc_b m) n) (gf_pw n)) (rs_era (kc_b m) n))
    rw [ih, kc_w_eq, kc_mx_eq]
    cases kc_b m n with
    | false => rfl
    | true => rfl
theorem rs_era_len (M : Nat → Bool) : ∀ n, (rs_era M n).length = 10 := by
  intro n
  induction n with
  | zero => rfl
  | succ n ih =>
    show (cond (M n) (rs_mx (rs_era M n) (gf_pw n)) (rs_era M n)).length = 10
    cases M n with
    | false => exact ih
    | true => rfl
noncomputable def kc_al (f : Nat → Bool) (n : Nat) : Bool := Nat.rec (motive := fun _ => Bool) true (fun k ih => cond (f k) ih false) n
theorem kc_al_eq (f : Nat → Bool) : ∀ n, kc_al f n = rs_all f n := by
  intro n
  induction n with
  | zero => rfl
  | succ n ih =>
    show cond (f n) (kc_al f n) false = (rs_all f n && f n)
    rw [ih]
    cases f n with
    | false => rw [Bool.and_false]; rfl
    | true => rw [Bool.and_true]; rfl
def kc_B (q : Nat) : Nat := Nat.mod (Nat.shiftRight 19620933510965503608832246977097 (Nat.mul 15 q)) 32768
theorem kc_B_eq : ∀ q, q < 7 → ∀ j, j < 5 → kc_d (kc_B q) j = (rs_B q j).toNat := by decide +kernel
/-- a number is reckoned out before it is handed on -/
def kc_f {α : Type} (n : Nat) (f : Nat → α) : α := Nat.rec (motive := fun _ => α) (f 0) (fun m _ => f (Nat.succ m)) n
theorem kc_f_eq {α : Type} (n : Nat) (f : Nat → α) : kc_f n f = f n := by
  cases n with
  | zero => rfl
  | succ n => rfl
noncomputable def kc_run (m l S F : Nat) : Nat → Nat → Nat → Nat → Nat → Bool
  | 0, _, R, _, _ => Nat.beq R F
  | d + 1, r, R, H, L => (Nat.beq m 0 || kc_al (fun q => !kc_b m q || Nat.beq (kc_gap R (kc_B q) r) 0) 7) && kc_f (kc_gap R S r) (fun g =>
      kc_f (kc_sh H) (fun H1 => cond (Nat.beq g 0) (kc_run m l S F d (r + 1) R H1 L)
        (kc_f (kc_add R g H1) (fun R1 => cond (Nat.ble (2 * L) (r + l - 1)) (kc_f (kc_ov R g) (fun H2 => kc_run m l S F d (r + 1) R1 H2 (r + l - L))) (kc_run m l S F d (r + 1) R1 H1 L)))))
theorem rs_all_of {f : Nat → Bool} : ∀ n, (∀ k, k < n → f k = true) → rs_all f n = true := by
  intro n
  induction n with
  | zero => intro _; rfl
  | succ n ih =>
    intro h
    show (rs_all f n && f n) = true
    rw [ih (fun k hk => h k (by omega)), h n (by omega)]; rfl
theorem rs_eq_self : ∀ l : List (BitVec 3), rs_eq l l = true
  | [] => rfl
  | a :: l => by
    show (rs_q a a && rs_eq l l) = true
    rw [(rs_q_iff a a).mpr rfl, rs_eq_self l]; rfl
theorem kc_beq0 {a : BitVec 3} : Nat.beq a.toNat 0 = rs_z a := rfl
theorem kc_run_eq {m l Sn : Nat} {S : Nat → BitVec 3} {F : List (BitVec 3)} (hS : ∀ j, j < 5 → kc_d Sn j = (S j).toNat) (hF : F.length = 10) :
    ∀ d r R H L, r + d ≤ 5 → R.length = 10 → kc_run m l Sn (kc_pk F) d r (kc_pk R) (kc_pk H) L = true → rs_run (kc_b m) l S F d r (R, H, L) = true := by
  intro d
  induction d with
  | zero =>
    intro r R H L _ hR h
    have h' : Nat.beq (kc_pk R) (kc_pk F) = true := h
    have e := kc_pk_inj R F (hR.trans hF.symm) (Nat.eq_of_beq_eq_true h')
    show rs_eq R F = true
    rw [e]
    exact rs_eq_self F
  | succ d ih =>
    intro r R H L hr hR h
    have h' : ((Nat.beq m 0 || kc_al (fun q => !kc_b m q || Nat.beq (kc_gap (kc_pk R) (kc_B q) r) 0) 7) && kc_f (kc_gap (kc_pk R) Sn r) (fun g =>
      kc_f (kc_sh (kc_pk H)) (fun H1 => cond (Nat.beq g 0) (kc_run m l Sn (kc_pk F) d (r + 1) (kc_pk R) H1 L)
        (kc_f (kc_add (kc_pk R) g H1) (fun R1 => cond (Nat.ble (2 * L) (r + l - 1)) (kc_f (kc_ov (kc_pk R) g) (fun H2 => kc_run m l Sn (kc_pk F) d (r + 1) R1 H2 (r + l - L))) (kc_run m l Sn (kc_pk F) d (r + 1) R1 H1 L)))))) = true := h
    rw [kc_f_eq, kc_f_eq, kc_f_eq, kc_f_eq, kc_gap_eq hS (by omega), kc_sh_eq, kc_add_eq, kc_ov_eq, kc_beq0, Bool.and_eq_true] at h'
    obtain ⟨ha, hb⟩ := h'
    show (rs_all (fun q => !kc_b m q || rs_z (rs_gap R (rs_B q) r)) 7 && rs_run (kc_b m) l S F d (r + 1) (rs_nx (rs_gap R S r) l r R H L)) = true
    rw [Bool.and_eq_true]
    constructor
    · refine rs_all_of 7 (fun q hq => ?_)
      rw [Bool.or_eq_true] at ha
      rcases ha with ha | ha
      · have e : m = 0 := Nat.eq_of_beq_eq_true ha
        have e2 : kc_b m q = false := by
          rw [e]
          show Nat.beq ((0 >>> q) % 2) 1 = false
          rw [Nat.zero_shiftRight]; rfl
        rw [e2]; rfl
      · rw [kc_al_eq] at ha
        have a := rs_all_at ha q hq
        rw [kc_gap_eq (kc_B_eq q hq) (by omega), kc_beq0] at a
        exact a
    · by_cases g0 : rs_gap R S r = 0
      · have z : rs_z (rs_gap R S r) = true := (rs_z_iff _).mpr g0
        rw [z, cond_true] at hb
        unfold rs_nx
        rw [if_pos g0]
        exact ih (r + 1) R (rs_sh H) L (by omega) hR hb
      · have z : rs_z (rs_gap R S r) = false := by
          cases y : rs_z (rs_gap R S r) with
          | false => rfl
          | true => exact absurd ((rs_z_iff _).mp y) g0
        rw [z, cond_false] at hb
        unfold rs_nx rs_len
        rw [if_neg g0]
        by_cases c : r + l - 1 < 2 * L
        · have y : Nat.ble (2 * L) (r + l - 1) = false := by
            cases y : Nat.ble (2 * L) (r + l - 1) with
            | false => rfl
            | true => have := Nat.le_of_ble_eq_true y; omega
          rw [y, cond_false] at hb
          rw [if_pos c]
          exact ih (r + 1) _ (rs_sh H) L (by omega) rfl hb
        · have y : Nat.ble (2 * L) (r + l - 1) = true := Nat.ble_eq_true_of_le (by omega)
          rw [y, cond_true] at hb
          rw [if_neg c]
          exact ih (r + 1) _ (rs_ov R (rs_gap R S r)) (r + l - L) (by omega) rfl hb
/-! the pattern -/
noncomputable def kc_hor (E x n : Nat) : Nat → Nat := Nat.rec (motive := fun _ => Nat → Nat) (fun s => s) (fun i ih s => ih (Nat.xor (kc_m s x) (kc_d E i))) n
theorem kc_hor_eq (L : List (BitVec 3)) (x : BitVec 3) : ∀ n s, kc_hor (kc_pk L) x.toNat n s.toNat = (gf_hor (rs_g L) x n s).toNat := by
  intro n
  induction n with
  | zero => intro s; rfl
  | succ n ih =>
    intro s
    show kc_hor (kc_pk L) x.toNat n (Nat.xor (kc_m s.toNat x.toNat) (kc_d (kc_pk L) n)) = (gf_hor (rs_g L) x n (gf_mul s x ^^^ rs_g L n)).toNat
    rw [kc_dpk, kc_m_eq, kc_x_eq, ih]
noncomputable def kc_S (E : Nat) : Nat := Nat.mul 8 (Nat.add (kc_hor E 2 7 0) (Nat.mul 8 (Nat.add (kc_hor E 4 7 0) (Nat.mul 8 (Nat.add (kc_hor E 3 7 0) (Nat.mul 8 (kc_hor E 6 7 0)))))))
theorem kc_S_eq (e : List (BitVec 3)) : kc_S (kc_pk e) = kc_pk (rs_S e) := by
  unfold kc_S
  have h1 : kc_hor (kc_pk e) 2 7 0 = (rs_syn (rs_g e) 1).toNat := kc_hor_eq e 2 7 0
  have h2 : kc_hor (kc_pk e) 4 7 0 = (rs_syn (rs_g e) 2).toNat := kc_hor_eq e 4 7 0
  have h3 : kc_hor (kc_pk e) 3 7 0 = (rs_syn (rs_g e) 3).toNat := kc_hor_eq e 3 7 0
  have h4 : kc_hor (kc_pk e) 6 7 0 = (rs_syn (rs_g e) 4).toNat := kc_hor_eq e 6 7 0
  rw [h1, h2, h3, h4]
  show 8 * ((rs_syn (rs_g e) 1).toNat + 8 * ((rs_syn (rs_g e) 2).toNat + 8 * ((rs_syn (rs_g e) 3).toNat + 8 * (rs_syn (rs_g e) 4).toNat))) = 0 + 8 * ((rs_syn (rs_g e) 1).toNat + 8 * ((rs_syn (rs_g e) 2).toNat + 8 * ((rs_syn (rs_g e) 3).toNat + 8 * ((rs_syn (rs_g e) 4).toNat + 8 * 0))))
  omega
/-- the mask of the places that are missing or wrong -/
noncomputable def kc_ts (m E n : Nat) : Nat := Nat.rec (motive := fun _ => Nat) 0 (fun p ih => Nat.add ih (cond (kc_b m p || !Nat.beq (kc_d E p) 0) (Nat.pow 2 p) 0)) n
noncomputable def kc_t (m E : Nat) : Nat := kc_ts m E 7
def kc_tl (M : List Bool) (e : List (BitVec 3)) : List Bool := [rs_T M e 0, rs_T M e 1, rs_T M e 2, rs_T M e 3, rs_T M e 4, rs_T M e 5, rs_T M e 6]
theorem kc_t_eq (M : List Bool) (e : List (BitVec 3)) : kc_t (kc_ml M) (kc_pk e) = kc_ml (kc_tl M e) := by
  have h : ∀ p, (kc_b (kc_ml M) p || !Nat.beq (kc_d (kc_pk e) p) 0) = rs_T M e p := by
    intro p
    rw [kc_b_ml, kc_dpk]; rfl
  have k : ∀ n, kc_ts (kc_ml M) (kc_pk e) (n + 1) = kc_ts (kc_ml M) (kc_pk e) n + cond (rs_T M e n) (2 ^ n) 0 := by
    intro n
    rw [← h n]; rfl
  unfold kc_t
  rw [show kc_ts (kc_ml M) (kc_pk e) 7 = _ from k 6, show kc_ts (kc_ml M) (kc_pk e) 6 = _ from k 5, show kc_ts (kc_ml M) (kc_pk e) 5 = _ from k 4, show kc_ts (kc_ml M) (kc_pk e) 4 = _ from k 3, show kc_ts (kc_ml M) (kc_pk e) 3 = _ from k 2, show kc_ts (kc_ml M) (kc_pk e) 2 = _ from k 1, show kc_ts (kc_ml M) (kc_pk e) 1 = _ from k 0]
  unfold kc_tl
  show 0 + cond (rs_T M e 0) (2 ^ 0) 0 + cond (rs_T M e 1) (2 ^ 1) 0 + cond (rs_T M e 2) (2 ^ 2) 0 + cond (rs_T M e 3) (2 ^ 3) 0 + cond (rs_T M e 4) (2 ^ 4) 0 + cond (rs_T M e 5) (2 ^ 5) 0 + cond (rs_T M e 6) (2 ^ 6) 0
    = cond (rs_T M e 0) 1 0 + 2 * (cond (rs_T M e 1) 1 0 + 2 * (cond (rs_T M e 2) 1 0 + 2 * (cond (rs_T M e 3) 1 0 + 2 * (cond (rs_T M e 4) 1 0 + 2 * (cond (rs_T M e 5) 1 0 + 2 * (cond (rs_T M e 6) 1 0 + 2 * 0))))))
  have c : ∀ (b : Bool) (x : Nat), cond b x 0 = x * cond b 1 0 := by
    intro b x
    cases b with
    | false => rfl
    | true => exact (Nat.mul_one x).symm
  rw [c _ (2 ^ 0), c _ (2 ^ 1), c _ (2 ^ 2), c _ (2 ^ 3), c _ (2 ^ 4), c _ (2 ^ 5), c _ (2 ^ 6)]
  omega
noncomputable def kc_ck (M : List Bool) (e : List (BitVec 3)) : Bool :=
  kc_f (kc_ml M) (fun m => kc_f (kc_pk e) (fun E => kc_f (kc_t m E) (fun t => kc_f (kc_S E) (fun S => kc_f (kc_ct m 7) (fun l => kc_f (kc_era m 7) (fun R => kc_f (kc_era t 7) (fun F => kc_run m l S F (4 - l) (l + 1) R R l)))))))
theorem kc_tl_at (M : List Bool) (e : List (BitVec 3)) : ∀ p, p < 7 → rs_b (kc_tl M e) p = rs_T M e p
  | 0, _ => rfl
  | 1, _ => rfl
  | 2, _ => rfl
  | 3, _ => rfl
  | 4, _ => rfl
  | 5, _ => rfl
  | 6, _ => rfl
  | n + 7, h => absurd h (by omega)
theorem kc_ck_ok {M : List Bool} {e : List (BitVec 3)} (hl : rs_ct (rs_b M) 7 ≤ 4) (h : kc_ck M e = true) : rs_ck M e = true := by
  unfold kc_ck at h
  rw [kc_f_eq, kc_f_eq, kc_f_eq, kc_f_eq, kc_f_eq, kc_f_eq, kc_f_eq, kc_t_eq, kc_S_eq, kc_ct_eq, kc_era_eq, kc_era_eq] at h
  have eM : kc_b (kc_ml M) = rs_b M := funext (kc_b_ml M)
  have eT : rs_era (kc_b (kc_ml (kc_tl M e))) 7 = rs_era (rs_T M e) 7 := rs_era_congr 7 (fun p hp => (kc_b_ml _ p).trans (kc_tl_at M e p hp))
  rw [eT, eM] at h
  have k := kc_run_eq (m := kc_ml M) (S := rs_g (rs_S e)) (F := rs_era (rs_T M e) 7) (fun j _ => kc_dpk (rs_S e) j) (rs_era_len _ 7) _ _ (rs_era (rs_b M) 7) (rs_era (rs_b M) 7) _ (by omega) (rs_era_len _ 7) h
  rw [eM] at k
  exact k
theorem rs_ct_cost (M : Nat → Bool) (e : Nat → BitVec 3) : ∀ n, rs_ct M n ≤ rs_cost M e n := by
  intro n
  induction n with
  | zero => exact Nat.le_refl _
  | succ n ih =>
    show rs_ct M n + cond (M n) 1 0 ≤ rs_cost M e n + cond (M n) 1 (if e n = 0 then 0 else 2)
    cases M n with
    | true => show rs_ct M n + 1 ≤ rs_cost M e n + 1; omega
    | false => show rs_ct M n + 0 ≤ rs_cost M e n + (if e n = 0 then 0 else 2); omega
end
section
/-! the two checks, by the kernel -/
theorem kc_chk1 : rs_al kc_ck 7 4 [] [] = true := by decide +kernel
theorem rs_chk1 (M : Nat → Bool) (e : Nat → BitVec 3) (hz : ∀ p, M p = true → e p = 0) (hc : rs_cost M e 7 ≤ 4) : rs_ck (rs_pre M 7 []) (rs_pre e 7 []) = true := by
  refine kc_ck_ok ?_ (rs_al_at (P := kc_ck) M e hz 7 4 [] [] hc kc_chk1)
  rw [rs_ct_congr 7 (rs_b_pre M)]
  exact Nat.le_trans (rs_ct_cost M e 7) hc
theorem rs_chk2 : rs_al2 rs_f2 7 [] = true := by decide +kernel
end
section
/-! the law of the decoder -/
theorem rs_syn_congr {a b : Nat → BitVec 3} {j : Nat} (hj : j < 5) (h : ∀ p, p < 7 → a p = b p) : rs_syn a j = rs_syn b j := by
  rw [rs_syn_sum _ hj, rs_syn_sum _ hj]
  exact gf_sum_congr 7 (fun q hq => by rw [h q hq])
theorem rs_g_pre (e : Nat → BitVec 3) : ∀ p, p < 7 → rs_g (rs_pre e 7 []) p = e p
  | 0, _ => rfl
  | 1, _ => rfl
  | 2, _ => rfl
  | 3, _ => rfl
  | 4, _ => rfl
  | 5, _ => rfl
  | 6, _ => rfl
  | n + 7, h => absurd h (by omega)
theorem rs_run_bm {M : Nat → Bool} {l : Nat} {S S1 : Nat → BitVec 3} {F : List (BitVec 3)} {v : Nat → BitVec 3}
    (hS : ∀ j, 1 ≤ j → j < 5 → S j = S1 j ^^^ gf_sum (fun q => gf_mul (v q) (rs_B q j)) 7) (hv : ∀ q, q < 7 → M q = false → v q = 0) :
    ∀ d r s, r + d ≤ 5 → rs_run M l S1 F d r s = true → (rs_bm l S d r s).1 = F := by
  intro d
  induction d with
  | zero => intro r s _ h; exact rs_eq_of _ _ h
  | succ d ih =>
    intro r s hr h
    have h' : (rs_all (fun q => !M q || rs_z (rs_gap s.1 (rs_B q) r)) 7 && rs_run M l S1 F d (r + 1) (rs_st l r S1 s)) = true := h
    rw [Bool.and_eq_true] at h'
    have hg : rs_gap s.1 S r = rs_gap s.1 S1 r := by
      have e0 : rs_gap s.1 S r = rs_gap s.1 (fun j => S1 j ^^^ gf_sum (fun q => gf_mul (v q) (rs_B q j)) 7) r := rs_gap_congr hS (by omega)
      have e1 : rs_gap s.1 (fun j => S1 j ^^^ gf_sum (fun q => gf_mul (v q) (rs_B q j)) 7) r = rs_gap s.1 S1 r ^^^ rs_gap s.1 (fun j => gf_sum (fun q => gf_mul (v q) (rs_B q j)) 7) r := (rs_gap_lin s.1 r).1 _ _
      have e2 : rs_gap s.1 (fun j => gf_sum (fun q => gf_mul (v q) (rs_B q j)) 7) r = gf_sum (fun q => gf_mul (v q) (rs_gap s.1 (rs_B q) r)) 7 := gf_lin_sum (rs_gap_lin s.1 r) v rs_B 7
      have e3 : gf_sum (fun q => gf_mul (v q) (rs_gap s.1 (rs_B q) r)) 7 = 0 := by
        refine gf_sum_zero 7 (fun q hq => ?_)
        cases hM : M q with
        | false => rw [hv q hq hM, gf_0m]
        | true =>
          have a : (!M q || rs_z (rs_gap s.1 (rs_B q) r)) = true := rs_all_at h'.1 q hq
          rw [hM] at a
          have a' : rs_z (rs_gap s.1 (rs_B q) r) = true := a
          rw [(rs_z_iff _).mp a', gf_m0]
      rw [e0, e1, e2, e3, gf_xz]
    have hst : rs_st l r S s = rs_st l r S1 s := by unfold rs_st; rw [hg]
    show (rs_bm l S d (r + 1) (rs_st l r S s)).1 = F
    rw [hst]
    exact ih (r + 1) _ (by omega) h'.2
def rs_e1 (M : Nat → Bool) (e : Nat → BitVec 3) (p : Nat) : BitVec 3 := cond (M p) 0 (e p)
def rs_e2 (M : Nat → Bool) (e : Nat → BitVec 3) (p : Nat) : BitVec 3 := cond (M p) (e p) 0
theorem rs_e12 (M : Nat → Bool) (e : Nat → BitVec 3) (p : Nat) : e p = rs_e1 M e p ^^^ rs_e2 M e p := by
  unfold rs_e1 rs_e2
  cases M p with
  | false => exact (gf_xz _).symm
  | true => exact (gf_zx _).symm
def rs_Tf (M : Nat → Bool) (e : Nat → BitVec 3) (p : Nat) : Bool := M p || !rs_z (rs_e1 M e p)
theorem rs_cost_eq (M : Nat → Bool) (w c : Nat → BitVec 3) : ∀ n, rs_cost M (rs_e1 M (fun p => w p ^^^ c p)) n = 2 * rs_df M w c n + rs_ct M n := by
  intro n
  induction n with
  | zero => rfl
  | succ n ih =>
    show rs_cost M (rs_e1 M (fun p => w p ^^^ c p)) n + cond (M n) 1 (if rs_e1 M (fun p => w p ^^^ c p) n = 0 then 0 else 2) = 2 * (rs_df M w c n + cond (M n) 0 (if w n = c n then 0 else 1)) + (rs_ct M n + cond (M n) 1 0)
    rw [ih]
    unfold rs_e1
    cases M n with
    | true => simp only [cond_true]; omega
    | false =>
      simp only [cond_false]
      by_cases h : w n = c n
      · rw [if_pos ((gf_x0 _ _).mpr h), if_pos h]; omega
      · rw [if_neg (fun z => h ((gf_x0 _ _).mp z)), if_neg h]; omega
theorem rs_ctT (M : Nat → Bool) (e : Nat → BitVec 3) : ∀ n, rs_ct (rs_Tf M e) n ≤ rs_cost M (rs_e1 M e) n := by
  intro n
  induction n with
  | zero => exact Nat.le_refl _
  | succ n ih =>
    show rs_ct (rs_Tf M e) n + cond (rs_Tf M e n) 1 0 ≤ rs_cost M (rs_e1 M e) n + cond (M n) 1 (if rs_e1 M e n = 0 then 0 else 2)
    have k : cond (rs_Tf M e n) 1 0 ≤ cond (M n) 1 (if rs_e1 M e n = 0 then 0 else 2) := by
      unfold rs_Tf
      cases M n with
      | true => exact Nat.le_refl _
      | false =>
        by_cases h : rs_e1 M e n = 0
        · rw [h]; decide
        · have z : rs_z (rs_e1 M e n) = false := by
            cases y : rs_z (rs_e1 M e n) with
            | false => rfl
            | true => exact absurd ((rs_z_iff _).mp y) h
          rw [z, if_neg h]; decide
    omega
theorem rs_e_of_T {M : Nat → Bool} {e : Nat → BitVec 3} {p : Nat} (h : rs_Tf M e p = false) : e p = 0 := by
  unfold rs_Tf rs_e1 at h
  cases hM : M p with
  | true => rw [hM] at h; exact absurd h (by simp)
  | false =>
    rw [hM] at h
    have h' : rs_z (e p) = true := by simpa using h
    exact (rs_z_iff _).mp h'
theorem rs_syn_w {w c : Nat → BitVec 3} (hc : rs_zero c) {j : Nat} (h1 : 1 ≤ j) (h5 : j < 5) : rs_syn w j = gf_sum (fun q => gf_mul (w q ^^^ c q) (rs_B q j)) 7 := by
  have a : rs_syn (fun p => w p ^^^ c p) j = rs_syn w j := by rw [rs_syn_xor w c h5, hc j h1 h5, gf_xz]
  rw [← a]
  exact rs_syn_sum _ h5
theorem rs_S_at (Le : List (BitVec 3)) : ∀ j, 1 ≤ j → j < 5 → rs_g (rs_S Le) j = rs_syn (rs_g Le) j
  | 0, h, _ => absurd h (by omega)
  | 1, _, _ => rfl
  | 2, _, _ => rfl
  | 3, _, _ => rfl
  | 4, _, _ => rfl
  | n + 5, _, h => absurd h (by omega)
theorem rs_rule_eq {M : Nat → Bool} {w c : Nat → BitVec 3} (hc : rs_zero c) (hn : rs_near M w c) : rs_rule M (rs_syn w) = rs_era (rs_Tf M (fun p => w p ^^^ c p)) 7 := by
  have h := rs_chk1 M (rs_e1 M (fun p => w p ^^^ c p)) (fun p hp => by unfold rs_e1; rw [hp]; rfl) (by rw [rs_cost_eq]; exact hn)
  have hb := rs_b_pre M
  have he := rs_g_pre (rs_e1 M (fun p => w p ^^^ c p))
  generalize rs_pre M 7 [] = LM at h hb
  generalize rs_pre (rs_e1 M (fun p => w p ^^^ c p)) 7 [] = Le at h he
  unfold rs_ck at h
  rw [rs_ct_congr 7 hb, rs_era_congr 7 hb] at h
  have hT : rs_era (rs_T LM Le) 7 = rs_era (rs_Tf M (fun p => w p ^^^ c p)) 7 := rs_era_congr 7 (fun p hp => by unfold rs_T rs_Tf; rw [hb p hp, he p hp])
  rw [hT] at h
  have hl : rs_ct M 7 ≤ 4 := by unfold rs_near at hn; omega
  refine rs_run_bm (M := rs_b LM) (S1 := rs_g (rs_S Le)) (v := rs_e2 M (fun p => w p ^^^ c p)) (fun j h1 h5 => ?_) (fun q hq hM => ?_) _ _ _ (by omega) h
  · rw [rs_S_at Le j h1 h5, rs_syn_w hc h1 h5, rs_syn_sum _ h5, ← gf_sum_xor]
    refine gf_sum_congr 7 (fun q hq => ?_)
    rw [he q hq, ← gf_dr, ← rs_e12 M (fun p => w p ^^^ c p) q]
  · rw [hb q hq] at hM
    unfold rs_e2
    rw [hM]; rfl
theorem rs_lawA {M : Nat → Bool} {w c : Nat → BitVec 3} (hc : rs_zero c) (hn : rs_near M w c) : ∀ p, p < 7 → rs_dec M w p = c p := by
  intro p hp
  have hR := rs_rule_eq hc hn
  have h := rs_al2_at (P := rs_f2) (rs_Tf M (fun p => w p ^^^ c p)) 7 [] rs_chk2
  have hb := rs_b_pre (rs_Tf M (fun p => w p ^^^ c p))
  generalize rs_pre (rs_Tf M (fun p => w p ^^^ c p)) 7 [] = LT at h hb
  unfold rs_f2 at h
  rw [rs_ct_congr 7 hb, rs_era_congr 7 hb, ← hR] at h
  have hct : ¬ 5 ≤ rs_ct (rs_Tf M (fun p => w p ^^^ c p)) 7 := by
    have a := rs_ctT M (fun p => w p ^^^ c p) 7
    rw [rs_cost_eq] at a
    unfold rs_near at hn
    omega
  unfold rs_dec
  generalize rs_rule M (rs_syn w) = R at h
  rw [Bool.or_eq_true, Nat.ble_eq] at h
  have h' := rs_all_at (h.resolve_left hct) p hp
  rw [hb p hp] at h'
  cases hT : rs_Tf M (fun p => w p ^^^ c p) p with
  | false =>
    rw [hT, cond_false] at h'
    have z : rs_sm R p ≠ 0 := by
      intro q
      rw [(rs_z_iff _).mpr q] at h'
      exact absurd h' (by decide)
    have e0 : w p ^^^ c p = 0 := rs_e_of_T hT
    unfold rs_cor
    rw [if_neg (fun q => z q.1), gf_xz]
    exact (gf_x0 _ _).mp e0
  | true =>
    rw [hT, cond_true, Bool.and_eq_true, Bool.and_eq_true] at h'
    obtain ⟨⟨hs, ho⟩, hq⟩ := h'
    have ho' : rs_od R p ≠ 0 := by
      intro q
      rw [(rs_z_iff _).mpr q] at ho
      exact absurd ho (by decide)
    have hsl : gf_mul (rs_od R p) (gf_pw p) ≠ 0 := gf_mne _ _ ho' (gf_pne p (by omega))
    have hu : rs_up (rs_num R (rs_syn w)) p = gf_mul (w p ^^^ c p) (gf_mul (rs_od R p) (gf_pw p)) := by
      have e0 : rs_up (rs_num R (rs_syn w)) p = rs_up (rs_num R (fun j => gf_sum (fun q => gf_mul (w q ^^^ c q) (rs_B q j)) 7)) p := rs_up_congr (fun j h1 h5 => rs_syn_w hc h1 h5)
      have e1 : rs_up (rs_num R (fun j => gf_sum (fun q => gf_mul (w q ^^^ c q) (rs_B q j)) 7)) p = gf_sum (fun q => gf_mul (w q ^^^ c q) (rs_up (rs_num R (rs_B q)) p)) 7 := gf_lin_sum (rs_up_lin R p) (fun q => w q ^^^ c q) rs_B 7
      have hq' : ∀ q, q < 7 → rs_Tf M (fun p => w p ^^^ c p) q = true → rs_up (rs_num R (rs_B q)) p = cond (Nat.beq p q) (gf_mul (rs_od R p) (gf_pw p)) 0 := by
        intro q hq7 hTq
        have a : (!rs_b LT q || rs_q (rs_up (rs_num R (rs_B q)) p) (cond (Nat.beq p q) (gf_mul (rs_od R p) (gf_pw p)) 0)) = true := rs_all_at hq q hq7
        rw [hb q hq7, hTq] at a
        exact (rs_q_iff _ _).mp a
      rw [e0, e1, gf_sum_one (q := p) 7 hp ?_]
      · rw [hq' p hp hT, Nat.beq_refl]; rfl
      · intro q hq7 hne
        cases hTq : rs_Tf M (fun p => w p ^^^ c p) q with
        | false =>
          have e0 : w q ^^^ c q = 0 := rs_e_of_T hTq
          rw [e0, gf_0m]
        | true =>
          have b : Nat.beq p q = false := by
            cases y : Nat.beq p q with
            | false => rfl
            | true => exact absurd (Nat.eq_of_beq_eq_true y).symm hne
          rw [hq' q hq7 hTq, b, cond_false, gf_m0]
    unfold rs_cor
    rw [if_pos ⟨(rs_z_iff _).mp hs, ho'⟩, hu, gf_dm _ _ hsl, gf_xk]
/-! the code words, by number -/
def rs_ze (i : Nat) : BitVec 3 := rs_g [3, 2, 1, 3, 1] i
def rs_dg (n j : Nat) : BitVec 3 := BitVec.ofNat 3 (Nat.shiftRight n (Nat.mul 3 j))
def rs_cd (n m j : Nat) : BitVec 3 := if j ≤ m ∧ m - j < 5 then gf_mul (rs_ze (m - j)) (rs_dg n j) else 0
def rs_cw (n m : Nat) : BitVec 3 := gf_sum (rs_cd n m) 3
theorem rs_chk3 : rs_all (fun n => rs_all (fun j => rs_z (rs_syn (rs_g [rs_cw n 0, rs_cw n 1, rs_cw n 2, rs_cw n 3, rs_cw n 4, rs_cw n 5, rs_cw n 6]) (j + 1))) 4) 512 = true := by decide +kernel
def rs_no (a b c : BitVec 3) : Nat := (a ^^^ gf_mul 3 (b ^^^ gf_mul 3 c) ^^^ c).toNat + 8 * (b ^^^ gf_mul 3 c).toNat + 64 * c.toNat
theorem rs_chk4 : ∀ a b c, rs_no a b c < 512 ∧ rs_cw (rs_no a b c) 4 = a ∧ rs_cw (rs_no a b c) 5 = b ∧ rs_cw (rs_no a b c) 6 = c := by decide +kernel
theorem rs_chk5 : ∀ a b c d, rs_syn (rs_g [a, b, c, d]) 1 = 0 → rs_syn (rs_g [a, b, c, d]) 2 = 0 → rs_syn (rs_g [a, b, c, d]) 3 = 0 → rs_syn (rs_g [a, b, c, d]) 4 = 0 → a = 0 ∧ b = 0 ∧ c = 0 ∧ d = 0 := by decide +kernel
theorem rs_cw_list (f : Nat → BitVec 3) : ∀ p, p < 7 → rs_g [f 0, f 1, f 2, f 3, f 4, f 5, f 6] p = f p
  | 0, _ => rfl
  | 1, _ => rfl
  | 2, _ => rfl
  | 3, _ => rfl
  | 4, _ => rfl
  | 5, _ => rfl
  | 6, _ => rfl
  | n + 7, h => absurd h (by omega)
theorem rs_cw_zero {n : Nat} (hn : n < 512) : rs_zero (rs_cw n) := by
  intro j h1 h5
  have a := rs_all_at (rs_all_at rs_chk3 n hn) (j - 1) (by omega)
  have a' := (rs_z_iff _).mp a
  rw [show j - 1 + 1 = j from by omega] at a'
  rw [← a']
  exact rs_syn_congr h5 (fun p hp => (rs_cw_list (rs_cw n) p hp).symm)
theorem rs_lawB {y : Nat → BitVec 3} (h : rs_zero y) : ∃ n, n < 512 ∧ ∀ p, p < 7 → y p = rs_cw n p := by
  obtain ⟨hn, h4, h5, h6⟩ := rs_chk4 (y 4) (y 5) (y 6)
  refine ⟨_, hn, ?_⟩
  generalize rs_no (y 4) (y 5) (y 6) = n at hn h4 h5 h6
  have hz : ∀ j, 1 ≤ j → j < 5 → rs_syn (rs_g [y 0 ^^^ rs_cw n 0, y 1 ^^^ rs_cw n 1, y 2 ^^^ rs_cw n 2, y 3 ^^^ rs_cw n 3]) j = 0 := by
    intro j h1 hj
    have a : rs_syn (fun p => y p ^^^ rs_cw n p) j = 0 := by rw [rs_syn_xor _ _ hj, h j h1 hj, rs_cw_zero hn j h1 hj, gf_xx]
    rw [← a]
    refine rs_syn_congr hj (fun p hp => ?_)
    match p, hp with
    | 0, _ => rfl
    | 1, _ => rfl
    | 2, _ => rfl
    | 3, _ => rfl
    | 4, _ => show 0 = y 4 ^^^ rs_cw n 4; rw [h4, gf_xx]
    | 5, _ => show 0 = y 5 ^^^ rs_cw n 5; rw [h5, gf_xx]
    | 6, _ => show 0 = y 6 ^^^ rs_cw n 6; rw [h6, gf_xx]
    | q + 7, hq => exact absurd hq (by omega)
  obtain ⟨a0, a1, a2, a3⟩ := rs_chk5 _ _ _ _ (hz 1 (by omega) (by omega)) (hz 2 (by omega) (by omega)) (hz 3 (by omega) (by omega)) (hz 4 (by omega) (by omega))
  intro p hp
  match p, hp with
  | 0, _ => exact (gf_x0 _ _).mp a0
  | 1, _ => exact (gf_x0 _ _).mp a1
  | 2, _ => exact (gf_x0 _ _).mp a2
  | 3, _ => exact (gf_x0 _ _).mp a3
  | 4, _ => exact h4.symm
  | 5, _ => exact h5.symm
  | 6, _ => exact h6.symm
  | q + 7, hq => exact absurd hq (by omega)
/-! the word that is sent -/
def rs_dv (w : Nat → BitVec 3) : Nat → BitVec 3 → BitVec 3 → BitVec 3 → BitVec 3 → Nat → BitVec 3
  | 0, r0, r1, r2, r3 => fun j => if j = 0 then r0 else if j = 1 then r1 else if j = 2 then r2 else if j = 3 then r3 else w j
  | i + 1, r0, r1, r2, r3 => rs_dv w i (gf_mul (w (3 + i + 1) ^^^ r3) 3) (r0 ^^^ gf_mul (w (3 + i + 1) ^^^ r3) 2) (r1 ^^^ (w (3 + i + 1) ^^^ r3)) (r2 ^^^ gf_mul (w (3 + i + 1) ^^^ r3) 3)
def rs_c3 (a b c : BitVec 3) (j : Nat) : BitVec 3 := if j = 4 then a else if j = 5 then b else if j = 6 then c else 0
theorem rs_chk6 : rs_all (fun n => rs_all (fun j => rs_q (rs_dv (rs_c3 (rs_cw n 4) (rs_cw n 5) (rs_cw n 6)) 3 0 0 0 0 j) (rs_cw n j)) 7) 512 = true := by decide +kernel
theorem rs_send {n : Nat} (hn : n < 512) {a b c : BitVec 3} (h4 : rs_cw n 4 = a) (h5 : rs_cw n 5 = b) (h6 : rs_cw n 6 = c) {p : Nat} (hp : p < 7) : rs_dv (rs_c3 a b c) 3 0 0 0 0 p = rs_cw n p := by
  have x := (rs_q_iff _ _).mp (rs_all_at (rs_all_at rs_chk6 n hn) p hp)
  rw [h4, h5, h6] at x
  exact x
theorem rs_df_congr {M : Nat → Bool} {w a b : Nat → BitVec 3} : ∀ n, (∀ p, p < n → a p = b p) → rs_df M w a n = rs_df M w b n := by
  intro n
  induction n with
  | zero => intro _; rfl
  | succ n ih =>
    intro h
    show rs_df M w a n + cond (M n) 0 (if w n = a n then 0 else 1) = rs_df M w b n + cond (M n) 0 (if w n = b n then 0 else 1)
    rw [ih (fun p hp => h p (by omega)), h n (by omega)]
theorem rs_near_congr {M : Nat → Bool} {w a b : Nat → BitVec 3} (h : ∀ p, p < 7 → a p = b p) : rs_near M w a ↔ rs_near M w b := by
  unfold rs_near
  rw [rs_df_congr 7 h]
theorem rs_zero_congr {a b : Nat → BitVec 3} (h : ∀ p, p < 7 → a p = b p) : rs_zero a → rs_zero b := by
  intro z j h1 h5
  rw [← rs_syn_congr h5 h]
  exact z j h1 h5
/-- a code word near enough: the decoder finds it -/
theorem rs_yes {M : Nat → Bool} {w : Nat → BitVec 3} {n : Nat} (hn : n < 512) (h : rs_near M w (rs_cw n)) : rs_ok M w ∧ ∀ p, p < 7 → rs_dec M w p = rs_cw n p := by
  have e := rs_lawA (rs_cw_zero hn) h
  exact ⟨⟨rs_zero_congr (fun p hp => (e p hp).symm) (rs_cw_zero hn), (rs_near_congr e).mpr h⟩, e⟩
/-- and it finds nothing else -/
theorem rs_some {M : Nat → Bool} {w : Nat → BitVec 3} (h : rs_ok M w) : ∃ n, n < 512 ∧ rs_near M w (rs_cw n) := by
  obtain ⟨n, hn, e⟩ := rs_lawB h.1
  exact ⟨n, hn, (rs_near_congr e).mp h.2⟩
end
section
/-! the walks of the component: symbols, and the rule -/
theorem kx_c {i : Nat} (h : i < 1000) : (nI i).toNatClampNeg = i := nI_clamp (by omega)
theorem kx_ap {f : Nat → Int32} {g : Nat → BitVec 3} {i : Nat} {v : Int32} (h : ∀ j, j < i → f j = gf_I (g j)) (hv : v = gf_I (g i)) : ∀ j, j < i + 1 → upd f i v j = gf_I (g j) := by
  intro j hj
  by_cases e : j = i
  · subst e; rw [pk_us]; exact hv
  · rw [pk_un e]; exact h j (by omega)
theorem kx_tl {f : Nat → Int32} {g : Nat → BitVec 3} {i n : Nat} {v : Int32} (h : ∀ j, i ≤ j → j < n → f j = gf_I (g j)) : ∀ j, i + 1 ≤ j → j < n → upd f i v j = gf_I (g j) := by
  intro j a b
  rw [pk_un (by omega)]
  exact h j (by omega) b
theorem kx_apd {f : Nat → Int32} {g : Nat → BitVec 3} {i n : Nat} {v : Int32} (h : ∀ j, i + 1 < j → j < n → f j = gf_I (g j)) (hv : v = gf_I (g (i + 1))) : ∀ j, i < j → j < n → upd f (i + 1) v j = gf_I (g j) := by
  intro j a b
  by_cases e : j = i + 1
  · subst e; rw [pk_us]; exact hv
  · rw [pk_un e]; exact h j (by omega) b
theorem kx_tld {f : Nat → Int32} {g : Nat → BitVec 3} {i : Nat} {v : Int32} (h : ∀ j, j ≤ i + 1 → f j = gf_I (g j)) : ∀ j, j ≤ i → upd f (i + 1) v j = gf_I (g j) := by
  intro j a
  rw [pk_un (by omega)]
  exact h j (by omega)
/-- the tables of powers and exponents -/
def kx_T (pw ex : Nat → Int32) : Prop := (∀ k, k < 14 → pw k = gf_I (gf_pw k)) ∧ (∀ a : BitVec 3, ex a.toNat = nI (gf_ex a))
/-- the missing places -/
def kx_M (am : Nat → Int32) (M : Nat → Bool) : Prop := ∀ j, j < 7 → (am j = 0 ↔ M j = false)
section
variable {len dif : Int32} {aw am pw ex sy ru he be nu wh : Nat → Int32}
theorem kx_times {post : Int32 → Prop} (T : kx_T pw ex) (a b : BitVec 3) (h : post (gf_I (gf_mul a b))) : wpX_times post (len, dif, aw, am, pw, ex, sy, ru, he, be, nu, wh) (gf_I a) (gf_I b) := by
  unfold wpX_times
  dsimp only
  by_cases ha : a = 0
  · subst ha
    rw [gf_0m, gf_I0] at h
    exact br_t gf_I0 h
  · refine br_f (fun z => ha ((gf_I_0 a).mp z)) ?_
    by_cases hb : b = 0
    · subst hb
      rw [gf_m0, gf_I0] at h
      exact br_t gf_I0 h
    · refine br_f (fun z => hb ((gf_I_0 b).mp z)) ⟨gf_in a, gf_in b, ?_⟩
      rw [gf_cl a, gf_cl b, T.2 a, T.2 b, nI_add, nI_clamp (Nat.lt_trans (gf_e14 a b) (by decide)), T.1 _ (gf_e14 a b), gf_pe a b ha hb]
      exact ⟨vp_in_nI (gf_e14 a b) (by decide), h⟩
theorem kx_over {post : Int32 → Prop} (T : kx_T pw ex) (a b : BitVec 3) (h : post (gf_I (gf_div a b))) : wpX_over post (len, dif, aw, am, pw, ex, sy, ru, he, be, nu, wh) (gf_I a) (gf_I b) := by
  unfold wpX_over
  dsimp only
  by_cases ha : a = 0
  · subst ha
    rw [gf_0d, gf_I0] at h
    exact br_t gf_I0 h
  · refine br_f (fun z => ha ((gf_I_0 a).mp z)) ⟨gf_in a, gf_in b, ?_⟩
    have e : nI (gf_ex a) + 7 - nI (gf_ex b) = nI (gf_ex a + 7 - gf_ex b) := by
      rw [show (7 : Int32) = nI 7 from rfl, nI_add, pk_sub (gf_e7 a b).1]
    rw [gf_cl a, gf_cl b, T.2 a, T.2 b, e, nI_clamp (Nat.lt_trans (gf_e7 a b).2 (by decide)), T.1 _ (gf_e7 a b).2, gf_pd a b ha]
    exact ⟨vp_in_nI (gf_e7 a b).2 (by decide), h⟩
theorem kx_l81 {post : SX → Prop} {x2 x3 : Int32} (T : kx_T pw ex) (g : BitVec 3) (R : List (BitVec 3)) (hB : ∀ j, j < 10 → be j = gf_I (rs_g R j))
    (K : ∀ he' : Nat → Int32, (∀ j, j < 10 → he' j = gf_I (rs_g (rs_ov R g) j)) → post ((x2 + x3) - len, dif, aw, am, pw, ex, sy, ru, he', be, nu, wh)) :
    ∀ d i he, i + d = 10 → (∀ j, j < i → he j = gf_I (rs_g (rs_ov R g) j)) → wX_lengthen_81 post (gf_I g) x2 x3 len dif (d + 1) (nI i) aw am pw ex sy ru he be nu wh := by
  intro d
  induction d with
  | zero =>
    intro i he hi h
    obtain rfl : i = 10 := by omega
    exact br_t (by decide) (nm_e (K he h))
  | succ d ih =>
    intro i he hi h
    refine br_f (nI_ge (b := 10) (by omega) (by decide)) ⟨vp_in_nI (by omega) (by decide), ?_⟩
    rw [kx_c (i := i) (by omega), hB i (by omega)]
    refine kx_over T _ _ ⟨vp_in_nI (by omega) (by decide), fun a ea y ey => ?_⟩
    rw [nI_1] at ey
    subst ea ey
    exact ih (i + 1) _ (by omega) (kx_ap h (by rw [rs_ov_at (by omega)]))
theorem kx_l24 {post : SX → Prop} {x2 x3 x4 : Int32} (T : kx_T pw ex) (g : BitVec 3) (R H : List (BitVec 3)) (hH : ∀ j, j < 10 → he j = gf_I (rs_g H j))
    (K : ∀ ru' be' : Nat → Int32, (∀ j, j < 10 → ru' j = gf_I (rs_g (rs_add R g H) j)) → (∀ j, j < 10 → be' j = gf_I (rs_g R j)) →
      ((x4 = 0 → post (len, dif, aw, am, pw, ex, sy, ru', he, be', nu, wh)) ∧ (¬ x4 = 0 → ∃ n81 : Nat, wX_lengthen_81 post (gf_I g) x2 x3 len dif n81 0 aw am pw ex sy ru' he be' nu wh))) :
    ∀ d i ru be, i + d = 10 → (∀ j, j < i → ru j = gf_I (rs_g (rs_add R g H) j)) → (∀ j, i ≤ j → j < 10 → ru j = gf_I (rs_g R j)) → (∀ j, j < i → be j = gf_I (rs_g R j)) →
      wX_lengthen_24 post (gf_I g) x2 x3 x4 len dif (d + 1) (nI i) aw am pw ex sy ru he be nu wh := by
  intro d
  induction d with
  | zero =>
    intro i ru be hi h1 h2 h3
    obtain rfl : i = 10 := by omega
    exact br_t (by decide) (K ru be h1 h3)
  | succ d ih =>
    intro i ru be hi h1 h2 h3
    refine br_f (nI_ge (b := 10) (by omega) (by decide)) ⟨vp_in_nI (by omega) (by decide), vp_in_nI (by omega) (by decide), fun b eb => ⟨vp_in_nI (by omega) (by decide), vp_in_nI (by omega) (by decide), ?_⟩⟩
    rw [kx_c (i := i) (by omega)] at eb
    rw [kx_c (i := i) (by omega), hH i (by omega)]
    refine kx_times T _ _ ⟨vp_in_nI (by omega) (by decide), fun a ea y ey => ?_⟩
    rw [nI_1] at ey
    subst ea ey eb
    exact ih (i + 1) _ _ (by omega) (kx_ap h1 (by rw [h2 i (by omega) (by omega), gf_I_xor, rs_add_at (by omega)])) (kx_tl h2) (kx_ap h3 (h2 i (by omega) (by omega)))
theorem kx_len {post : SX → Prop} (T : kx_T pw ex) (g : BitVec 3) (R H : List (BitVec 3)) {r l L : Nat} (hr : 1 ≤ r) (hr4 : r ≤ 4) (hl : l ≤ 4) (hL : L ≤ 8)
    (hR : ∀ j, j < 10 → ru j = gf_I (rs_g R j)) (hH : ∀ j, j < 10 → he j = gf_I (rs_g H j))
    (K : ∀ (len' : Int32) (ru' he' be' : Nat → Int32), len' = nI (rs_len g l r R H L).2.2 → (∀ j, j < 10 → ru' j = gf_I (rs_g (rs_len g l r R H L).1 j)) → (∀ j, j < 10 → he' j = gf_I (rs_g (rs_len g l r R H L).2.1 j)) → post (len', dif, aw, am, pw, ex, sy, ru', he', be', nu, wh)) :
    wpX_lengthen post (nI L, dif, aw, am, pw, ex, sy, ru, he, be, nu, wh) (gf_I g) (nI r) (nI l) := by
  have e1 : (nI r + nI l) - 1 = nI (r + l - 1) := by rw [nI_add]; exact pk_sub (b := 1) (by omega)
  have e2 : (2 : Int32) * nI L = nI (2 * L) := pk_mul 2 L
  unfold wpX_lengthen
  dsimp only
  rw [e1, e2, nI_ltI (by omega) (by omega)]
  unfold rs_len at K
  by_cases h : r + l - 1 < 2 * L
  · simp only [if_pos h] at K
    refine br_t h ⟨11, kx_l24 T g R H hH (fun ru' be' a b => br_t rfl ?_) 10 0 ru be (by omega) (by intros; omega) (fun j _ hj => hR j hj) (by intros; omega)⟩
    exact K _ ru' he be' rfl a hH
  · simp only [if_neg h] at K
    refine br_f h ⟨11, kx_l24 T g R H hH (fun ru' be' a b => br_f (by decide) ⟨11, kx_l81 T g R b (fun he' c => ?_) 10 0 he (by omega) (by intros; omega)⟩) 10 0 ru be (by omega) (by intros; omega) (fun j _ hj => hR j hj) (by intros; omega)⟩
    exact K _ ru' he' be' (by rw [nI_add, pk_sub (by omega)]) a c
theorem kx_b176 {post : SX → Prop} {J : Int32 → Int32 → Int32 → (Nat → Int32) → (Nat → Int32) → (Nat → Int32) → (Nat → Int32) → (Nat → Int32) → (Nat → Int32) → (Nat → Int32) → (Nat → Int32) → (Nat → Int32) → (Nat → Int32) → Prop}
    (T : kx_T pw ex) (g : BitVec 3) (R H : List (BitVec 3)) {r l L : Nat} (hr : 1 ≤ r) (hr4 : r ≤ 4) (hl : l ≤ 4) (hL : L ≤ 8) (hR : ∀ j, j < 10 → ru j = gf_I (rs_g R j))
    (K : ∀ (len' : Int32) (ru' he' be' : Nat → Int32), len' = nI (rs_nx g l r R H L).2.2 → (∀ j, j < 10 → ru' j = gf_I (rs_g (rs_nx g l r R H L).1 j)) → (∀ j, j < 10 → he' j = gf_I (rs_g (rs_nx g l r R H L).2.1 j)) → J (nI (r + 1)) len' dif aw am pw ex sy ru' he' be' nu wh) :
    ∀ i he, i ≤ 9 → (∀ j, i < j → j < 10 → he j = gf_I (rs_g (rs_sh H) j)) → (∀ j, j ≤ i → he j = gf_I (rs_g H j)) → wX_buildRule_176 post J (nI l) (nI r) (gf_I g) (nI L) dif (i + 1) (nI i) aw am pw ex sy ru he be nu wh := by
  intro i
  induction i with
  | zero =>
    intro he _ h1 h2
    refine br_t (by decide) (fun a ea => ?_)
    subst ea
    have h3 : ∀ j, j < 10 → upd he 0 0 j = gf_I (rs_g (rs_sh H) j) := by
      intro j hj
      by_cases e : j = 0
      · subst e; rw [pk_us, rs_sh_0, gf_I0]
      · rw [pk_un e]; exact h1 j (by omega) hj
    unfold rs_nx at K
    by_cases hg : g = 0
    · simp only [if_pos hg] at K
      refine br_t ((gf_I_0 g).mpr hg) (fun y ey => ?_)
      rw [nI_1] at ey
      subst ey
      exact K _ _ _ _ rfl hR h3
    · simp only [if_neg hg] at K
      refine br_f (fun z => hg ((gf_I_0 g).mp z)) (kx_len T g R (rs_sh H) hr hr4 hl hL hR h3 (fun len' ru' he' be' a b c => ?_))
      intro y ey
      rw [nI_1] at ey
      subst ey
      exact K len' ru' he' be' a b c
  | succ i ih =>
    intro he hi h1 h2
    refine br_f (nI_nle (by omega) (by omega)) ?_
    rw [nI_pred]
    refine ⟨vp_in_nI (by omega) (by decide), vp_in_nI (by omega) (by decide), fun a ea y ey => ?_⟩
    rw [pk_m1] at ey
    rw [kx_c (i := i) (by omega), kx_c (i := i + 1) (by omega)] at ea
    subst ea ey
    exact ih _ (by omega) (kx_apd h1 (by rw [h2 i (by omega), rs_sh_s (by omega)])) (kx_tld h2)
theorem kx_b137 {post : SX → Prop} {J : Int32 → Int32 → Int32 → (Nat → Int32) → (Nat → Int32) → (Nat → Int32) → (Nat → Int32) → (Nat → Int32) → (Nat → Int32) → (Nat → Int32) → (Nat → Int32) → (Nat → Int32) → (Nat → Int32) → Prop}
    (T : kx_T pw ex) (R : List (BitVec 3)) (S : Nat → BitVec 3) {r : Nat} {x1 : Int32} (hr4 : r ≤ 4) (hR : ∀ j, j < 10 → ru j = gf_I (rs_g R j)) (hS : ∀ j, 1 ≤ j → j < 5 → sy j = gf_I (S j))
    (K : ∃ n176 : Nat, wX_buildRule_176 post J x1 (nI r) (gf_I (rs_gap R S r)) len dif n176 9 aw am pw ex sy ru he be nu wh) :
    ∀ d k, k + d = r → wX_buildRule_137 post J x1 (nI r) len dif aw am pw ex sy ru he be nu wh (d + 1) (gf_I (gf_sum (fun k => gf_mul (rs_g R k) (S (r - k))) k)) (nI k) := by
  intro d
  induction d with
  | zero =>
    intro k hk
    obtain rfl : k = r := by omega
    exact br_t (nI_le (Nat.le_refl _) (by omega)) K
  | succ d ih =>
    intro k hk
    refine br_f (nI_ge (by omega) (by omega)) ?_
    rw [pk_sub (by omega)]
    refine ⟨vp_in_nI (by omega) (by decide), vp_in_nI (by omega) (by decide), ?_⟩
    rw [kx_c (i := k) (by omega), kx_c (i := r - k) (by omega), hR k (by omega), hS (r - k) (by omega) (by omega)]
    refine kx_times T _ _ (fun y ey z ez => ?_)
    rw [gf_I_xor] at ey
    rw [nI_1] at ez
    subst ey ez
    exact ih (k + 1) (by omega)
theorem kx_b127 {post : SX → Prop} (T : kx_T pw ex) (S : Nat → BitVec 3) {l : Nat} (hl : l ≤ 4) (hS : ∀ j, 1 ≤ j → j < 5 → sy j = gf_I (S j)) :
    ∀ d r R H L ru he be, r + d = 5 → 1 ≤ r → L ≤ 8 → (∀ j, j < 10 → ru j = gf_I (rs_g R j)) → (∀ j, j < 10 → he j = gf_I (rs_g H j)) →
      (∀ (len' : Int32) (ru' he' be' : Nat → Int32), (∀ j, j < 10 → ru' j = gf_I (rs_g (rs_bm l S d r (R, H, L)).1 j)) → post (len', dif, aw, am, pw, ex, sy, ru', he', be', nu, wh)) →
      wX_buildRule_127 post (nI l) (d + 1) (nI r) (nI L) dif aw am pw ex sy ru he be nu wh := by
  intro d
  induction d with
  | zero =>
    intro r R H L ru he be hr h1 hL hR hH K
    obtain rfl : r = 5 := by omega
    exact br_t (by decide) (K _ ru he be hR)
  | succ d ih =>
    intro r R H L ru he be hr h1 hL hR hH K
    refine br_f (nI_ge (b := 5) (by omega) (by decide)) ⟨r + 1, kx_b137 T R S (by omega) hR hS ⟨10, kx_b176 T (rs_gap R S r) R H h1 (by omega) hl hL hR (fun len' ru' he' be' a b c => ?_) 9 he (by omega) (by intros; omega) (fun j hj => hH j (by omega))⟩ r 0 (by omega)⟩
    subst a
    exact ih (r + 1) _ _ _ ru' he' be' (by omega) (by omega) (rs_nx_le (by omega) hl hL) b c K
theorem kx_b94 {post : SX → Prop} {x1 : Int32} (K : ∀ he' : Nat → Int32, (∀ j, j < 10 → he' j = ru j) → ∀ y : Int32, y = x1 + 1 → ∃ n127 : Nat, wX_buildRule_127 post x1 n127 y x1 dif aw am pw ex sy ru he' be nu wh) :
    ∀ d i he, i + d = 10 → (∀ j, j < i → he j = ru j) → wX_buildRule_94 post x1 len dif (d + 1) (nI i) aw am pw ex sy ru he be nu wh := by
  intro d
  induction d with
  | zero =>
    intro i he hi h
    obtain rfl : i = 10 := by omega
    exact br_t (by decide) (K he h)
  | succ d ih =>
    intro i he hi h
    refine br_f (nI_ge (b := 10) (by omega) (by decide)) ⟨vp_in_nI (by omega) (by decide), vp_in_nI (by omega) (by decide), fun a ea y ey => ?_⟩
    rw [nI_1] at ey
    rw [kx_c (i := i) (by omega)] at ea
    subst ea ey
    refine ih (i + 1) _ (by omega) (fun j hj => ?_)
    by_cases e : j = i
    · subst e; exact pk_us
    · rw [pk_un e]; exact h j (by omega)
theorem kx_b40l {post : SX → Prop} {J : Int32 → (Nat → Int32) → (Nat → Int32) → (Nat → Int32) → (Nat → Int32) → (Nat → Int32) → (Nat → Int32) → (Nat → Int32) → (Nat → Int32) → (Nat → Int32) → (Nat → Int32) → Prop} {x1 : Int32}
    (T : kx_T pw ex) {p : Nat} (hp : p < 7) (hM : ¬ am p = 0) (R : List (BitVec 3))
    (K : ∀ ru' : Nat → Int32, (∀ j, j < 10 → ru' j = gf_I (rs_g (rs_mx R (gf_pw p)) j)) → J (nI (p + 1)) aw am pw ex sy ru' he be nu wh) :
    ∀ i ru, i ≤ 9 → (∀ j, i < j → j < 10 → ru j = gf_I (rs_g (rs_mx R (gf_pw p)) j)) → (∀ j, j ≤ i → ru j = gf_I (rs_g R j)) → wX_buildRule_40 post J x1 (nI p) len dif (i + 1) (nI i) aw am pw ex sy ru he be nu wh := by
  intro i
  induction i with
  | zero =>
    intro ru _ h1 h2
    refine br_t (by decide) (fun y ey => ?_)
    rw [nI_1] at ey
    subst ey
    refine K ru (fun j hj => ?_)
    by_cases e : j = 0
    · subst e; rw [rs_mx_0]; exact h2 0 (by omega)
    · exact h1 j (by omega) hj
  | succ i ih =>
    intro ru hi h1 h2
    refine br_f (nI_nle (by omega) (by omega)) ⟨vp_in_nI (by omega) (by decide), ?_⟩
    rw [kx_c (i := p) (by omega)]
    refine br_f hM ?_
    rw [nI_pred]
    refine ⟨vp_in_nI (by omega) (by decide), vp_in_nI (by omega) (by decide), vp_in_nI (by omega) (by decide), ?_⟩
    rw [kx_c (i := i) (by omega), kx_c (i := i + 1) (by omega), h2 i (by omega), T.1 p (by omega)]
    refine kx_times T _ _ ⟨vp_in_nI (by omega) (by decide), fun a ea y ey => ?_⟩
    rw [pk_m1] at ey
    subst ea ey
    exact ih _ (by omega) (kx_apd h1 (by rw [h2 (i + 1) (by omega), gf_I_xor, rs_mx_s (by omega)])) (kx_tld h2)
theorem kx_b40 {post : SX → Prop} {J : Int32 → (Nat → Int32) → (Nat → Int32) → (Nat → Int32) → (Nat → Int32) → (Nat → Int32) → (Nat → Int32) → (Nat → Int32) → (Nat → Int32) → (Nat → Int32) → (Nat → Int32) → Prop} {x1 : Int32}
    (T : kx_T pw ex) {M : Nat → Bool} (hM : kx_M am M) {p : Nat} (hp : p < 7) (R : List (BitVec 3))
    (K : ∀ ru' : Nat → Int32, (∀ j, j < 10 → ru' j = gf_I (rs_g (cond (M p) (rs_mx R (gf_pw p)) R) j)) → J (nI (p + 1)) aw am pw ex sy ru' he be nu wh)
    (hR : ∀ j, j < 10 → ru j = gf_I (rs_g R j)) : wX_buildRule_40 post J x1 (nI p) len dif 10 9 aw am pw ex sy ru he be nu wh := by
  cases h : M p with
  | false =>
    rw [h] at K
    refine br_f (by decide) ⟨vp_in_nI (by omega) (by decide), ?_⟩
    rw [kx_c (i := p) (by omega)]
    refine br_t ((hM p hp).mpr h) (fun y ey => ?_)
    rw [nI_1] at ey
    subst ey
    exact K ru hR
  | true =>
    rw [h] at K
    exact kx_b40l T hp (fun z => by rw [(hM p hp).mp z] at h; exact absurd h (by decide)) R K 9 ru (by omega) (by intros; omega) (fun j hj => hR j (by omega))
theorem kx_b31 {post : SX → Prop} {x1 : Int32} (T : kx_T pw ex) {M : Nat → Bool} (hM : kx_M am M)
    (K : ∀ ru' : Nat → Int32, (∀ j, j < 10 → ru' j = gf_I (rs_g (rs_era M 7) j)) → ∃ n94 : Nat, wX_buildRule_94 post x1 len dif n94 0 aw am pw ex sy ru' he be nu wh) :
    ∀ d p ru, p + d = 7 → (∀ j, j < 10 → ru j = gf_I (rs_g (rs_era M p) j)) → wX_buildRule_31 post x1 len dif (d + 1) (nI p) aw am pw ex sy ru he be nu wh := by
  intro d
  induction d with
  | zero =>
    intro p ru hp h
    obtain rfl : p = 7 := by omega
    exact br_t (by decide) (K ru h)
  | succ d ih =>
    intro p ru hp h
    exact br_f (nI_ge (b := 7) (by omega) (by decide)) ⟨10, kx_b40 T hM (by omega) (rs_era M p) (fun ru' h' => ih (p + 1) ru' (by omega) h') h⟩
theorem kx_b2 {post : SX → Prop} {x1 : Int32} {M : Nat → Bool} (K : ∀ ru' : Nat → Int32, (∀ j, j < 10 → ru' j = gf_I (rs_g (rs_era M 0) j)) → ∃ n31 : Nat, wX_buildRule_31 post x1 len dif n31 0 aw am pw ex sy ru' he be nu wh) :
    ∀ d i ru, i + d = 10 → (∀ j, j < i → ru j = gf_I (rs_g (rs_era M 0) j)) → wX_buildRule_2 post x1 len dif (d + 1) (nI i) aw am pw ex sy ru he be nu wh := by
  intro d
  induction d with
  | zero =>
    intro i ru hi h
    obtain rfl : i = 10 := by omega
    exact br_t (by decide) (K ru h)
  | succ d ih =>
    intro i ru hi h
    refine br_f (nI_ge (b := 10) (by omega) (by decide)) (pk_eq i 0 (fun e => ⟨vp_in_nI (by omega) (by decide), fun a ea y ey => ?_⟩) (fun e => ⟨vp_in_nI (by omega) (by decide), fun a ea y ey => ?_⟩))
    · rw [nI_1] at ey
      rw [kx_c (i := i) (by omega)] at ea
      subst ea ey
      exact ih (i + 1) _ (by omega) (kx_ap h (by rw [rs_era_0 (by omega), if_pos e]; decide))
    · rw [nI_1] at ey
      rw [kx_c (i := i) (by omega)] at ea
      subst ea ey
      exact ih (i + 1) _ (by omega) (kx_ap h (by rw [rs_era_0 (by omega), if_neg e]; decide))
/-- the rule that is built -/
theorem kx_build {post : SX → Prop} (T : kx_T pw ex) {M : Nat → Bool} (hM : kx_M am M) (S : Nat → BitVec 3) (hl : rs_ct M 7 ≤ 4) (hS : ∀ j, 1 ≤ j → j < 5 → sy j = gf_I (S j))
    (K : ∀ (len' : Int32) (ru' he' be' : Nat → Int32), (∀ j, j < 10 → ru' j = gf_I (rs_g (rs_rule M S) j)) → post (len', dif, aw, am, pw, ex, sy, ru', he', be', nu, wh)) :
    wpX_buildRule post (len, dif, aw, am, pw, ex, sy, ru, he, be, nu, wh) (nI (rs_ct M 7)) := by
  refine ⟨11, kx_b2 (M := M) (fun ru' h => ⟨8, kx_b31 T hM (fun ru'' h' => ⟨11, kx_b94 (fun he' h'' y ey => ?_) 10 0 he (by omega) (by intros; omega)⟩) 7 0 ru' (by omega) h⟩) 10 0 ru (by omega) (by intros; omega)⟩
  rw [nI_1] at ey
  subst ey
  exact ⟨_, kx_b127 T S hl hS (4 - rs_ct M 7) (rs_ct M 7 + 1) (rs_era M 7) (rs_era M 7) (rs_ct M 7) ru'' he' be (by omega) (by omega) (by omega) h' (fun j hj => (h'' j hj).trans (h' j hj)) K⟩
end
end
section
/-! the walks of the component: the word that is found -/
theorem kx_par : ∀ k, k < 8 → ((nI k &&& 1 = 0) ↔ k % 2 = 0) := by decide +kernel
section
variable {len dif : Int32} {aw am pw ex sy ru he be nu wh : Nat → Int32}
theorem kx_val6 {post : Int32 → Prop} (T : kx_T pw ex) {w : Nat → BitVec 3} (hw : ∀ j, j < 7 → aw j = gf_I (w j)) (x : BitVec 3) :
    ∀ i s x3 x4, i ≤ 7 → x3 = gf_I s → x4 = nI i + (-1) → post (gf_I (gf_hor w x i s)) → wX_valueOf__word_6 post (gf_I x) len dif aw am pw ex sy ru he be nu wh (i + 1) x3 x4 := by
  intro i
  induction i with
  | zero =>
    intro s x3 x4 _ e3 e4 h
    subst e3 e4
    exact br_t (by decide) h
  | succ i ih =>
    intro s x3 x4 hi e3 e4 h
    rw [pk_m1] at e4
    subst e3 e4
    refine br_f (nI_pos (by omega)) (kx_times T _ _ ⟨vp_in_nI (by omega) (by decide), fun y ey z ez => ?_⟩)
    rw [kx_c (i := i) (by omega), hw i (by omega), gf_I_xor] at ey
    exact ih _ y z (by omega) ey ez h
theorem kx_val {post : Int32 → Prop} (T : kx_T pw ex) {w : Nat → BitVec 3} (hw : ∀ j, j < 7 → aw j = gf_I (w j)) (x : BitVec 3) (h : post (gf_I (gf_hor w x 7 0))) : wpX_valueOf__word post (len, dif, aw, am, pw, ex, sy, ru, he, be, nu, wh) (gf_I x) :=
  ⟨8, kx_val6 T hw x 7 0 0 6 (by omega) gf_I0.symm (by decide) h⟩
theorem kx_vwh6 {post : Int32 → Prop} (T : kx_T pw ex) {w : Nat → BitVec 3} (hw : ∀ j, j < 7 → wh j = gf_I (w j)) (x : BitVec 3) :
    ∀ i s x3 x4, i ≤ 7 → x3 = gf_I s → x4 = nI i + (-1) → post (gf_I (gf_hor w x i s)) → wX_valueOf__whole_6 post (gf_I x) len dif aw am pw ex sy ru he be nu wh (i + 1) x3 x4 := by
  intro i
  induction i with
  | zero =>
    intro s x3 x4 _ e3 e4 h
    subst e3 e4
    exact br_t (by decide) h
  | succ i ih =>
    intro s x3 x4 hi e3 e4 h
    rw [pk_m1] at e4
    subst e3 e4
    refine br_f (nI_pos (by omega)) (kx_times T _ _ ⟨vp_in_nI (by omega) (by decide), fun y ey z ez => ?_⟩)
    rw [kx_c (i := i) (by omega), hw i (by omega), gf_I_xor] at ey
    exact ih _ y z (by omega) ey ez h
theorem kx_vwh {post : Int32 → Prop} (T : kx_T pw ex) {w : Nat → BitVec 3} (hw : ∀ j, j < 7 → wh j = gf_I (w j)) (x : BitVec 3) (h : post (gf_I (gf_hor w x 7 0))) : wpX_valueOf__whole post (len, dif, aw, am, pw, ex, sy, ru, he, be, nu, wh) (gf_I x) :=
  ⟨8, kx_vwh6 T hw x 7 0 0 6 (by omega) gf_I0.symm (by decide) h⟩
theorem kx_n16 {post : SX → Prop} {J : Int32 → (Nat → Int32) → (Nat → Int32) → (Nat → Int32) → (Nat → Int32) → (Nat → Int32) → (Nat → Int32) → (Nat → Int32) → (Nat → Int32) → (Nat → Int32) → (Nat → Int32) → Prop}
    (T : kx_T pw ex) (R : List (BitVec 3)) (S : Nat → BitVec 3) {k : Nat} (hk : k < 4) (hR : ∀ j, j < 10 → ru j = gf_I (rs_g R j)) (hS : ∀ j, 1 ≤ j → j < 5 → sy j = gf_I (S j))
    (K : ∀ nu' : Nat → Int32, (∀ j, j < k + 1 → nu' j = gf_I (rs_num R S j)) → J (nI (k + 1)) aw am pw ex sy ru he be nu' wh) :
    ∀ d i nu, i + d = k + 1 → (∀ j, j < k → nu j = gf_I (rs_num R S j)) → nu k = gf_I (gf_sum (fun i => gf_mul (rs_g R i) (S (k - i + 1))) i) →
      wX_findNumerator_16 post J (nI k) len dif (d + 1) (nI i) aw am pw ex sy ru he be nu wh := by
  intro d
  induction d with
  | zero =>
    intro i nu hi h hn
    obtain rfl : i = k + 1 := by omega
    refine br_t (nI_lt (by omega) (by omega)) (fun y ey => ?_)
    rw [nI_1] at ey
    subst ey
    refine K nu (fun j hj => ?_)
    by_cases e : j = k
    · subst e; exact hn
    · exact h j (by omega)
  | succ d ih =>
    intro i nu hi h hn
    refine br_f (nI_nlt (by omega) (by omega)) ?_
    rw [pk_sub (by omega), nI_1 (k - i)]
    refine ⟨vp_in_nI (by omega) (by decide), vp_in_nI (by omega) (by decide), vp_in_nI (by omega) (by decide), ?_⟩
    rw [kx_c (i := i) (by omega), kx_c (i := k - i + 1) (by omega), hR i (by omega), hS (k - i + 1) (by omega) (by omega)]
    refine kx_times T _ _ ⟨vp_in_nI (by omega) (by decide), fun a ea y ey => ?_⟩
    rw [nI_1] at ey
    rw [kx_c (i := k) (by omega), hn, gf_I_xor] at ea
    subst ea ey
    exact ih (i + 1) _ (by omega) (fun j hj => by rw [pk_un (by omega)]; exact h j hj) pk_us
theorem kx_n2 {post : SX → Prop} (T : kx_T pw ex) (R : List (BitVec 3)) (S : Nat → BitVec 3) (hR : ∀ j, j < 10 → ru j = gf_I (rs_g R j)) (hS : ∀ j, 1 ≤ j → j < 5 → sy j = gf_I (S j))
    (K : ∀ nu' : Nat → Int32, (∀ j, j < 4 → nu' j = gf_I (rs_num R S j)) → post (len, dif, aw, am, pw, ex, sy, ru, he, be, nu', wh)) :
    ∀ d k nu, k + d = 4 → (∀ j, j < k → nu j = gf_I (rs_num R S j)) → wX_findNumerator_2 post len dif (d + 1) (nI k) aw am pw ex sy ru he be nu wh := by
  intro d
  induction d with
  | zero =>
    intro k nu hk h
    obtain rfl : k = 4 := by omega
    exact br_t (by decide) (K nu h)
  | succ d ih =>
    intro k nu hk h
    refine br_f (nI_ge (b := 4) (by omega) (by decide)) ⟨vp_in_nI (by omega) (by decide), fun a ea => ⟨k + 1 + 1, ?_⟩⟩
    rw [kx_c (i := k) (by omega)] at ea
    subst ea
    exact kx_n16 T R S (by omega) hR hS (fun nu' h' => ih (k + 1) nu' (by omega) h') (k + 1) 0 _ (by omega) (fun j hj => by rw [pk_un (by omega)]; exact h j hj) (by rw [pk_us]; exact gf_I0.symm)
theorem kx_num {post : SX → Prop} (T : kx_T pw ex) (R : List (BitVec 3)) (S : Nat → BitVec 3) (hR : ∀ j, j < 10 → ru j = gf_I (rs_g R j)) (hS : ∀ j, 1 ≤ j → j < 5 → sy j = gf_I (S j))
    (K : ∀ nu' : Nat → Int32, (∀ j, j < 4 → nu' j = gf_I (rs_num R S j)) → post (len, dif, aw, am, pw, ex, sy, ru, he, be, nu', wh)) : wpX_findNumerator post (len, dif, aw, am, pw, ex, sy, ru, he, be, nu, wh) :=
  ⟨5, kx_n2 T R S hR hS K 4 0 nu (by omega) (by intros; omega)⟩
theorem kx_c24 {post : SX → Prop} (T : kx_T pw ex) (R : List (BitVec 3)) {N : Nat → BitVec 3} {p : Nat} {f : BitVec 3} (hp : p < 7) (hR : ∀ j, j < 10 → ru j = gf_I (rs_g R j)) (hN : ∀ j, j < 4 → nu j = gf_I (N j)) (hw : wh p = gf_I f)
    (K : ∀ wh' : Nat → Int32, (∀ j, j ≠ p → wh' j = wh j) → wh' p = gf_I (f ^^^ rs_cor R N p) → post (len, dif, aw, am, pw, ex, sy, ru, he, be, nu, wh')) :
    ∀ d k, k + d = 8 → wX_correct_24 post (nI p) (gf_I (gf_pw (7 - p))) len dif aw am pw ex sy ru he be nu wh (d + 1) (gf_I (gf_sum (rs_fs R (gf_pw (7 - p))) k)) (gf_I (gf_sum (rs_fo R (gf_pw (7 - p))) k)) (gf_I (gf_sum (rs_fu N (gf_pw (7 - p))) k)) (gf_I (gf_pow (gf_pw (7 - p)) k)) (nI k) := by
  intro d
  induction d with
  | zero =>
    intro k hk
    obtain rfl : k = 8 := by omega
    refine br_t (by decide) ?_
    by_cases h1 : rs_sm R p = 0
    · refine br_t ((gf_I_0 _).mpr h1) ?_
      by_cases h2 : rs_od R p = 0
      · refine br_t ((gf_I_0 _).mpr h2) (K wh (fun _ _ => rfl) ?_)
        have e : rs_cor R N p = 0 := if_neg (fun z => z.2 h2)
        rw [e, gf_xz]; exact hw
      · refine br_f (fun z => h2 ((gf_I_0 _).mp z)) ⟨vp_in_nI (by omega) (by decide), ?_⟩
        rw [kx_c (i := p) (by omega), T.1 p (by omega)]
        refine kx_times T _ _ ⟨vp_in_nI (by omega) (by decide), kx_over T _ _ ⟨vp_in_nI (by omega) (by decide), fun a ea => ?_⟩⟩
        subst ea
        have e : rs_cor R N p = gf_div (rs_up N p) (gf_mul (rs_od R p) (gf_pw p)) := if_pos ⟨h1, h2⟩
        refine K _ (fun j hj => pk_un hj) ?_
        rw [pk_us, hw, gf_I_xor, e]; rfl
    · refine br_f (fun z => h1 ((gf_I_0 _).mp z)) (K wh (fun _ _ => rfl) ?_)
      have e : rs_cor R N p = 0 := if_neg (fun z => h1 z.1)
      rw [e, gf_xz]; exact hw
  | succ d ih =>
    intro k hk
    refine br_f (nI_ge (b := 8) (by omega) (by decide)) ⟨vp_in_nI (by omega) (by decide), ?_⟩
    rw [kx_c (i := k) (by omega), hR k (by omega)]
    refine kx_times T _ _ (fun y ey => ?_)
    rw [gf_I_xor] at ey
    subst ey
    have key : ∀ z0 : Int32, z0 = gf_I (rs_fo R (gf_pw (7 - p)) k) → wX_correct_66 post (wX_correct_24 post (nI p) (gf_I (gf_pw (7 - p))) len dif aw am pw ex sy ru he be nu wh (d + 1)) (nI p) (gf_I (gf_pw (7 - p))) (gf_I (gf_sum (rs_fs R (gf_pw (7 - p))) (k + 1))) (gf_I (gf_sum (rs_fu N (gf_pw (7 - p))) k)) (gf_I (gf_pow (gf_pw (7 - p)) k)) (nI k) z0 (gf_I (gf_sum (rs_fo R (gf_pw (7 - p))) k)) len dif aw am pw ex sy ru he be nu wh := by
      intro z0 ez
      subst ez
      intro y ey
      rw [gf_I_xor] at ey
      subst ey
      have key2 : ∀ z1 : Int32, z1 = gf_I (rs_fu N (gf_pw (7 - p)) k) → wX_correct_94 post (wX_correct_24 post (nI p) (gf_I (gf_pw (7 - p))) len dif aw am pw ex sy ru he be nu wh (d + 1)) (nI p) (gf_I (gf_pw (7 - p))) (gf_I (gf_sum (rs_fs R (gf_pw (7 - p))) (k + 1))) (gf_I (gf_sum (rs_fo R (gf_pw (7 - p))) (k + 1))) (gf_I (gf_pow (gf_pw (7 - p)) k)) (nI k) z1 (gf_I (gf_sum (rs_fu N (gf_pw (7 - p))) k)) len dif aw am pw ex sy ru he be nu wh := by
        intro z1 ez
        subst ez
        intro y ey
        rw [gf_I_xor] at ey
        subst ey
        refine kx_times T _ _ (fun y ey => ?_)
        rw [nI_1] at ey
        subst ey
        exact ih (k + 1) (by omega)
      by_cases h4 : k < 4
      · refine br_f (nI_ge (b := 4) h4 (by decide)) ⟨vp_in_nI h4 (by decide), ?_⟩
        rw [kx_c (i := k) (by omega), hN k h4]
        exact kx_times T _ _ (key2 _ (by unfold rs_fu; rw [if_pos h4]))
      · exact br_t (nI_le (a := 4) (by omega) (by omega)) (key2 _ (by unfold rs_fu; rw [if_neg h4]; exact gf_I0.symm))
    by_cases h2 : k % 2 = 0
    · exact br_t ((kx_par k (by omega)).mpr h2) (key _ (by unfold rs_fo; rw [if_pos h2]; exact gf_I0.symm))
    · exact br_f (fun z => h2 ((kx_par k (by omega)).mp z)) (key _ (by unfold rs_fo; rw [if_neg h2]; rfl))
theorem kx_cor {post : SX → Prop} (T : kx_T pw ex) (R : List (BitVec 3)) {N : Nat → BitVec 3} {p : Nat} {f : BitVec 3} (hp : p < 7) (hR : ∀ j, j < 10 → ru j = gf_I (rs_g R j)) (hN : ∀ j, j < 4 → nu j = gf_I (N j)) (hw : wh p = gf_I f)
    (K : ∀ wh' : Nat → Int32, (∀ j, j ≠ p → wh' j = wh j) → wh' p = gf_I (f ^^^ rs_cor R N p) → post (len, dif, aw, am, pw, ex, sy, ru, he, be, nu, wh')) : wpX_correct post (len, dif, aw, am, pw, ex, sy, ru, he, be, nu, wh) (nI p) := by
  have e : (7 : Int32) - nI p = nI (7 - p) := pk_sub (a := 7) (by omega)
  unfold wpX_correct
  dsimp only
  rw [e]
  refine ⟨vp_in_nI (by omega) (by decide), fun y ey => ⟨9, ?_⟩⟩
  rw [kx_c (i := 7 - p) (by omega), T.1 (7 - p) (by omega)] at ey
  subst ey
  exact kx_c24 T R hp hR hN hw K 8 0 (by omega)
theorem kx_i7 {post : Int32 → SX → Prop} {x1 : Int32} {M : Nat → Bool} {w a : Nat → BitVec 3} (hM : kx_M am M) (hw : ∀ j, j < 7 → aw j = gf_I (w j)) (ha : ∀ j, j < 7 → wh j = gf_I (a j))
    (K : ∃ n59 : Nat, wX_isRight_59 post x1 len (nI (rs_df M w a 7)) aw am pw ex sy ru he be nu wh n59 1) :
    ∀ d p dif, p + d = 7 → dif = nI (rs_df M w a p) → wX_isRight_7 post x1 len aw am pw ex sy ru he be nu wh (d + 1) (nI p) dif := by
  intro d
  induction d with
  | zero =>
    intro p dif hp e
    obtain rfl : p = 7 := by omega
    subst e
    exact br_t (by decide) K
  | succ d ih =>
    intro p dif hp e
    refine br_f (nI_ge (b := 7) (by omega) (by decide)) ⟨vp_in_nI (by omega) (by decide), ?_⟩
    rw [kx_c (i := p) (by omega), hw p (by omega), ha p (by omega)]
    have hs : ∀ b c : Nat, cond (M p) 0 (if w p = a p then 0 else 1) = c → b = rs_df M w a p → b + c = rs_df M w a (p + 1) := by
      intro b c h1 h2
      rw [← h1, h2]; rfl
    cases hm : M p with
    | true =>
      refine br_f (fun z => by rw [(hM p (by omega)).mp z] at hm; exact absurd hm (by decide)) (fun y ey z ez => ?_)
      rw [nI_1] at ez
      subst ez
      refine ih (p + 1) y (by omega) ?_
      rw [ey, e, ← hs _ 0 (by rw [hm]; rfl) rfl]
      exact nI_add _ 0
    | false =>
      refine br_t ((hM p (by omega)).mpr hm) ⟨vp_in_nI (by omega) (by decide), vp_in_nI (by omega) (by decide), ?_⟩
      by_cases h : w p = a p
      · refine br_t (congrArg gf_I h.symm) (fun y ey z ez => ?_)
        rw [nI_1] at ez
        subst ez
        refine ih (p + 1) y (by omega) ?_
        rw [ey, e, ← hs _ 0 (by rw [hm, cond_false, if_pos h]) rfl]
        exact nI_add _ 0
      · refine br_f (fun z => h ((gf_I_inj _ _).mp z).symm) (fun y ey z ez => ?_)
        rw [nI_1] at ez
        subst ez
        refine ih (p + 1) y (by omega) ?_
        rw [ey, e, ← hs _ 1 (by rw [hm, cond_false, if_neg h]) rfl]
        exact nI_add _ 1
theorem kx_i59 {post : Int32 → SX → Prop} (T : kx_T pw ex) {a : Nat → BitVec 3} {D l : Nat} (hD : D ≤ 7) (hl : l ≤ 7) (ha : ∀ j, j < 7 → wh j = gf_I (a j))
    (K : ∀ r : Int32, ((r = 0 ∧ ¬ (rs_zero a ∧ 2 * D + l ≤ 4)) ∨ (r = 1 ∧ rs_zero a ∧ 2 * D + l ≤ 4)) → post r (len, nI D, aw, am, pw, ex, sy, ru, he, be, nu, wh)) :
    ∀ d j, j + d = 5 → 1 ≤ j → (∀ i, 1 ≤ i → i < j → rs_syn a i = 0) → wX_isRight_59 post (nI l) len (nI D) aw am pw ex sy ru he be nu wh (d + 1) (nI j) := by
  intro d
  induction d with
  | zero =>
    intro j hj _ h
    obtain rfl : j = 5 := by omega
    refine br_t (by decide) ?_
    have e : (2 : Int32) * nI D + nI l = nI (2 * D + l) := by rw [show (2 : Int32) * nI D = nI (2 * D) from pk_mul 2 D, nI_add]
    rw [e]
    exact pk_lt 4 (2 * D + l) (fun q => K 0 (Or.inl ⟨rfl, fun z => by omega⟩)) (fun q => K 1 (Or.inr ⟨rfl, h, q⟩))
  | succ d ih =>
    intro j hj h1 h
    refine br_f (nI_ge (b := 5) (by omega) (by decide)) ⟨vp_in_nI (by omega) (by decide), ?_⟩
    rw [kx_c (i := j) (by omega), T.1 j (by omega)]
    refine kx_vwh T ha (gf_pw j) ?_
    by_cases z : rs_syn a j = 0
    · refine br_t ((gf_I_0 _).mpr z) (fun y ey => ?_)
      rw [nI_1] at ey
      subst ey
      refine ih (j + 1) (by omega) (by omega) (fun i hi hij => ?_)
      by_cases e : i = j
      · rw [e]; exact z
      · exact h i hi (by omega)
    · exact br_f (fun q => z ((gf_I_0 _).mp q)) (K 0 (Or.inl ⟨rfl, fun q => z (q.1 j h1 (by omega))⟩))
theorem kx_right {post : Int32 → SX → Prop} (T : kx_T pw ex) {M : Nat → Bool} {w a : Nat → BitVec 3} (hM : kx_M am M) (hw : ∀ j, j < 7 → aw j = gf_I (w j)) (ha : ∀ j, j < 7 → wh j = gf_I (a j))
    (K : ∀ r : Int32, ((r = 0 ∧ ¬ (rs_zero a ∧ rs_near M w a)) ∨ (r = 1 ∧ rs_zero a ∧ rs_near M w a)) → post r (len, nI (rs_df M w a 7), aw, am, pw, ex, sy, ru, he, be, nu, wh)) : wpX_isRight post (len, dif, aw, am, pw, ex, sy, ru, he, be, nu, wh) (nI (rs_ct M 7)) :=
  ⟨8, kx_i7 hM hw ha ⟨5, kx_i59 T (rs_df_le M w a 7) (rs_ct_le M 7) ha K 4 1 (by omega) (by omega) (by intros; omega)⟩ 7 0 0 (by omega) rfl⟩
theorem kx_nar {r : Int32} {P Q : Prop} (h : (r = 0 ∧ P) ∨ (r = 1 ∧ Q)) : narrow .boolean (.int r) = .int r := by
  rcases h with h | h
  · rw [h.1]; rfl
  · rw [h.1]; rfl
theorem kx_f96 {post : Int32 → SX → Prop} (T : kx_T pw ex) {M : Nat → Bool} {w : Nat → BitVec 3} (R : List (BitVec 3)) {N D : Nat → BitVec 3} (hM : kx_M am M) (hw : ∀ j, j < 7 → aw j = gf_I (w j)) (hR : ∀ j, j < 10 → ru j = gf_I (rs_g R j)) (hN : ∀ j, j < 4 → nu j = gf_I (N j)) (hD : ∀ j, D j = w j ^^^ rs_cor R N j)
    (K : ∀ (r dif' : Int32) (wh' : Nat → Int32), (∀ j, j < 7 → wh' j = gf_I (D j)) → dif' = nI (rs_df M w D 7) → ((r = 0 ∧ ¬ (rs_zero D ∧ rs_near M w D)) ∨ (r = 1 ∧ rs_zero D ∧ rs_near M w D)) → post r (len, dif', aw, am, pw, ex, sy, ru, he, be, nu, wh')) :
    ∀ d p wh, p + d = 7 → (∀ j, j < p → wh j = gf_I (D j)) → (∀ j, p ≤ j → j < 7 → wh j = gf_I (w j)) → wX_findWhole_96 post (nI (rs_ct M 7)) (d + 1) (nI p) len dif aw am pw ex sy ru he be nu wh := by
  intro d
  induction d with
  | zero =>
    intro p wh hp h1 h2
    obtain rfl : p = 7 := by omega
    refine br_t (by decide) (kx_right T hM hw h1 (fun r h => ?_))
    exact ⟨kx_nar h, K r _ wh h1 rfl h⟩
  | succ d ih =>
    intro p wh hp h1 h2
    refine br_f (nI_ge (b := 7) (by omega) (by decide)) (kx_cor T R (by omega) hR hN (h2 p (by omega) (by omega)) (fun wh' a b => ?_))
    intro y ey
    rw [nI_1] at ey
    subst ey
    refine ih (p + 1) wh' (by omega) (fun j hj => ?_) (fun j hj h7 => ?_)
    · by_cases e : j = p
      · subst e; rw [b, hD]
      · rw [a j e]; exact h1 j (by omega)
    · rw [a j (by omega)]; exact h2 j (by omega) h7
theorem kx_f54 {post : Int32 → SX → Prop} {x1 : Int32} (T : kx_T pw ex) {w : Nat → BitVec 3} (hw : ∀ j, j < 7 → aw j = gf_I (w j))
    (K : ∀ sy' : Nat → Int32, (∀ j, 1 ≤ j → j < 5 → sy' j = gf_I (rs_syn w j)) → wX_findWhole_54 post x1 len dif 1 (nI 5) aw am pw ex sy' ru he be nu wh) :
    ∀ d j sy, j + d = 5 → 1 ≤ j → (∀ i, 1 ≤ i → i < j → sy i = gf_I (rs_syn w i)) → wX_findWhole_54 post x1 len dif (d + 1) (nI j) aw am pw ex sy ru he be nu wh := by
  intro d
  induction d with
  | zero =>
    intro j sy hj _ h
    obtain rfl : j = 5 := by omega
    exact K sy h
  | succ d ih =>
    intro j sy hj h1 h
    refine br_f (nI_ge (b := 5) (by omega) (by decide)) ⟨vp_in_nI (by omega) (by decide), ?_⟩
    rw [kx_c (i := j) (by omega), T.1 j (by omega)]
    refine kx_val T hw (gf_pw j) ⟨vp_in_nI (by omega) (by decide), fun a ea y ey => ?_⟩
    rw [nI_1] at ey
    subst ea ey
    refine ih (j + 1) _ (by omega) (by omega) (fun i hi hij => ?_)
    by_cases e : i = j
    · subst e; exact pk_us
    · rw [pk_un e]; exact h i hi (by omega)
theorem kx_f4 {post : Int32 → SX → Prop} {M : Nat → Bool} {w : Nat → BitVec 3} (hM : kx_M am M) (hw : ∀ j, j < 7 → aw j = gf_I (w j))
    (K : ∀ wh' : Nat → Int32, (∀ j, j < 7 → wh' j = gf_I (w j)) → wX_findWhole_4 post len dif 1 (nI (rs_ct M 7)) (nI 7) aw am pw ex sy ru he be nu wh') :
    ∀ d p wh, p + d = 7 → (∀ j, j < p → wh j = gf_I (w j)) → wX_findWhole_4 post len dif (d + 1) (nI (rs_ct M p)) (nI p) aw am pw ex sy ru he be nu wh := by
  intro d
  induction d with
  | zero =>
    intro p wh hp h
    obtain rfl : p = 7 := by omega
    exact K wh h
  | succ d ih =>
    intro p wh hp h
    refine br_f (nI_ge (b := 7) (by omega) (by decide)) ⟨vp_in_nI (by omega) (by decide), vp_in_nI (by omega) (by decide), fun a ea => ⟨vp_in_nI (by omega) (by decide), ?_⟩⟩
    rw [kx_c (i := p) (by omega)] at ea
    rw [kx_c (i := p) (by omega)]
    have ha : ∀ j, j < p + 1 → a j = gf_I (w j) := by
      rw [ea]
      exact kx_ap h (hw p (by omega))
    cases hm : M p with
    | true =>
      refine br_f (fun z => by rw [(hM p (by omega)).mp z] at hm; exact absurd hm (by decide)) (fun y ey z ez => ?_)
      rw [nI_1] at ez ey
      have e : rs_ct M (p + 1) = rs_ct M p + 1 := by show rs_ct M p + cond (M p) 1 0 = _; rw [hm]; rfl
      rw [← e] at ey
      subst ey ez
      exact ih (p + 1) a (by omega) ha
    | false =>
      refine br_t ((hM p (by omega)).mpr hm) (fun y ey z ez => ?_)
      rw [nI_1] at ez
      have e : rs_ct M (p + 1) = rs_ct M p + 0 := by show rs_ct M p + cond (M p) 1 0 = _; rw [hm]; rfl
      rw [show nI (rs_ct M p) + 0 = nI (rs_ct M p + 0) from nI_add _ 0, ← e] at ey
      subst ey ez
      exact ih (p + 1) a (by omega) ha
/-- the component's search -/
theorem kx_find {post : Int32 → SX → Prop} (T : kx_T pw ex) {M : Nat → Bool} {w : Nat → BitVec 3} (hM : kx_M am M) (hw : ∀ j, j < 7 → aw j = gf_I (w j))
    (K : ∀ (r len' dif' : Int32) (sy' ru' he' be' nu' wh' : Nat → Int32), ((r = 0 ∧ ¬ rs_ok M w) ∨ (r = 1 ∧ rs_ok M w ∧ (∀ j, j < 7 → wh' j = gf_I (rs_dec M w j)) ∧ dif' = nI (rs_df M w (rs_dec M w) 7))) →
      post r (len', dif', aw, am, pw, ex, sy', ru', he', be', nu', wh')) : wpX_findWhole post (len, dif, aw, am, pw, ex, sy, ru, he, be, nu, wh) := by
  refine ⟨8, kx_f4 hM hw (fun wh' hwh => ?_) 7 0 wh (by omega) (by intros; omega)⟩
  refine br_t (by decide) (pk_le (rs_ct M 7) 4 (fun hl => ⟨5, kx_f54 T hw (fun sy' hS => ?_) 4 1 sy (by omega) (by omega) (by intros; omega)⟩) (fun hl => ?_) rfl rfl (by have := rs_ct_le M 7; omega) (by omega))
  · refine br_t (by decide) (kx_build T hM (rs_syn w) hl hS (fun len' ru' he' be' hR => ?_))
    dsimp only
    refine kx_num T (rs_rule M (rs_syn w)) (rs_syn w) hR hS (fun nu' hN => ?_)
    dsimp only
    refine ⟨8, kx_f96 T (rs_rule M (rs_syn w)) (D := rs_dec M w) hM hw hR hN (fun j => rfl) (fun r dif' wh'' a b c => ?_) 7 0 wh' (by omega) (by intros; omega) (fun j _ hj => hwh j hj)⟩
    refine K r _ dif' _ _ _ _ _ wh'' ?_
    rcases c with c | c
    · exact Or.inl c
    · exact Or.inr ⟨c.1, c.2, a, b⟩
  · refine K 0 _ _ _ _ _ _ _ _ (Or.inl ⟨rfl, fun z => ?_⟩)
    have z2 := z.2
    unfold rs_near at z2
    omega
end
end
section
/-! the walks of the component: sending, taking over, the tables -/
section
variable {len dif : Int32} {aw am pw ex sy ru he be nu wh : Nat → Int32}
theorem kx_d13 {post : SX → Prop} (T : kx_T pw ex) {w : Nat → BitVec 3} (hw : ∀ j, j < 7 → aw j = gf_I (w j)) :
    ∀ i r0 r1 r2 r3, i ≤ 3 → (∀ aw' : Nat → Int32, (∀ j, j < 7 → aw' j = gf_I (rs_dv w i r0 r1 r2 r3 j)) → post (len, dif, aw', am, pw, ex, sy, ru, he, be, nu, wh)) →
      wX_divideAway_13 post len dif aw am pw ex sy ru he be nu wh (i + 1) (gf_I r0) (gf_I r1) (gf_I r2) (gf_I r3) (nI (3 + i)) := by
  intro i
  induction i with
  | zero =>
    intro r0 r1 r2 r3 _ K
    refine br_t (by decide) (fun a ea b eb c ec d ed => ?_)
    subst ea
    subst eb
    subst ec
    subst ed
    refine K _ (fun j hj => ?_)
    match j, hj with
    | 0, _ => rfl
    | 1, _ => rfl
    | 2, _ => rfl
    | 3, _ => rfl
    | 4, _ => exact hw 4 (by omega)
    | 5, _ => exact hw 5 (by omega)
    | 6, _ => exact hw 6 (by omega)
    | q + 7, hq => exact absurd hq (by omega)
  | succ i ih =>
    intro r0 r1 r2 r3 hi K
    refine br_f (nI_nlt (b := 4) (by omega) (by omega)) ⟨vp_in_nI (by omega) (by decide), fun x ex => ?_⟩
    rw [kx_c (i := 3 + (i + 1)) (by omega), hw (3 + (i + 1)) (by omega), gf_I_xor] at ex
    subst ex
    refine kx_times T _ 3 (fun y ey z ez => ?_)
    rw [gf_I_xor] at ey ez
    subst ey ez
    refine kx_times T _ 2 (fun y ey => ?_)
    rw [gf_I_xor] at ey
    subst ey
    refine kx_times T _ 3 (fun y ey => ?_)
    have e : nI (3 + (i + 1)) + (-1) = nI (3 + i) := pk_m1 (3 + i)
    rw [e] at ey
    subst ey
    exact ih _ _ _ _ (by omega) K
theorem kx_div {post : SX → Prop} (T : kx_T pw ex) {w : Nat → BitVec 3} (hw : ∀ j, j < 7 → aw j = gf_I (w j))
    (K : ∀ aw' : Nat → Int32, (∀ j, j < 7 → aw' j = gf_I (rs_dv w 3 0 0 0 0 j)) → post (len, dif, aw', am, pw, ex, sy, ru, he, be, nu, wh)) : wpX_divideAway post (len, dif, aw, am, pw, ex, sy, ru, he, be, nu, wh) :=
  ⟨4, kx_d13 T hw 3 0 0 0 0 (by omega) K⟩
theorem kx_nb0 : vp_nar .boolean 0 = 0 := rfl
theorem kx_nb1 : vp_nar .boolean 1 = 1 := rfl
theorem kx_s26 {post : Int32 → SX → Prop} {c4 c5 c6 : BitVec 3}
    (K : ∀ aw' am' : Nat → Int32, (∀ j, j < 7 → aw' j = gf_I (rs_c3 c4 c5 c6 j)) → (∀ j, j < 7 → am' j = 0) → wX_send_26 post (gf_I c4) (gf_I c5) (gf_I c6) len dif 1 (nI 7) aw' am' pw ex sy ru he be nu wh) :
    ∀ d i aw am, i + d = 7 → (∀ j, j < i → aw j = gf_I (rs_c3 c4 c5 c6 j)) → (∀ j, j < i → am j = 0) → wX_send_26 post (gf_I c4) (gf_I c5) (gf_I c6) len dif (d + 1) (nI i) aw am pw ex sy ru he be nu wh := by
  intro d
  induction d with
  | zero =>
    intro i aw am hi h1 h2
    obtain rfl : i = 7 := by omega
    exact K aw am h1 h2
  | succ d ih =>
    intro i aw am hi h1 h2
    have key : ∀ z0 : Int32, z0 = gf_I (rs_c3 c4 c5 c6 i) → wX_send_71 post (wX_send_26 post (gf_I c4) (gf_I c5) (gf_I c6) len dif (d + 1)) (gf_I c4) (gf_I c5) (gf_I c6) (nI i) z0 (nI i) len dif aw am pw ex sy ru he be nu wh := by
      intro z0 ez
      refine ⟨vp_in_nI (by omega) (by decide), fun a ea => ⟨vp_in_nI (by omega) (by decide), fun b eb y ey => ?_⟩⟩
      rw [nI_1] at ey
      rw [kx_c (i := i) (by omega)] at ea eb
      rw [kx_nb0] at eb
      subst ea eb ey
      refine ih (i + 1) _ _ (by omega) (kx_ap h1 ez) (fun j hj => ?_)
      by_cases e : j = i
      · subst e; exact pk_us
      · rw [pk_un e]; exact h2 j (by omega)
    refine br_f (nI_ge (b := 7) (by omega) (by decide)) ?_
    by_cases h4 : i = 4
    · subst h4; exact br_t rfl (key _ rfl)
    · refine br_f (fun z => h4 ((nI_eq (b := 4) (by omega) (by omega)).mp z)) ?_
      by_cases h5 : i = 5
      · subst h5; exact br_t rfl (key _ rfl)
      · refine br_f (fun z => h5 ((nI_eq (b := 5) (by omega) (by omega)).mp z)) ?_
        by_cases h6 : i = 6
        · subst h6; exact br_t rfl (key _ rfl)
        · refine br_f (fun z => h6 ((nI_eq (b := 6) (by omega) (by omega)).mp z)) (key _ ?_)
          unfold rs_c3
          rw [if_neg h4, if_neg h5, if_neg h6, gf_I0]
theorem kx_m11 {post : Int32 → SX → Prop} {a : Nat → BitVec 3} (ha : ∀ j, j < 7 → wh j = gf_I (a j))
    (K : ∀ aw' am' : Nat → Int32, (∀ j, j < 7 → aw' j = gf_I (a j)) → (∀ j, j < 7 → am' j = 0) → post 1 (len, dif, aw', am', pw, ex, sy, ru, he, be, nu, wh)) :
    ∀ d i aw am, i + d = 7 → (∀ j, j < i → aw j = gf_I (a j)) → (∀ j, j < i → am j = 0) → wX_mend_11 post len dif (d + 1) (nI i) aw am pw ex sy ru he be nu wh := by
  intro d
  induction d with
  | zero =>
    intro i aw am hi h1 h2
    obtain rfl : i = 7 := by omega
    exact br_t (by decide) (K aw am h1 h2)
  | succ d ih =>
    intro i aw am hi h1 h2
    refine br_f (nI_ge (b := 7) (by omega) (by decide)) ⟨vp_in_nI (by omega) (by decide), vp_in_nI (by omega) (by decide), fun x ex => ⟨vp_in_nI (by omega) (by decide), fun b eb y ey => ?_⟩⟩
    rw [nI_1] at ey
    rw [kx_c (i := i) (by omega)] at ex eb
    rw [kx_nb0] at eb
    subst ex eb ey
    refine ih (i + 1) _ _ (by omega) (kx_ap h1 (ha i (by omega))) (fun j hj => ?_)
    by_cases e : j = i
    · subst e; exact pk_us
    · rw [pk_un e]; exact h2 j (by omega)
end
/-! the tables, at the start -/
theorem kx_nx : ∀ k, k < 14 → (¬ (gf_I (gf_pw k) < 4) → ((2 * gf_I (gf_pw k)) - 8) ^^^ 3 = gf_I (gf_pw ((k + 1) % 7))) ∧ (gf_I (gf_pw k) < 4 → 2 * gf_I (gf_pw k) = gf_I (gf_pw ((k + 1) % 7))) := by decide +kernel
theorem kx_p7 : ∀ k, k < 14 → gf_pw (k % 7) = gf_pw k := by decide +kernel
theorem kx_ex : ∀ a : BitVec 3, a ≠ 0 → gf_ex a < 7 ∧ gf_pw (gf_ex a) = a := by decide +kernel
theorem kx_ex' : ∀ k, k < 7 → gf_ex (gf_pw k) = k := by decide +kernel
theorem kx_ex0 : gf_ex 0 = 0 := by decide +kernel
section
variable {len dif : Int32} {aw am pw ex sy ru he be nu wh : Nat → Int32}
theorem kx_86 {post : SX → Prop} (K : ∀ pw' ex' : Nat → Int32, kx_T pw' ex' → post (len, dif, aw, am, pw', ex', sy, ru, he, be, nu, wh)) :
    ∀ d k x1 pw ex, k + d = 14 → x1 = gf_I (gf_pw (k % 7)) → (∀ j, j < k → pw j = gf_I (gf_pw j)) → (∀ a : BitVec 3, (a = 0 ∨ gf_ex a < k) → ex a.toNat = nI (gf_ex a)) →
      wX_init_86 post len dif (d + 1) x1 (nI k) aw am pw ex sy ru he be nu wh := by
  intro d
  induction d with
  | zero =>
    intro k x1 pw ex hk e1 h1 h2
    obtain rfl : k = 14 := by omega
    refine br_t (by decide) (K pw ex ⟨h1, fun a => h2 a ?_⟩)
    by_cases ha : a = 0
    · exact Or.inl ha
    · exact Or.inr (Nat.lt_trans (kx_ex a ha).1 (by decide))
  | succ d ih =>
    intro k x1 pw ex hk e1 h1 h2
    have e1' : x1 = gf_I (gf_pw k) := by rw [e1, kx_p7 k (by omega)]
    subst e1'
    refine br_f (nI_ge (b := 14) (by omega) (by decide)) ⟨vp_in_nI (by omega) (by decide), fun p ep => ?_⟩
    rw [kx_c (i := k) (by omega)] at ep
    have hp : ∀ j, j < k + 1 → p j = gf_I (gf_pw j) := by rw [ep]; exact kx_ap h1 rfl
    have step : ∀ ex' : Nat → Int32, (∀ a : BitVec 3, (a = 0 ∨ gf_ex a < k + 1) → ex' a.toNat = nI (gf_ex a)) → wX_init_112 post (wX_init_86 post len dif (d + 1)) (gf_I (gf_pw k)) (nI k) len dif aw am p ex' sy ru he be nu wh := by
      intro ex' hx
      by_cases h4 : gf_I (gf_pw k) < 4
      · refine br_t h4 (fun y ey z ez => ?_)
        rw [nI_1] at ez
        subst ez
        exact ih (k + 1) y p ex' (by omega) (ey.trans ((kx_nx k (by omega)).2 h4)) hp hx
      · refine br_f h4 (fun y ey z ez => ?_)
        rw [nI_1] at ez
        subst ez
        exact ih (k + 1) y p ex' (by omega) (ey.trans ((kx_nx k (by omega)).1 h4)) hp hx
    by_cases h7 : 7 ≤ k
    · refine br_t (nI_le (a := 7) h7 (by omega)) (step ex (fun a ha => h2 a ?_))
      by_cases h0 : a = 0
      · exact Or.inl h0
      · exact Or.inr (Nat.lt_of_lt_of_le (kx_ex a h0).1 h7)
    · refine br_f (nI_ge (b := 7) (by omega) (by decide)) ⟨gf_in _, fun x ex1 => ?_⟩
      rw [gf_cl] at ex1
      subst ex1
      refine step _ (fun a ha => ?_)
      by_cases e : a = gf_pw k
      · rw [e, pk_us, kx_ex' k (by omega)]
      · rw [pk_un (fun z => e (BitVec.eq_of_toNat_eq z))]
        refine h2 a ?_
        by_cases h0 : a = 0
        · exact Or.inl h0
        · refine Or.inr ?_
          rcases ha with ha | ha
          · exact absurd ha h0
          · have q : gf_ex a ≠ k := by
              intro q
              rw [← q] at e
              exact e (kx_ex a h0).2.symm
            omega
theorem kx_init {post : SX → Prop} (K : ∀ pw' ex' : Nat → Int32, kx_T pw' ex' → post (0, 0, (fun _ => 0), (fun _ => 0), pw', ex', (fun _ => 0), (fun _ => 0), (fun _ => 0), (fun _ => 0), (fun _ => 0), (fun _ => 0))) : wpX_init post :=
  ⟨15, kx_86 K 14 0 1 (fun _ => 0) (fun _ => 0) (by omega) (by decide) (by intros; omega) (fun a ha => by
    rcases ha with ha | ha
    · rw [ha, kx_ex0]; rfl
    · omega)⟩
end
end
section
/-! the walks of the reference -/
def ky_s (x0 x1 : Int32) (i : Nat) (r : Int32) : Int32 := if (x1 >>> (nI i &&& 31)) &&& 1 = 1 then r ^^^ (x0 <<< (nI i &&& 31)) else r
def ky_it (x0 x1 : Int32) : Nat → Nat → Int32 → Int32
  | 0, _, r => r
  | d + 1, i, r => ky_it x0 x1 d (i + 1) (ky_s x0 x1 i r)
def ky_r1 (r : Int32) : Int32 := if r &&& 16 = 0 then r else (r ^^^ 16) ^^^ 6
def ky_r2 (r : Int32) : Int32 := if r &&& 8 = 0 then r else (r ^^^ 8) ^^^ 3
theorem ky_F : ∀ a b : BitVec 3, ky_r2 (ky_r1 (ky_it (gf_I a) (gf_I b) 3 0 0)) = gf_I (gf_mul a b) := by decide +kernel
theorem ky_m45 {post : Int32 → Prop} {r : Int32} (h : post (ky_r2 r)) : wY_multiplied_45 post r := by
  unfold ky_r2 at h
  by_cases c : r &&& 8 = 0
  · rw [if_pos c] at h; exact br_t c h
  · rw [if_neg c] at h; exact br_f c (nm_e h)
theorem ky_m4 {post : Int32 → Prop} {x0 x1 : Int32} : ∀ d i r, i + d = 3 → post (ky_r2 (ky_r1 (ky_it x0 x1 d i r))) → wY_multiplied_4 post x0 x1 (d + 1) r (nI i) := by
  intro d
  induction d with
  | zero =>
    intro i r hi h
    obtain rfl : i = 3 := by omega
    refine br_t (by decide) ?_
    have h' : post (ky_r2 (ky_r1 r)) := h
    unfold ky_r1 at h'
    by_cases c : r &&& 16 = 0
    · rw [if_pos c] at h'; exact br_t c (ky_m45 h')
    · rw [if_neg c] at h'; exact br_f c (nm_e (ky_m45 h'))
  | succ d ih =>
    intro i r hi h
    have h' : post (ky_r2 (ky_r1 (ky_it x0 x1 d (i + 1) (ky_s x0 x1 i r)))) := h
    unfold ky_s at h'
    refine br_f (nI_ge (b := 3) (by omega) (by decide)) ?_
    by_cases c : (x1 >>> (nI i &&& 31)) &&& 1 = 1
    · rw [if_pos c] at h'
      refine br_t c (nm_e (fun y ey => ?_))
      rw [nI_1] at ey
      subst ey
      exact ih (i + 1) _ (by omega) h'
    · rw [if_neg c] at h'
      refine br_f c (fun y ey => ?_)
      rw [nI_1] at ey
      subst ey
      exact ih (i + 1) _ (by omega) h'
theorem ky_mul {post : Int32 → Prop} (a b : BitVec 3) (h : post (gf_I (gf_mul a b))) : wpY_multiplied post (gf_I a) (gf_I b) :=
  ⟨4, ky_m4 3 0 0 (by omega) (by rw [ky_F]; exact h)⟩
def ky_g (f : Nat → BitVec 3) (x : BitVec 3) (j : Nat) : BitVec 3 := (if j = 0 then 0 else f (j - 1)) ^^^ gf_mul (f j) x
section
variable {bl bm ze ma : Nat → Int32}
theorem ky_t2 {post : SY → Prop} (f : Nat → BitVec 3) (x : BitVec 3) (K : ∀ ze' : Nat → Int32, (∀ j, j < 5 → ze' j = gf_I (ky_g f x j)) → post (bl, bm, ze', ma)) :
    ∀ i ze x2, i ≤ 5 → x2 = nI i + (-1) → (∀ j, i ≤ j → j < 5 → ze j = gf_I (ky_g f x j)) → (∀ j, j < i → ze j = gf_I (f j)) → wY_times_2 post (gf_I x) (i + 1) x2 bl bm ze ma := by
  intro i
  induction i with
  | zero =>
    intro ze x2 _ e h1 h2
    subst e
    exact br_t (by decide) (K ze (fun j hj => h1 j (by omega) hj))
  | succ i ih =>
    intro ze x2 hi e h1 h2
    rw [pk_m1] at e
    subst e
    have key : ∀ z0 : Int32, z0 = gf_I (if i = 0 then 0 else f (i - 1)) → wY_times_22 post (wY_times_2 post (gf_I x) (i + 1)) (gf_I x) (nI i) z0 bl bm ze ma := by
      intro z0 ez
      unfold wY_times_22
      rw [kx_c (i := i) (by omega), h2 i (by omega)]
      refine ⟨vp_in_nI (by omega) (by decide), ky_mul _ _ ⟨vp_in_nI (by omega) (by decide), fun a ea y ey => ?_⟩⟩
      rw [ez, gf_I_xor] at ea
      refine ih a y (by omega) ey (fun j hj h5 => ?_) (fun j hj => ?_)
      · rw [ea]
        by_cases e : j = i
        · subst e; exact pk_us
        · rw [pk_un e]; exact h1 j (by omega) h5
      · rw [ea, pk_un (by omega)]; exact h2 j (by omega)
    refine br_f (nI_pos (by omega)) ?_
    by_cases h0 : i = 0
    · refine br_t (by rw [h0]; decide) (key _ (by rw [if_pos h0]; exact gf_I0.symm))
    · refine br_f (nI_nle (by omega) (by omega)) ?_
      have e1 : nI i - 1 = nI (i - 1) := pk_sub (b := 1) (by omega)
      rw [e1]
      refine ⟨vp_in_nI (by omega) (by decide), key _ ?_⟩
      rw [kx_c (i := i - 1) (by omega), h2 (i - 1) (by omega), if_neg h0]
theorem ky_times {post : SY → Prop} (f : Nat → BitVec 3) (x : BitVec 3) (h : ∀ j, j < 5 → ze j = gf_I (f j)) (K : ∀ ze' : Nat → Int32, (∀ j, j < 5 → ze' j = gf_I (ky_g f x j)) → post (bl, bm, ze', ma)) : wpY_times post (bl, bm, ze, ma) (gf_I x) :=
  ⟨6, ky_t2 f x K 5 ze 4 (by omega) (by decide) (by intros; omega) h⟩
def ky_f0 (j : Nat) : BitVec 3 := if j = 0 then 1 else 0
theorem ky_z4 : ∀ j, j < 5 → ky_g (ky_g (ky_g (ky_g ky_f0 2) 4) 3) 6 j = rs_ze j := by decide +kernel
/-- the coefficients of the generator -/
def ky_Z (ze : Nat → Int32) : Prop := ∀ j, j < 5 → ze j = gf_I (rs_ze j)
theorem ky_init {post : SY → Prop} (K : ∀ ze' : Nat → Int32, ky_Z ze' → post ((fun _ => 0), (fun _ => 0), ze', (fun _ => 0))) : wpY_init post := by
  intro a ea
  have h0 : ∀ j, j < 5 → a j = gf_I (ky_f0 j) := by
    intro j hj
    rw [ea]
    unfold ky_f0
    by_cases e : j = 0
    · subst e; rw [pk_us, if_pos rfl]; decide
    · rw [pk_un e, if_neg e]; exact gf_I0.symm
  refine ky_times ky_f0 2 h0 (fun z1 h1 => ?_)
  refine ky_times _ 4 h1 (fun z2 h2 => ?_)
  refine ky_times _ 3 h2 (fun z3 h3 => ?_)
  refine ky_times _ 6 h3 (fun z4 h4 => ?_)
  exact K z4 (fun j hj => by rw [h4 j hj, ky_z4 j hj])
/-! the word by its number -/
theorem ky_dig : ∀ j, j < 3 → ∀ n, n < 512 → (nI n >>> ((3 * nI j) &&& 31)) &&& 7 = gf_I (rs_dg n j) := by decide +kernel
def ky_in (n j i m : Nat) : BitVec 3 := gf_sum (rs_cd n m) j ^^^ (if j ≤ m ∧ m - j < i then gf_mul (rs_ze (m - j)) (rs_dg n j) else 0)
theorem ky_40 {post : SY → Prop} {J : Int32 → (Nat → Int32) → (Nat → Int32) → (Nat → Int32) → (Nat → Int32) → Prop} {x1 : Int32} (hz : ky_Z ze) {n j : Nat} (hj : j < 3)
    (K : ∀ ma' : Nat → Int32, (∀ m, m < 7 → ma' m = gf_I (ky_in n j 5 m)) → J (nI (j + 1)) bl bm ze ma') :
    ∀ d i ma, i + d = 5 → (∀ m, m < 7 → ma m = gf_I (ky_in n j i m)) → wY_make_40 post J x1 (nI j) (gf_I (rs_dg n j)) (d + 1) (nI i) bl bm ze ma := by
  intro d
  induction d with
  | zero =>
    intro i ma hi h
    obtain rfl : i = 5 := by omega
    refine br_t (by decide) (fun y ey => ?_)
    rw [nI_1] at ey
    subst ey
    exact K ma h
  | succ d ih =>
    intro i ma hi h
    refine br_f (nI_ge (b := 5) (by omega) (by decide)) ?_
    rw [nI_add, kx_c (i := i + j) (by omega), kx_c (i := i) (by omega), hz i (by omega), h (i + j) (by omega)]
    refine ⟨vp_in_nI (by omega) (by decide), vp_in_nI (by omega) (by decide), ky_mul _ _ ⟨vp_in_nI (by omega) (by decide), fun a ea y ey => ?_⟩⟩
    rw [nI_1] at ey
    subst ey
    refine ih (i + 1) a (by omega) (fun m hm => ?_)
    rw [ea]
    by_cases e : m = i + j
    · subst e
      rw [pk_us, gf_I_xor]
      unfold ky_in
      rw [if_neg (by omega), if_pos (by omega), gf_xz, Nat.add_sub_cancel]
    · rw [pk_un e, h m hm]
      unfold ky_in
      by_cases c : j ≤ m ∧ m - j < i
      · rw [if_pos c, if_pos (by omega)]
      · rw [if_neg c, if_neg (by omega)]
theorem ky_23 {post : SY → Prop} (hz : ky_Z ze) {n : Nat} (hn : n < 512) (K : ∀ ma' : Nat → Int32, (∀ m, m < 7 → ma' m = gf_I (rs_cw n m)) → post (bl, bm, ze, ma')) :
    ∀ d j ma, j + d = 3 → (∀ m, m < 7 → ma m = gf_I (gf_sum (rs_cd n m) j)) → wY_make_23 post (nI n) (d + 1) (nI j) bl bm ze ma := by
  intro d
  induction d with
  | zero =>
    intro j ma hj h
    obtain rfl : j = 3 := by omega
    exact br_t (by decide) (K ma h)
  | succ d ih =>
    intro j ma hj h
    refine br_f (nI_ge (b := 3) (by omega) (by decide)) (fun y ey => ?_)
    rw [ky_dig j (by omega) n hn] at ey
    subst ey
    refine ⟨6, ky_40 hz (by omega) (fun ma' h' => ih (j + 1) ma' (by omega) h') 5 0 ma (by omega) (fun m hm => ?_)⟩
    rw [h m hm]
    unfold ky_in
    rw [if_neg (by omega), gf_xz]
theorem ky_2 {post : SY → Prop} {x1 : Int32} (K : ∀ ma' : Nat → Int32, (∀ m, m < 7 → ma' m = 0) → ∃ n23 : Nat, wY_make_23 post x1 n23 0 bl bm ze ma') :
    ∀ d i ma, i + d = 7 → (∀ m, m < i → ma m = 0) → wY_make_2 post x1 (d + 1) (nI i) bl bm ze ma := by
  intro d
  induction d with
  | zero =>
    intro i ma hi h
    obtain rfl : i = 7 := by omega
    exact br_t (by decide) (K ma h)
  | succ d ih =>
    intro i ma hi h
    refine br_f (nI_ge (b := 7) (by omega) (by decide)) ⟨vp_in_nI (by omega) (by decide), fun a ea y ey => ?_⟩
    rw [nI_1] at ey
    rw [kx_c (i := i) (by omega)] at ea
    subst ea ey
    refine ih (i + 1) _ (by omega) (fun j hj => ?_)
    by_cases e : j = i
    · subst e; exact pk_us
    · rw [pk_un e]; exact h j (by omega)
theorem ky_make {post : SY → Prop} (hz : ky_Z ze) {n : Nat} (hn : n < 512) (K : ∀ ma' : Nat → Int32, (∀ m, m < 7 → ma' m = gf_I (rs_cw n m)) → post (bl, bm, ze, ma')) : wpY_make post (bl, bm, ze, ma) (nI n) :=
  ⟨8, ky_2 (fun ma' h => ⟨4, ky_23 hz hn K 3 0 ma' (by omega) (fun m hm => (h m hm).trans gf_I0.symm)⟩) 7 0 ma (by omega) (by intros; omega)⟩
theorem ky_t {post : SY → Prop} {a : Nat → BitVec 3} (ha : ∀ j, j < 7 → ma j = gf_I (a j))
    (K : ∀ bl' bm' : Nat → Int32, (∀ j, j < 7 → bl' j = gf_I (a j)) → (∀ j, j < 7 → bm' j = 0) → post (bl', bm', ze, ma)) :
    ∀ d i bl bm, i + d = 7 → (∀ j, j < i → bl j = gf_I (a j)) → (∀ j, j < i → bm j = 0) → wY_take_2 post (d + 1) (nI i) bl bm ze ma := by
  intro d
  induction d with
  | zero =>
    intro i bl bm hi h1 h2
    obtain rfl : i = 7 := by omega
    exact br_t (by decide) (K bl bm h1 h2)
  | succ d ih =>
    intro i bl bm hi h1 h2
    refine br_f (nI_ge (b := 7) (by omega) (by decide)) ⟨vp_in_nI (by omega) (by decide), vp_in_nI (by omega) (by decide), fun x ex => ⟨vp_in_nI (by omega) (by decide), fun b eb y ey => ?_⟩⟩
    rw [nI_1] at ey
    rw [kx_c (i := i) (by omega)] at ex eb
    rw [kx_nb0] at eb
    subst ex eb ey
    refine ih (i + 1) _ _ (by omega) (kx_ap h1 (ha i (by omega))) (fun j hj => ?_)
    by_cases e : j = i
    · subst e; exact pk_us
    · rw [pk_un e]; exact h2 j (by omega)
theorem ky_take {post : SY → Prop} {a : Nat → BitVec 3} (ha : ∀ j, j < 7 → ma j = gf_I (a j))
    (K : ∀ bl' bm' : Nat → Int32, (∀ j, j < 7 → bl' j = gf_I (a j)) → (∀ j, j < 7 → bm' j = 0) → post (bl', bm', ze, ma)) : wpY_take post (bl, bm, ze, ma) :=
  ⟨8, ky_t ha K 7 0 bl bm (by omega) (by intros; omega) (by intros; omega)⟩
theorem ky_d4 {post : Int32 → Prop} {M : Nat → Bool} {w a : Nat → BitVec 3} (hM : kx_M bm M) (hw : ∀ j, j < 7 → bl j = gf_I (w j)) (ha : ∀ j, j < 7 → ma j = gf_I (a j)) (K : post (nI (rs_df M w a 7))) :
    ∀ d p x1, p + d = 7 → x1 = nI (rs_df M w a p) → wY_different_4 post bl bm ze ma (d + 1) x1 (nI p) := by
  intro d
  induction d with
  | zero =>
    intro p x1 hp e
    obtain rfl : p = 7 := by omega
    subst e
    exact br_t (by decide) K
  | succ d ih =>
    intro p x1 hp e
    refine br_f (nI_ge (b := 7) (by omega) (by decide)) ⟨vp_in_nI (by omega) (by decide), ?_⟩
    rw [kx_c (i := p) (by omega), hw p (by omega), ha p (by omega)]
    have hs : ∀ b c : Nat, cond (M p) 0 (if w p = a p then 0 else 1) = c → b = rs_df M w a p → b + c = rs_df M w a (p + 1) := by
      intro b c h1 h2
      rw [← h1, h2]; rfl
    cases hm : M p with
    | true =>
      refine br_f (fun z => by rw [(hM p (by omega)).mp z] at hm; exact absurd hm (by decide)) (fun z ez => ?_)
      rw [nI_1] at ez
      subst ez
      refine ih (p + 1) x1 (by omega) ?_
      rw [e, ← hs _ 0 (by rw [hm]; rfl) rfl]; rfl
    | false =>
      refine br_t ((hM p (by omega)).mpr hm) ⟨vp_in_nI (by omega) (by decide), vp_in_nI (by omega) (by decide), ?_⟩
      by_cases h : w p = a p
      · refine br_t (congrArg gf_I h) (fun z ez => ?_)
        rw [nI_1] at ez
        subst ez
        refine ih (p + 1) x1 (by omega) ?_
        rw [e, ← hs _ 0 (by rw [hm, cond_false, if_pos h]) rfl]; rfl
      · refine br_f (fun z => h ((gf_I_inj _ _).mp z)) (fun y ey z ez => ?_)
        rw [nI_1] at ez
        subst ez
        refine ih (p + 1) y (by omega) ?_
        rw [ey, e, ← hs _ 1 (by rw [hm, cond_false, if_neg h]) rfl]
        exact nI_add _ 1
theorem ky_diff {post : Int32 → Prop} {M : Nat → Bool} {w a : Nat → BitVec 3} (hM : kx_M bm M) (hw : ∀ j, j < 7 → bl j = gf_I (w j)) (ha : ∀ j, j < 7 → ma j = gf_I (a j)) (K : post (nI (rs_df M w a 7))) : wpY_different post (bl, bm, ze, ma) :=
  ⟨8, ky_d4 hM hw ha K 7 0 0 (by omega) rfl⟩
theorem ky_l4 {post : Int32 → Prop} {M : Nat → Bool} (hM : kx_M bm M) (K : post (nI (rs_ct M 7))) :
    ∀ d p x1, p + d = 7 → x1 = nI (rs_ct M p) → wY_lost_4 post bl bm ze ma (d + 1) x1 (nI p) := by
  intro d
  induction d with
  | zero =>
    intro p x1 hp e
    obtain rfl : p = 7 := by omega
    subst e
    exact br_t (by decide) K
  | succ d ih =>
    intro p x1 hp e
    refine br_f (nI_ge (b := 7) (by omega) (by decide)) ⟨vp_in_nI (by omega) (by decide), ?_⟩
    rw [kx_c (i := p) (by omega)]
    have hs : ∀ b c : Nat, cond (M p) 1 0 = c → b = rs_ct M p → b + c = rs_ct M (p + 1) := by
      intro b c h1 h2
      rw [← h1, h2]; rfl
    cases hm : M p with
    | true =>
      refine br_f (fun z => by rw [(hM p (by omega)).mp z] at hm; exact absurd hm (by decide)) (fun y ey z ez => ?_)
      rw [nI_1] at ez
      subst ez
      refine ih (p + 1) y (by omega) ?_
      rw [ey, e, ← hs _ 1 (by rw [hm]; rfl) rfl]
      exact nI_add _ 1
    | false =>
      refine br_t ((hM p (by omega)).mpr hm) (fun y ey z ez => ?_)
      rw [nI_1] at ez
      subst ez
      refine ih (p + 1) y (by omega) ?_
      rw [ey, e, ← hs _ 0 (by rw [hm]; rfl) rfl]
      exact nI_add _ 0
theorem ky_lost {post : Int32 → Prop} {M : Nat → Bool} (hM : kx_M bm M) (K : post (nI (rs_ct M 7))) : wpY_lost post (bl, bm, ze, ma) :=
  ⟨8, ky_l4 hM K 7 0 0 (by omega) rfl⟩
theorem ky_7 {post : Int32 → SY → Prop} {M : Nat → Bool} {w : Nat → BitVec 3} (hz : ky_Z ze) (hM : kx_M bm M) (hw : ∀ j, j < 7 → bl j = gf_I (w j))
    (K : ∀ (r : Int32) (ma' : Nat → Int32), ((r = 0 ∧ ∀ n, n < 512 → ¬ rs_near M w (rs_cw n)) ∨ (r = 1 ∧ ∃ n, n < 512 ∧ rs_near M w (rs_cw n) ∧ ∀ j, j < 7 → ma' j = gf_I (rs_cw n j))) → post r (bl, bm, ze, ma')) :
    ∀ d n ma, n + d = 512 → (∀ m, m < n → ¬ rs_near M w (rs_cw m)) → wY_find_7 post (nI (rs_ct M 7)) (d + 1) (nI n) bl bm ze ma := by
  intro d
  induction d with
  | zero =>
    intro n ma hn h
    obtain rfl : n = 512 := by omega
    exact br_t (by decide) (K 0 ma (Or.inl ⟨rfl, h⟩))
  | succ d ih =>
    intro n ma hn h
    refine br_f (nI_ge (b := 512) (by omega) (by decide)) (ky_make hz (by omega) (fun ma' h' => ?_))
    refine ky_diff hM hw h' ?_
    have e : (2 : Int32) * nI (rs_df M w (rs_cw n) 7) + nI (rs_ct M 7) = nI (2 * rs_df M w (rs_cw n) 7 + rs_ct M 7) := by rw [show (2 : Int32) * nI (rs_df M w (rs_cw n) 7) = nI (2 * rs_df M w (rs_cw n) 7) from pk_mul 2 _, nI_add]
    have b1 := rs_ct_le M 7
    have b2 := rs_df_le M w (rs_cw n) 7
    rw [e]
    refine pk_lt 4 (2 * rs_df M w (rs_cw n) 7 + rs_ct M 7) (fun q y ey => ?_) (fun q => K 1 ma' (Or.inr ⟨rfl, n, by omega, q, h'⟩))
    rw [nI_1] at ey
    subst ey
    refine ih (n + 1) ma' (by omega) (fun m hm => ?_)
    by_cases e' : m = n
    · rw [e']; unfold rs_near; omega
    · exact h m (by omega)
/-- the reference's search -/
theorem ky_find {post : Int32 → SY → Prop} {M : Nat → Bool} {w : Nat → BitVec 3} (hz : ky_Z ze) (hM : kx_M bm M) (hw : ∀ j, j < 7 → bl j = gf_I (w j))
    (K : ∀ (r : Int32) (ma' : Nat → Int32), ((r = 0 ∧ ∀ n, n < 512 → ¬ rs_near M w (rs_cw n)) ∨ (r = 1 ∧ ∃ n, n < 512 ∧ rs_near M w (rs_cw n) ∧ ∀ j, j < 7 → ma' j = gf_I (rs_cw n j))) → post r (bl, bm, ze, ma')) : wpY_find post (bl, bm, ze, ma) :=
  ky_lost hM ⟨513, ky_7 hz hM hw K 512 0 ma (by omega) (by intros; omega)⟩
theorem ky_26 {post : Int32 → SY → Prop} {c4 c5 c6 : BitVec 3} (hz : ky_Z ze)
    (K : ∀ bl' bm' ma' : Nat → Int32, (∀ j, j < 7 → bl' j = gf_I (rs_dv (rs_c3 c4 c5 c6) 3 0 0 0 0 j)) → (∀ j, j < 7 → bm' j = 0) → post 0 (bl', bm', ze, ma')) :
    ∀ d n bl bm ma, n + d = 512 → (((∀ j, j < 7 → bl j = gf_I (rs_dv (rs_c3 c4 c5 c6) 3 0 0 0 0 j)) ∧ (∀ j, j < 7 → bm j = 0)) ∨ ∀ m, m < n → ¬ (rs_cw m 4 = c4 ∧ rs_cw m 5 = c5 ∧ rs_cw m 6 = c6)) →
      wY_send_26 post (gf_I c4) (gf_I c5) (gf_I c6) (d + 1) (nI n) bl bm ze ma := by
  intro d
  induction d with
  | zero =>
    intro n bl bm ma hn h
    obtain rfl : n = 512 := by omega
    rcases h with h | h
    · exact br_t (by decide) (K bl bm ma h.1 h.2)
    · obtain ⟨a, b⟩ := rs_chk4 c4 c5 c6
      exact absurd b (h _ a)
  | succ d ih =>
    intro n bl bm ma hn h
    refine br_f (nI_ge (b := 512) (by omega) (by decide)) (ky_make hz (by omega) (fun ma' h' => ?_))
    have no : ¬ (rs_cw n 4 = c4 ∧ rs_cw n 5 = c5 ∧ rs_cw n 6 = c6) → ∀ y : Int32, y = nI n + 1 → wY_send_26 post (gf_I c4) (gf_I c5) (gf_I c6) (d + 1) y bl bm ze ma' := by
      intro c y ey
      rw [nI_1] at ey
      subst ey
      refine ih (n + 1) bl bm ma' (by omega) ?_
      rcases h with h | h
      · exact Or.inl h
      · refine Or.inr (fun m hm => ?_)
        by_cases e : m = n
        · rw [e]; exact c
        · exact h m (by omega)
    dsimp only
    rw [h' 4 (by omega), h' 5 (by omega), h' 6 (by omega)]
    by_cases h4 : rs_cw n 4 = c4
    · refine br_t (congrArg gf_I h4) ?_
      by_cases h5 : rs_cw n 5 = c5
      · refine br_t (congrArg gf_I h5) ?_
        by_cases h6 : rs_cw n 6 = c6
        · refine br_t (congrArg gf_I h6) (ky_take h' (fun bl' bm' a b => ?_))
          intro y ey
          rw [nI_1] at ey
          subst ey
          exact ih (n + 1) bl' bm' ma' (by omega) (Or.inl ⟨fun j hj => by rw [a j hj, rs_send (by omega) h4 h5 h6 hj], b⟩)
        · exact br_f (fun z => h6 ((gf_I_inj _ _).mp z)) (no (fun z => h6 z.2.2))
      · exact br_f (fun z => h5 ((gf_I_inj _ _).mp z)) (no (fun z => h5 z.2.1))
    · exact br_f (fun z => h4 ((gf_I_inj _ _).mp z)) (no (fun z => h4 z.1))
theorem ky_16 {post : Int32 → Prop} {w : Nat → BitVec 3} {x : BitVec 3} (hw : ∀ j, j < 7 → bl j = gf_I (w j)) (K : post (gf_I (gf_sum (fun i => gf_mul (w i) (gf_pow x i)) 7))) :
    ∀ d i, i + d = 7 → wY_value_16 post (gf_I x) bl bm ze ma (d + 1) (gf_I (gf_sum (fun i => gf_mul (w i) (gf_pow x i)) i)) (gf_I (gf_pow x i)) (nI i) := by
  intro d
  induction d with
  | zero =>
    intro i hi
    obtain rfl : i = 7 := by omega
    exact br_t (by decide) K
  | succ d ih =>
    intro i hi
    refine br_f (nI_ge (b := 7) (by omega) (by decide)) ⟨vp_in_nI (by omega) (by decide), ?_⟩
    rw [kx_c (i := i) (by omega), hw i (by omega)]
    refine ky_mul _ _ (fun y ey => ?_)
    rw [gf_I_xor] at ey
    subst ey
    refine ky_mul _ _ (fun y ey => ?_)
    rw [nI_1] at ey
    subst ey
    exact ih (i + 1) (by omega)
end
end
section
/-! the relation, and what is owed -/
theorem ir_cs (x : Int32) : (∃ a : BitVec 3, x = gf_I a) ∨ (x < 0 ∨ 7 < x) := by
  by_cases h0 : x < 0
  · exact Or.inr (Or.inl h0)
  · by_cases h7 : 7 < x
    · exact Or.inr (Or.inr h7)
    · exact Or.inl (gf_of h0 (Int32.not_lt.mp h7))
theorem ir_cp (x : Int32) : (∃ p : Nat, p < 7 ∧ x = nI p) ∨ (x < 0 ∨ 6 < x) := by
  by_cases h0 : x < 0
  · exact Or.inr (Or.inl h0)
  · by_cases h6 : 6 < x
    · exact Or.inr (Or.inr h6)
    · obtain ⟨j, hj, ej⟩ := nI_of2 (n := 6) (M := 6) (by decide) h0 (Int32.not_lt.mp h6)
      exact Or.inl ⟨j, by omega, ej⟩
theorem ir_a : ∀ a : BitVec 3, ¬ gf_I a < 0 ∧ ¬ 7 < gf_I a ∧ gf_I a ≤ 7 := by decide +kernel
theorem ir_p : ∀ p, p < 7 → ¬ nI p < 0 ∧ ¬ 6 < nI p ∧ nI p ≤ 6 := by decide +kernel
theorem kx_sy1 {post : Int32 → Prop} (a : BitVec 3) (h : post 1) : wpX_isSymbol post (gf_I a) := br_f (ir_a a).1 (br_f (ir_a a).2.1 h)
theorem kx_sy0 {post : Int32 → Prop} {x : Int32} (c : x < 0 ∨ 7 < x) (h : post 0) : wpX_isSymbol post x := br_c (fun _ => h) (fun n => br_t (c.resolve_left n) h)
theorem ky_sy1 {post : Int32 → Prop} (a : BitVec 3) (h : post 0) : wpY_badSymbol post (gf_I a) := br_f (ir_a a).1 (br_t (ir_a a).2.2 h)
theorem ky_sy0 {post : Int32 → Prop} {x : Int32} (c : x < 0 ∨ 7 < x) (h : post 1) : wpY_badSymbol post x := br_c (fun _ => h) (fun n => br_f (Int32.not_le.mpr (c.resolve_left n)) h)
theorem kx_pl1 {post : Int32 → Prop} {p : Nat} (hp : p < 7) (h : post 1) : wpX_isPlace post (nI p) := br_f (ir_p p hp).1 (br_f (ir_p p hp).2.1 h)
theorem kx_pl0 {post : Int32 → Prop} {x : Int32} (c : x < 0 ∨ 6 < x) (h : post 0) : wpX_isPlace post x := br_c (fun _ => h) (fun n => br_t (c.resolve_left n) h)
theorem ky_pl1 {post : Int32 → Prop} {p : Nat} (hp : p < 7) (h : post 0) : wpY_badPlace post (nI p) := br_f (ir_p p hp).1 (br_t (ir_p p hp).2.2 h)
theorem ky_pl0 {post : Int32 → Prop} {x : Int32} (c : x < 0 ∨ 6 < x) (h : post 1) : wpY_badPlace post x := br_c (fun _ => h) (fun n => br_f (Int32.not_le.mpr (c.resolve_left n)) h)
def ir_F (w : Nat → BitVec 3) (M : Nat → Bool) (aw am pw ex bl bm ze : Nat → Int32) : Prop :=
  kx_T pw ex ∧ ky_Z ze ∧ kx_M am M ∧ kx_M bm M ∧ (∀ j, j < 7 → aw j = gf_I (w j)) ∧ (∀ j, j < 7 → bl j = gf_I (w j))
/-- both searches end alike -/
theorem ir_join {M : Nat → Bool} {w : Nat → BitVec 3} {r r' dif' : Int32} {wh' ma' : Nat → Int32}
    (h : (r = 0 ∧ ¬ rs_ok M w) ∨ (r = 1 ∧ rs_ok M w ∧ (∀ j, j < 7 → wh' j = gf_I (rs_dec M w j)) ∧ dif' = nI (rs_df M w (rs_dec M w) 7)))
    (h' : (r' = 0 ∧ ∀ n, n < 512 → ¬ rs_near M w (rs_cw n)) ∨ (r' = 1 ∧ ∃ n, n < 512 ∧ rs_near M w (rs_cw n) ∧ ∀ j, j < 7 → ma' j = gf_I (rs_cw n j))) :
    (r = 0 ∧ r' = 0) ∨ (r = 1 ∧ r' = 1 ∧ ∃ a : Nat → BitVec 3, (∀ j, j < 7 → wh' j = gf_I (a j)) ∧ (∀ j, j < 7 → ma' j = gf_I (a j)) ∧ dif' = nI (rs_df M w a 7)) := by
  rcases h with ⟨h1, h2⟩ | ⟨h1, h2, h3, h4⟩
  · rcases h' with ⟨g1, _⟩ | ⟨_, n, hn, g2, _⟩
    · exact Or.inl ⟨h1, g1⟩
    · exact absurd (rs_yes hn g2).1 h2
  · rcases h' with ⟨_, g2⟩ | ⟨g1, n, hn, g2, g3⟩
    · obtain ⟨n, hn, q⟩ := rs_some h2
      exact absurd q (g2 n hn)
    · refine Or.inr ⟨h1, g1, rs_dec M w, h3, fun j hj => ?_, h4⟩
      rw [g3 j hj, (rs_yes hn g2).2 j hj]
/-- the relation: word and line the same symbols, the same places missing, the tables as they should be -/
def i_Rel (k : Nat) (u : SX) (v : SY) : Prop := ∃ (w : Nat → BitVec 3) (M : Nat → Bool), ir_F w M u.2.2.1 u.2.2.2.1 u.2.2.2.2.1 u.2.2.2.2.2.1 v.1 v.2.1 v.2.2.1
theorem ir_el {P : SX → SY → Prop} (h : ∀ (len dif : Int32) (aw am pw ex sy ru he be nu wh bl bm ze ma : Nat → Int32) (w : Nat → BitVec 3) (M : Nat → Bool), kx_T pw ex → ky_Z ze → kx_M am M → kx_M bm M → (∀ j, j < 7 → aw j = gf_I (w j)) → (∀ j, j < 7 → bl j = gf_I (w j)) → P (len, dif, aw, am, pw, ex, sy, ru, he, be, nu, wh) (bl, bm, ze, ma)) {k : Nat} {u : SX} {v : SY} (I : i_Rel k u v) : P u v := by
  obtain ⟨w, M, a, b, c, d, e, f⟩ := I
  exact h _ _ _ _ _ _ _ _ _ _ _ _ _ _ _ _ w M a b c d e f
theorem ir_in {len dif : Int32} {aw am pw ex sy ru he be nu wh bl bm ze ma : Nat → Int32} {w : Nat → BitVec 3} {M : Nat → Bool} {k : Nat} (T : kx_T pw ex) (Z : ky_Z ze) (hM : kx_M am M) (hM' : kx_M bm M) (hw : ∀ j, j < 7 → aw j = gf_I (w j)) (hw' : ∀ j, j < 7 → bl j = gf_I (w j)) : i_Rel k (len, dif, aw, am, pw, ex, sy, ru, he, be, nu, wh) (bl, bm, ze, ma) :=
  ⟨w, M, T, Z, hM, hM', hw, hw'⟩
theorem ir_M0 {am : Nat → Int32} (h : ∀ j, j < 7 → am j = 0) : kx_M am (fun _ => false) := fun j hj => ⟨fun _ => rfl, fun _ => h j hj⟩
theorem i_up {k : Nat} {u : SX} {v : SY} (h : i_Rel k u v) : i_Rel (k + 4) u v := h
theorem i_vc0 : wpX_init (fun u => wpY_init (fun v => i_Rel 0 u v)) :=
  kx_init (fun pw ex T => ky_init (fun ze Z => ir_in (w := fun _ => 0) (M := fun _ => false) T Z (ir_M0 (fun _ _ => rfl)) (ir_M0 (fun _ _ => rfl)) (fun _ _ => gf_I0.symm) (fun _ _ => gf_I0.symm)))
theorem i_vc_send {k : Nat} {u : SX} {v : SY} (I : i_Rel k u v) (hk : k + 4 ≤ 2048) (v1 : Int32) (v2 : Int32) (v3 : Int32) : wpX_send (fun r u' => wpY_send (fun r' v' => r' = r ∧ i_Rel (k + 4) u' v') v v1 v2 v3) u v1 v2 v3 := by
  refine ir_el (P := fun u v => wpX_send (fun r u' => wpY_send (fun r' v' => r' = r ∧ i_Rel (k + 4) u' v') v v1 v2 v3) u v1 v2 v3) ?_ I
  intro len dif aw am pw ex sy ru he be nu wh bl bm ze ma w M T Z hM hM' hw hw'
  unfold wpX_send wpY_send
  dsimp only
  rcases ir_cs v1 with ⟨a, rfl⟩ | h1
  · rcases ir_cs v2 with ⟨b, rfl⟩ | h2
    · rcases ir_cs v3 with ⟨c, rfl⟩ | h3
      · refine kx_sy1 a (br_f (by decide) (kx_sy1 b (br_f (by decide) (kx_sy1 c (br_f (by decide) ⟨8, kx_s26 (fun aw' am' ha hm => br_t (by decide) (kx_div T ha (fun aw'' hd => ?_))) 7 0 aw am (by omega) (by intros; omega) (by intros; omega)⟩)))))
        exact ky_sy1 a (br_t rfl (ky_sy1 b (br_t rfl (ky_sy1 c (br_t rfl ⟨513, ky_26 Z (fun bl' bm' ma' hb hm' => ⟨rfl, ir_in T Z (ir_M0 hm) (ir_M0 hm') hd hb⟩) 512 0 bl bm ma (by omega) (Or.inr (by intros; omega))⟩)))))
      · exact kx_sy1 a (br_f (by decide) (kx_sy1 b (br_f (by decide) (kx_sy0 h3 (br_t rfl (ky_sy1 a (br_t rfl (ky_sy1 b (br_t rfl (ky_sy0 h3 (br_f (by decide) ⟨rfl, ir_in T Z hM hM' hw hw'⟩)))))))))))
    · exact kx_sy1 a (br_f (by decide) (kx_sy0 h2 (br_t rfl (ky_sy1 a (br_t rfl (ky_sy0 h2 (br_f (by decide) ⟨rfl, ir_in T Z hM hM' hw hw'⟩)))))))
  · exact kx_sy0 h1 (br_t rfl (ky_sy0 h1 (br_f (by decide) ⟨rfl, ir_in T Z hM hM' hw hw'⟩)))
theorem ir_up {aw : Nat → Int32} {w : Nat → BitVec 3} {p : Nat} {a : BitVec 3} (hw : ∀ j, j < 7 → aw j = gf_I (w j)) : ∀ j, j < 7 → upd aw p (gf_I a) j = gf_I (if j = p then a else w j) := by
  intro j hj
  by_cases e : j = p
  · rw [if_pos e, e]; exact pk_us
  · rw [if_neg e, pk_un e]; exact hw j hj
theorem i_vc_change {k : Nat} {u : SX} {v : SY} (I : i_Rel k u v) (hk : k + 4 ≤ 2048) (v1 : Int32) (v2 : Int32) : wpX_change (fun r u' => wpY_change (fun r' v' => r' = r ∧ i_Rel (k + 4) u' v') v v1 v2) u v1 v2 := by
  refine ir_el (P := fun u v => wpX_change (fun r u' => wpY_change (fun r' v' => r' = r ∧ i_Rel (k + 4) u' v') v v1 v2) u v1 v2) ?_ I
  intro len dif aw am pw ex sy ru he be nu wh bl bm ze ma w M T Z hM hM' hw hw'
  unfold wpX_change wpY_change
  dsimp only
  rcases ir_cp v1 with ⟨p, hp, rfl⟩ | h1
  · rcases ir_cs v2 with ⟨a, rfl⟩ | h2
    · refine kx_pl1 hp (br_f (by decide) (kx_sy1 a (br_f (by decide) ⟨vp_in_nI hp (by decide), fun y ey => ⟨vp_in_nI hp (by decide), fun x ex1 => ?_⟩⟩)))
      refine ky_pl1 hp (br_t rfl (ky_sy1 a (br_t rfl ⟨vp_in_nI hp (by decide), fun y' ey' => ⟨vp_in_nI hp (by decide), fun x' ex1' => ?_⟩⟩)))
      rw [kx_c (i := p) (by omega)] at ey ex1 ey' ex1'
      refine ⟨by rw [ey, ey', hw p hp, hw' p hp], ?_⟩
      rw [ex1, ex1']
      exact ir_in T Z hM hM' (ir_up hw) (ir_up hw')
    · exact kx_pl1 hp (br_f (by decide) (kx_sy0 h2 (br_t rfl (ky_pl1 hp (br_t rfl (ky_sy0 h2 (br_f (by decide) ⟨rfl, ir_in T Z hM hM' hw hw'⟩)))))))
  · exact kx_pl0 h1 (br_t rfl (ky_pl0 h1 (br_f (by decide) ⟨rfl, ir_in T Z hM hM' hw hw'⟩)))
theorem ir_upM {am : Nat → Int32} {M : Nat → Bool} {p : Nat} {x : Int32} (hM : kx_M am M) : kx_M (upd am p (vp_nar .boolean (lw_bz x))) (fun j => if j = p then decide (¬ x = 0) else M j) := by
  intro j hj
  show upd am p (vp_nar .boolean (lw_bz x)) j = 0 ↔ (if j = p then decide (¬ x = 0) else M j) = false
  by_cases e : j = p
  · rw [if_pos e, e, pk_us]
    by_cases h : x = 0
    · have q : lw_bz x = 0 := if_pos h
      rw [q, kx_nb0]
      simp [h]
    · have q : lw_bz x = 1 := if_neg h
      rw [q, kx_nb1]
      simp [h]
  · rw [if_neg e, pk_un e]; exact hM j hj
theorem i_vc_lose {k : Nat} {u : SX} {v : SY} (I : i_Rel k u v) (hk : k + 4 ≤ 2048) (v1 : Int32) (v2 : Int32) : wpX_lose (fun r u' => wpY_lose (fun r' v' => r' = r ∧ i_Rel (k + 4) u' v') v v1 (lw_bz v2)) u v1 (lw_bz v2) := by
  refine ir_el (P := fun u v => wpX_lose (fun r u' => wpY_lose (fun r' v' => r' = r ∧ i_Rel (k + 4) u' v') v v1 (lw_bz v2)) u v1 (lw_bz v2)) ?_ I
  intro len dif aw am pw ex sy ru he be nu wh bl bm ze ma w M T Z hM hM' hw hw'
  unfold wpX_lose wpY_lose
  dsimp only
  rcases ir_cp v1 with ⟨p, hp, rfl⟩ | h1
  · refine kx_pl1 hp (br_f (by decide) ⟨vp_in_nI hp (by decide), br_c (fun c => ⟨vp_in_nI hp (by decide), fun x ex1 => ?_⟩) (fun c => ⟨vp_in_nI hp (by decide), fun x ex1 => ?_⟩)⟩)
    · refine ky_pl1 hp (br_t rfl ⟨vp_in_nI hp (by decide), fun y ey => ⟨vp_in_nI hp (by decide), fun x' ex1' => ?_⟩⟩)
      rw [kx_c (i := p) (by omega)] at c ex1 ey ex1'
      refine br_t (by rw [ey]; exact (hM' p hp).mpr ((hM p hp).mp c)) ⟨rfl, ?_⟩
      rw [ex1, ex1']
      exact ir_in T Z (ir_upM hM) (ir_upM hM') hw hw'
    · refine ky_pl1 hp (br_t rfl ⟨vp_in_nI hp (by decide), fun y ey => ⟨vp_in_nI hp (by decide), fun x' ex1' => ?_⟩⟩)
      rw [kx_c (i := p) (by omega)] at c ex1 ey ex1'
      refine br_f (by rw [ey]; exact fun z => c ((hM p hp).mpr ((hM' p hp).mp z))) ⟨rfl, ?_⟩
      rw [ex1, ex1']
      exact ir_in T Z (ir_upM hM) (ir_upM hM') hw hw'
  · exact kx_pl0 h1 (br_t rfl (ky_pl0 h1 (br_f (by decide) ⟨rfl, ir_in T Z hM hM' hw hw'⟩)))
theorem i_vc_at {k : Nat} {u : SX} {v : SY} (I : i_Rel k u v) (hk : k + 4 ≤ 2048) (v1 : Int32) : wpX_at (fun r => wpY_at (fun r' => r' = r ∧ i_Rel (k + 4) u v) v v1) u v1 := by
  refine ir_el (P := fun u v => wpX_at (fun r => wpY_at (fun r' => r' = r ∧ i_Rel (k + 4) u v) v v1) u v1) ?_ I
  intro len dif aw am pw ex sy ru he be nu wh bl bm ze ma w M T Z hM hM' hw hw'
  unfold wpX_at wpY_at
  dsimp only
  rcases ir_cp v1 with ⟨p, hp, rfl⟩ | h1
  · refine kx_pl1 hp (br_f (by decide) ⟨vp_in_nI hp (by decide), ky_pl1 hp (br_t rfl ⟨vp_in_nI hp (by decide), ?_, ir_in T Z hM hM' hw hw'⟩)⟩)
    rw [kx_c (i := p) (by omega), hw p hp, hw' p hp]
  · exact kx_pl0 h1 (br_t rfl (ky_pl0 h1 (br_f (by decide) ⟨rfl, ir_in T Z hM hM' hw hw'⟩)))
theorem i_vc_fits {k : Nat} {u : SX} {v : SY} (I : i_Rel k u v) (hk : k + 4 ≤ 2048) : wpX_fits (fun r u' => wpY_fits (fun r' v' => r' = r ∧ i_Rel (k + 4) u' v') v) u := by
  refine ir_el (P := fun u v => wpX_fits (fun r u' => wpY_fits (fun r' v' => r' = r ∧ i_Rel (k + 4) u' v') v) u) ?_ I
  intro len dif aw am pw ex sy ru he be nu wh bl bm ze ma w M T Z hM hM' hw hw'
  unfold wpX_fits wpY_fits
  dsimp only
  refine kx_find T hM hw (fun r len' dif' sy' ru' he' be' nu' wh' h => ?_)
  refine br_c (fun hr => ky_find Z hM' hw' (fun r' ma' h' => ?_)) (fun hr => ky_find Z hM' hw' (fun r' ma' h' => ?_))
  · rcases ir_join h h' with ⟨a, b⟩ | ⟨a, b, _⟩
    · exact br_t b ⟨rfl, ir_in T Z hM hM' hw hw'⟩
    · exact absurd (a.symm.trans hr) (by decide)
  · rcases ir_join h h' with ⟨a, b⟩ | ⟨a, b, _⟩
    · exact absurd a hr
    · exact br_f (by rw [b]; decide) ⟨rfl, ir_in T Z hM hM' hw hw'⟩
theorem i_vc_mended {k : Nat} {u : SX} {v : SY} (I : i_Rel k u v) (hk : k + 4 ≤ 2048) (v1 : Int32) : wpX_mended (fun r u' => wpY_mended (fun r' v' => r' = r ∧ i_Rel (k + 4) u' v') v v1) u v1 := by
  refine ir_el (P := fun u v => wpX_mended (fun r u' => wpY_mended (fun r' v' => r' = r ∧ i_Rel (k + 4) u' v') v v1) u v1) ?_ I
  intro len dif aw am pw ex sy ru he be nu wh bl bm ze ma w M T Z hM hM' hw hw'
  unfold wpX_mended wpY_mended
  dsimp only
  rcases ir_cp v1 with ⟨p, hp, rfl⟩ | h1
  · refine kx_pl1 hp (br_f (by decide) (kx_find T hM hw (fun r len' dif' sy' ru' he' be' nu' wh' h => ?_)))
    refine br_c (fun hr => ky_pl1 hp (br_t rfl (ky_find Z hM' hw' (fun r' ma' h' => ?_)))) (fun hr => ⟨vp_in_nI hp (by decide), ky_pl1 hp (br_t rfl (ky_find Z hM' hw' (fun r' ma' h' => ?_)))⟩)
    · rcases ir_join h h' with ⟨a, b⟩ | ⟨a, b, _⟩
      · exact br_t b ⟨rfl, ir_in T Z hM hM' hw hw'⟩
      · exact absurd (a.symm.trans hr) (by decide)
    · rcases ir_join h h' with ⟨a, b⟩ | ⟨a, b, c, c1, c2, _⟩
      · exact absurd a hr
      · refine br_f (by rw [b]; decide) ⟨vp_in_nI hp (by decide), ?_, ir_in T Z hM hM' hw hw'⟩
        rw [kx_c (i := p) (by omega)]
        exact (c2 p hp).trans (c1 p hp).symm
  · exact kx_pl0 h1 (br_t rfl (ky_pl0 h1 (br_f (by decide) ⟨rfl, ir_in T Z hM hM' hw hw'⟩)))
theorem i_vc_wrong {k : Nat} {u : SX} {v : SY} (I : i_Rel k u v) (hk : k + 4 ≤ 2048) : wpX_wrong (fun r u' => wpY_wrong (fun r' v' => r' = r ∧ i_Rel (k + 4) u' v') v) u := by
  refine ir_el (P := fun u v => wpX_wrong (fun r u' => wpY_wrong (fun r' v' => r' = r ∧ i_Rel (k + 4) u' v') v) u) ?_ I
  intro len dif aw am pw ex sy ru he be nu wh bl bm ze ma w M T Z hM hM' hw hw'
  unfold wpX_wrong wpY_wrong
  dsimp only
  refine kx_find T hM hw (fun r len' dif' sy' ru' he' be' nu' wh' h => ?_)
  refine br_c (fun hr => ky_find Z hM' hw' (fun r' ma' h' => ?_)) (fun hr => ky_find Z hM' hw' (fun r' ma' h' => ?_))
  · rcases ir_join h h' with ⟨a, b⟩ | ⟨a, b, _⟩
    · exact br_t b ⟨rfl, ir_in T Z hM hM' hw hw'⟩
    · exact absurd (a.symm.trans hr) (by decide)
  · rcases ir_join h h' with ⟨a, b⟩ | ⟨a, b, c, c1, c2, c3⟩
    · exact absurd a hr
    · exact br_f (by rw [b]; decide) (ky_diff hM' hw' c2 ⟨c3.symm, ir_in T Z hM hM' hw hw'⟩)
theorem i_vc_mend {k : Nat} {u : SX} {v : SY} (I : i_Rel k u v) (hk : k + 4 ≤ 2048) : wpX_mend (fun r u' => wpY_mend (fun r' v' => r' = r ∧ i_Rel (k + 4) u' v') v) u := by
  refine ir_el (P := fun u v => wpX_mend (fun r u' => wpY_mend (fun r' v' => r' = r ∧ i_Rel (k + 4) u' v') v) u) ?_ I
  intro len dif aw am pw ex sy ru he be nu wh bl bm ze ma w M T Z hM hM' hw hw'
  unfold wpX_mend wpY_mend
  dsimp only
  refine kx_find T hM hw (fun r len' dif' sy' ru' he' be' nu' wh' h => ?_)
  refine br_c (fun hr => ky_find Z hM' hw' (fun r' ma' h' => ?_)) (fun hr => ?_)
  · rcases ir_join h h' with ⟨a, b⟩ | ⟨a, b, _⟩
    · exact br_t b ⟨rfl, ir_in T Z hM hM' hw hw'⟩
    · exact absurd (a.symm.trans hr) (by decide)
  · rcases h with ⟨q, _⟩ | h
    · exact absurd q hr
    · refine ⟨8, kx_m11 h.2.2.1 (fun aw' am' ha hm => ky_find Z hM' hw' (fun r' ma' h' => ?_)) 7 0 aw am (by omega) (by intros; omega) (by intros; omega)⟩
      rcases ir_join (Or.inr h) h' with ⟨a, b⟩ | ⟨a, b, c, c1, c2, _⟩
      · exact absurd a hr
      · refine br_f (by rw [b]; decide) (ky_take c2 (fun bl' bm' hb hm' => ⟨rfl, ir_in (w := rs_dec M w) T Z (ir_M0 hm) (ir_M0 hm') ha (fun j hj => ?_)⟩))
        exact (hb j hj).trans ((c1 j hj).symm.trans (h.2.2.1 j hj))
theorem i_vc_product {k : Nat} {u : SX} {v : SY} (I : i_Rel k u v) (hk : k + 4 ≤ 2048) (v1 : Int32) (v2 : Int32) : wpX_product (fun r => wpY_product (fun r' => r' = r ∧ i_Rel (k + 4) u v) v v1 v2) u v1 v2 := by
  refine ir_el (P := fun u v => wpX_product (fun r => wpY_product (fun r' => r' = r ∧ i_Rel (k + 4) u v) v v1 v2) u v1 v2) ?_ I
  intro len dif aw am pw ex sy ru he be nu wh bl bm ze ma w M T Z hM hM' hw hw'
  unfold wpX_product wpY_product
  dsimp only
  rcases ir_cs v1 with ⟨a, rfl⟩ | h1
  · rcases ir_cs v2 with ⟨b, rfl⟩ | h2
    · exact kx_sy1 a (br_f (by decide) (kx_sy1 b (br_f (by decide) (kx_times T a b (ky_sy1 a (br_t rfl (ky_sy1 b (br_t rfl (ky_mul a b ⟨rfl, ir_in T Z hM hM' hw hw'⟩)))))))))
    · exact kx_sy1 a (br_f (by decide) (kx_sy0 h2 (br_t rfl (ky_sy1 a (br_t rfl (ky_sy0 h2 (br_f (by decide) ⟨rfl, ir_in T Z hM hM' hw hw'⟩)))))))
  · exact kx_sy0 h1 (br_t rfl (ky_sy0 h1 (br_f (by decide) ⟨rfl, ir_in T Z hM hM' hw hw'⟩)))
theorem i_vc_value {k : Nat} {u : SX} {v : SY} (I : i_Rel k u v) (hk : k + 4 ≤ 2048) (v1 : Int32) : wpX_value (fun r => wpY_value (fun r' => r' = r ∧ i_Rel (k + 4) u v) v v1) u v1 := by
  refine ir_el (P := fun u v => wpX_value (fun r => wpY_value (fun r' => r' = r ∧ i_Rel (k + 4) u v) v v1) u v1) ?_ I
  intro len dif aw am pw ex sy ru he be nu wh bl bm ze ma w M T Z hM hM' hw hw'
  unfold wpX_value wpY_value
  dsimp only
  rcases ir_cs v1 with ⟨a, rfl⟩ | h1
  · refine kx_sy1 a (br_f (by decide) (kx_val T hw a (ky_sy1 a (br_t rfl ⟨8, ky_16 hw' ⟨?_, ir_in T Z hM hM' hw hw'⟩ 7 0 (by omega)⟩))))
    rw [gf_hor0]
  · exact kx_sy0 h1 (br_t rfl (ky_sy0 h1 (br_f (by decide) ⟨rfl, ir_in T Z hM hM' hw hw'⟩)))
end
