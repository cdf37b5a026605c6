section
/-! sums below n, over naturals and over ints -/
def rb_n (f : Nat → Nat) : Nat → Nat
  | 0 => 0
  | n + 1 => rb_n f n + f n
def rb_i (f : Nat → Int32) : Nat → Int32
  | 0 => 0
  | n + 1 => rb_i f n + f n
theorem rb_n_c {f g : Nat → Nat} {n : Nat} (h : ∀ m, m < n → f m = g m) : rb_n f n = rb_n g n := by
  induction n with
  | zero => rfl
  | succ n ih =>
    show rb_n f n + f n = rb_n g n + g n
    rw [ih (fun m hm => h m (by omega)), h n (by omega)]
theorem rb_i_c {f g : Nat → Int32} {n : Nat} (h : ∀ m, m < n → f m = g m) : rb_i f n = rb_i g n := by
  induction n with
  | zero => rfl
  | succ n ih =>
    show rb_i f n + f n = rb_i g n + g n
    rw [ih (fun m hm => h m (by omega)), h n (by omega)]
theorem rb_n_add (f : Nat → Nat) (a b : Nat) : rb_n f (a + b) = rb_n f a + rb_n (fun i => f (a + i)) b := by
  induction b with
  | zero => rfl
  | succ b ih =>
    show rb_n f (a + b) + f (a + b) = rb_n f a + (rb_n (fun i => f (a + i)) b + f (a + b))
    omega
theorem rb_n_mono (f : Nat → Nat) {a b : Nat} (h : a ≤ b) : rb_n f a ≤ rb_n f b := by
  have e : b = a + (b - a) := by omega
  rw [e, rb_n_add]
  omega
theorem rb_n_lt (f : Nat → Nat) {a b : Nat} (h : a < b) : rb_n f a + f a ≤ rb_n f b := rb_n_mono f (a := a + 1) h
theorem rb_n_le {f g : Nat → Nat} {n : Nat} (h : ∀ m, m < n → f m ≤ g m) : rb_n f n ≤ rb_n g n := by
  induction n with
  | zero => exact Nat.le_refl _
  | succ n ih =>
    show rb_n f n + f n ≤ rb_n g n + g n
    have h1 := ih (fun m hm => h m (by omega))
    have h2 := h n (by omega)
    omega
theorem rb_n_0 {f : Nat → Nat} {n : Nat} (h : rb_n f n = 0) : ∀ m, m < n → f m = 0 := by
  intro m hm
  have := rb_n_lt f hm
  omega
theorem rb_n_z {f : Nat → Nat} {n : Nat} (h : ∀ m, m < n → f m = 0) : rb_n f n = 0 := by
  induction n with
  | zero => rfl
  | succ n ih =>
    show rb_n f n + f n = 0
    rw [ih (fun m hm => h m (by omega)), h n (by omega)]
theorem rb_n_b {f : Nat → Nat} {n : Nat} (h : ∀ m, m < n → f m ≤ 1) : rb_n f n ≤ n := by
  induction n with
  | zero => exact Nat.le_refl _
  | succ n ih =>
    show rb_n f n + f n ≤ n + 1
    have h1 := ih (fun m hm => h m (by omega))
    have h2 := h n (by omega)
    omega
theorem rb_n_nI (f : Nat → Nat) (n : Nat) : nI (rb_n f n) = rb_i (fun m => nI (f m)) n := by
  induction n with
  | zero => rfl
  | succ n ih =>
    show nI (rb_n f n + f n) = rb_i (fun m => nI (f m)) n + nI (f n)
    rw [← ih, nI_add]
/-! sums over a digit 0 .. 4 -/
def rb_5 (f : Nat → Nat) : Nat := f 0 + f 1 + f 2 + f 3 + f 4
def rb_5i (f : Nat → Int32) : Int32 := f 0 + f 1 + f 2 + f 3 + f 4
theorem rb_5_c {f g : Nat → Nat} (h : ∀ c, c < 5 → f c = g c) : rb_5 f = rb_5 g := by
  unfold rb_5
  rw [h 0 (by omega), h 1 (by omega), h 2 (by omega), h 3 (by omega), h 4 (by omega)]
theorem rb_5i_c {f g : Nat → Int32} (h : ∀ c, c < 5 → f c = g c) : rb_5i f = rb_5i g := by
  unfold rb_5i
  rw [h 0 (by omega), h 1 (by omega), h 2 (by omega), h 3 (by omega), h 4 (by omega)]
theorem rb_5_sw (f : Nat → Nat → Nat) : rb_5 (fun a => rb_5 (fun b => f a b)) = rb_5 (fun b => rb_5 (fun a => f a b)) := by
  simp only [rb_5]
  omega
theorem rb_5i_sw (f : Nat → Nat → Int32) : rb_5i (fun a => rb_5i (fun b => f a b)) = rb_5i (fun b => rb_5i (fun a => f a b)) := by
  simp only [rb_5i]
  ac_rfl
theorem rb_5_n (f : Nat → Nat) : rb_n f 5 = rb_5 f := by
  show 0 + f 0 + f 1 + f 2 + f 3 + f 4 = f 0 + f 1 + f 2 + f 3 + f 4
  omega
theorem rb_5i_n (f : Nat → Int32) : rb_i f 5 = rb_5i f := by
  show 0 + f 0 + f 1 + f 2 + f 3 + f 4 = f 0 + f 1 + f 2 + f 3 + f 4
  rw [Int32.zero_add]
theorem rb_n_5 (f : Nat → Nat) (n : Nat) : rb_n f (5 * n) = rb_n (fun q => rb_5 (fun d => f (5 * q + d))) n := by
  induction n with
  | zero => rfl
  | succ n ih =>
    rw [Nat.mul_succ]
    show rb_n f (5 * n) + f (5 * n) + f (5 * n + 1) + f (5 * n + 2) + f (5 * n + 3) + f (5 * n + 4) = rb_n (fun q => rb_5 (fun d => f (5 * q + d))) n + (f (5 * n) + f (5 * n + 1) + f (5 * n + 2) + f (5 * n + 3) + f (5 * n + 4))
    rw [← ih]
    omega
theorem rb_i_5 (f : Nat → Int32) (n : Nat) : rb_i f (5 * n) = rb_i (fun q => rb_5i (fun d => f (5 * q + d))) n := by
  induction n with
  | zero => rfl
  | succ n ih =>
    rw [Nat.mul_succ]
    show rb_i f (5 * n) + f (5 * n) + f (5 * n + 1) + f (5 * n + 2) + f (5 * n + 3) + f (5 * n + 4) = rb_i (fun q => rb_5i (fun d => f (5 * q + d))) n + (f (5 * n) + f (5 * n + 1) + f (5 * n + 2) + f (5 * n + 3) + f (5 * n + 4))
    rw [← ih]
    simp only [Int32.add_assoc]
theorem rb_n_625 (f : Nat → Nat) : rb_n f 625 = rb_5 (fun d3 => rb_5 (fun d2 => rb_5 (fun d1 => rb_5 (fun d0 => f (5 * (5 * (5 * d3 + d2) + d1) + d0))))) := by
  have h1 := rb_n_5 f 125
  have h2 := rb_n_5 (fun q => rb_5 (fun d => f (5 * q + d))) 25
  have h3 := rb_n_5 (fun q => rb_5 (fun e => rb_5 (fun d => f (5 * (5 * q + e) + d)))) 5
  have h4 := rb_5_n (fun q => rb_5 (fun g => rb_5 (fun e => rb_5 (fun d => f (5 * (5 * (5 * q + g) + e) + d)))))
  exact h1.trans (h2.trans (h3.trans h4))
theorem rb_i_625 (f : Nat → Int32) : rb_i f 625 = rb_5i (fun d3 => rb_5i (fun d2 => rb_5i (fun d1 => rb_5i (fun d0 => f (5 * (5 * (5 * d3 + d2) + d1) + d0))))) := by
  have h1 := rb_i_5 f 125
  have h2 := rb_i_5 (fun q => rb_5i (fun d => f (5 * q + d))) 25
  have h3 := rb_i_5 (fun q => rb_5i (fun e => rb_5i (fun d => f (5 * (5 * q + e) + d)))) 5
  have h4 := rb_5i_n (fun q => rb_5i (fun g => rb_5i (fun e => rb_5i (fun d => f (5 * (5 * (5 * q + g) + e) + d)))))
  exact h1.trans (h2.trans (h3.trans h4))
/-! sums over four digits -/
def rb_S (F : Nat → Nat → Nat → Nat → Nat) : Nat := rb_5 (fun a => rb_5 (fun b => rb_5 (fun c => rb_5 (fun d => F a b c d))))
def rb_Si (F : Nat → Nat → Nat → Nat → Int32) : Int32 := rb_5i (fun a => rb_5i (fun b => rb_5i (fun c => rb_5i (fun d => F a b c d))))
theorem rb_S_c {F G : Nat → Nat → Nat → Nat → Nat} (h : ∀ a b c d, a < 5 → b < 5 → c < 5 → d < 5 → F a b c d = G a b c d) : rb_S F = rb_S G :=
  rb_5_c (fun a ha => rb_5_c (fun b hb => rb_5_c (fun c hc => rb_5_c (fun d hd => h a b c d ha hb hc hd))))
theorem rb_Si_c {F G : Nat → Nat → Nat → Nat → Int32} (h : ∀ a b c d, a < 5 → b < 5 → c < 5 → d < 5 → F a b c d = G a b c d) : rb_Si F = rb_Si G :=
  rb_5i_c (fun a ha => rb_5i_c (fun b hb => rb_5i_c (fun c hc => rb_5i_c (fun d hd => h a b c d ha hb hc hd))))
theorem rb_rev (G : Nat → Nat → Nat → Nat → Nat) : rb_5 (fun d3 => rb_5 (fun d2 => rb_5 (fun d1 => rb_5 (fun d0 => G d0 d1 d2 d3)))) = rb_S G := by
  have s1 : rb_5 (fun d3 => rb_5 (fun d2 => rb_5 (fun d1 => rb_5 (fun d0 => G d0 d1 d2 d3)))) = rb_5 (fun d3 => rb_5 (fun d2 => rb_5 (fun d0 => rb_5 (fun d1 => G d0 d1 d2 d3)))) :=
    rb_5_c (fun d3 _ => rb_5_c (fun d2 _ => rb_5_sw (fun d1 d0 => G d0 d1 d2 d3)))
  have s2 : rb_5 (fun d3 => rb_5 (fun d2 => rb_5 (fun d0 => rb_5 (fun d1 => G d0 d1 d2 d3)))) = rb_5 (fun d3 => rb_5 (fun d0 => rb_5 (fun d2 => rb_5 (fun d1 => G d0 d1 d2 d3)))) :=
    rb_5_c (fun d3 _ => rb_5_sw (fun d2 d0 => rb_5 (fun d1 => G d0 d1 d2 d3)))
  have s3 : rb_5 (fun d3 => rb_5 (fun d0 => rb_5 (fun d2 => rb_5 (fun d1 => G d0 d1 d2 d3)))) = rb_5 (fun d0 => rb_5 (fun d3 => rb_5 (fun d2 => rb_5 (fun d1 => G d0 d1 d2 d3)))) :=
    rb_5_sw (fun d3 d0 => rb_5 (fun d2 => rb_5 (fun d1 => G d0 d1 d2 d3)))
  have s4 : rb_5 (fun d0 => rb_5 (fun d3 => rb_5 (fun d2 => rb_5 (fun d1 => G d0 d1 d2 d3)))) = rb_5 (fun d0 => rb_5 (fun d3 => rb_5 (fun d1 => rb_5 (fun d2 => G d0 d1 d2 d3)))) :=
    rb_5_c (fun d0 _ => rb_5_c (fun d3 _ => rb_5_sw (fun d2 d1 => G d0 d1 d2 d3)))
  have s5 : rb_5 (fun d0 => rb_5 (fun d3 => rb_5 (fun d1 => rb_5 (fun d2 => G d0 d1 d2 d3)))) = rb_5 (fun d0 => rb_5 (fun d1 => rb_5 (fun d3 => rb_5 (fun d2 => G d0 d1 d2 d3)))) :=
    rb_5_c (fun d0 _ => rb_5_sw (fun d3 d1 => rb_5 (fun d2 => G d0 d1 d2 d3)))
  have s6 : rb_5 (fun d0 => rb_5 (fun d1 => rb_5 (fun d3 => rb_5 (fun d2 => G d0 d1 d2 d3)))) = rb_S G :=
    rb_5_c (fun d0 _ => rb_5_c (fun d1 _ => rb_5_sw (fun d3 d2 => G d0 d1 d2 d3)))
  rw [s1, s2, s3, s4, s5, s6]
theorem rb_revi (G : Nat → Nat → Nat → Nat → Int32) : rb_5i (fun d3 => rb_5i (fun d2 => rb_5i (fun d1 => rb_5i (fun d0 => G d0 d1 d2 d3)))) = rb_Si G := by
  have s1 : rb_5i (fun d3 => rb_5i (fun d2 => rb_5i (fun d1 => rb_5i (fun d0 => G d0 d1 d2 d3)))) = rb_5i (fun d3 => rb_5i (fun d2 => rb_5i (fun d0 => rb_5i (fun d1 => G d0 d1 d2 d3)))) :=
    rb_5i_c (fun d3 _ => rb_5i_c (fun d2 _ => rb_5i_sw (fun d1 d0 => G d0 d1 d2 d3)))
  have s2 : rb_5i (fun d3 => rb_5i (fun d2 => rb_5i (fun d0 => rb_5i (fun d1 => G d0 d1 d2 d3)))) = rb_5i (fun d3 => rb_5i (fun d0 => rb_5i (fun d2 => rb_5i (fun d1 => G d0 d1 d2 d3)))) :=
    rb_5i_c (fun d3 _ => rb_5i_sw (fun d2 d0 => rb_5i (fun d1 => G d0 d1 d2 d3)))
  have s3 : rb_5i (fun d3 => rb_5i (fun d0 => rb_5i (fun d2 => rb_5i (fun d1 => G d0 d1 d2 d3)))) = rb_5i (fun d0 => rb_5i (fun d3 => rb_5i (fun d2 => rb_5i (fun d1 => G d0 d1 d2 d3)))) :=
    rb_5i_sw (fun d3 d0 => rb_5i (fun d2 => rb_5i (fun d1 => G d0 d1 d2 d3)))
  have s4 : rb_5i (fun d0 => rb_5i (fun d3 => rb_5i (fun d2 => rb_5i (fun d1 => G d0 d1 d2 d3)))) = rb_5i (fun d0 => rb_5i (fun d3 => rb_5i (fun d1 => rb_5i (fun d2 => G d0 d1 d2 d3)))) :=
    rb_5i_c (fun d0 _ => rb_5i_c (fun d3 _ => rb_5i_sw (fun d2 d1 => G d0 d1 d2 d3)))
  have s5 : rb_5i (fun d0 => rb_5i (fun d3 => rb_5i (fun d1 => rb_5i (fun d2 => G d0 d1 d2 d3)))) = rb_5i (fun d0 => rb_5i (fun d1 => rb_5i (fun d3 => rb_5i (fun d2 => G d0 d1 d2 d3)))) :=
    rb_5i_c (fun d0 _ => rb_5i_sw (fun d3 d1 => rb_5i (fun d2 => G d0 d1 d2 d3)))
  have s6 : rb_5i (fun d0 => rb_5i (fun d1 => rb_5i (fun d3 => rb_5i (fun d2 => G d0 d1 d2 d3)))) = rb_Si G :=
    rb_5i_c (fun d0 _ => rb_5i_c (fun d1 _ => rb_5i_sw (fun d3 d2 => G d0 d1 d2 d3)))
  rw [s1, s2, s3, s4, s5, s6]
theorem rb_R1 (F : Nat → Nat → Nat → Nat → Nat) : rb_n (fun m => F (m % 5) (m / 5 % 5) (m / 25 % 5) (m / 125)) 625 = rb_S F := by
  rw [rb_n_625, ← rb_rev]
  refine rb_5_c (fun d3 h3 => rb_5_c (fun d2 h2 => rb_5_c (fun d1 h1 => rb_5_c (fun d0 h0 => ?_))))
  rw [show (5 * (5 * (5 * d3 + d2) + d1) + d0) % 5 = d0 by omega, show (5 * (5 * (5 * d3 + d2) + d1) + d0) / 5 % 5 = d1 by omega, show (5 * (5 * (5 * d3 + d2) + d1) + d0) / 25 % 5 = d2 by omega, show (5 * (5 * (5 * d3 + d2) + d1) + d0) / 125 = d3 by omega]
theorem rb_R1i (F : Nat → Nat → Nat → Nat → Int32) : rb_i (fun m => F (m % 5) (m / 5 % 5) (m / 25 % 5) (m / 125)) 625 = rb_Si F := by
  rw [rb_i_625, ← rb_revi]
  refine rb_5i_c (fun d3 h3 => rb_5i_c (fun d2 h2 => rb_5i_c (fun d1 h1 => rb_5i_c (fun d0 h0 => ?_))))
  rw [show (5 * (5 * (5 * d3 + d2) + d1) + d0) % 5 = d0 by omega, show (5 * (5 * (5 * d3 + d2) + d1) + d0) / 5 % 5 = d1 by omega, show (5 * (5 * (5 * d3 + d2) + d1) + d0) / 25 % 5 = d2 by omega, show (5 * (5 * (5 * d3 + d2) + d1) + d0) / 125 = d3 by omega]
theorem rb_R2 (F : Nat → Nat → Nat → Nat → Nat) : rb_n (fun m => F (m / 125) (m / 25 % 5) (m / 5 % 5) (m % 5)) 625 = rb_S F := by
  rw [rb_n_625]
  refine rb_5_c (fun d3 h3 => rb_5_c (fun d2 h2 => rb_5_c (fun d1 h1 => rb_5_c (fun d0 h0 => ?_))))
  rw [show (5 * (5 * (5 * d3 + d2) + d1) + d0) % 5 = d0 by omega, show (5 * (5 * (5 * d3 + d2) + d1) + d0) / 5 % 5 = d1 by omega, show (5 * (5 * (5 * d3 + d2) + d1) + d0) / 25 % 5 = d2 by omega, show (5 * (5 * (5 * d3 + d2) + d1) + d0) / 125 = d3 by omega]
theorem rb_5_add (f g : Nat → Nat) : rb_5 (fun c => f c + g c) = rb_5 f + rb_5 g := by
  simp only [rb_5]
  omega
theorem rb_S_add (F G : Nat → Nat → Nat → Nat → Nat) : rb_S (fun a b c d => F a b c d + G a b c d) = rb_S F + rb_S G := by
  unfold rb_S
  simp only [rb_5_add]
theorem rb_5_mul (f : Nat → Nat) (x : Nat) : rb_5 f * x = rb_5 (fun c => f c * x) := by
  unfold rb_5
  simp only [Nat.add_mul]
theorem rb_S_mul (F : Nat → Nat → Nat → Nat → Nat) (x : Nat) : rb_S F * x = rb_S (fun a b c d => F a b c d * x) := by
  unfold rb_S
  simp only [rb_5_mul]
theorem rb_5i_mul (f : Nat → Int32) (x : Int32) : x * rb_5i f = rb_5i (fun c => x * f c) := by
  unfold rb_5i
  simp only [Int32.mul_add]
theorem rb_5_S (G : Nat → Nat → Nat → Nat → Nat → Nat) : rb_5 (fun x => rb_S (fun a b c d => G x a b c d)) = rb_S (fun a b c d => rb_5 (fun x => G x a b c d)) := by
  unfold rb_S
  rw [rb_5_sw]
  refine rb_5_c (fun a _ => ?_)
  rw [rb_5_sw]
  refine rb_5_c (fun b _ => ?_)
  rw [rb_5_sw]
  refine rb_5_c (fun c _ => ?_)
  rw [rb_5_sw]
theorem rb_S_S (K : Nat → Nat → Nat → Nat → Nat → Nat → Nat → Nat → Nat) : rb_S (fun a b c d => rb_S (fun x y z w => K a b c d x y z w)) = rb_S (fun x y z w => rb_S (fun a b c d => K a b c d x y z w)) := by
  show rb_5 (fun a => rb_5 (fun b => rb_5 (fun c => rb_5 (fun d => rb_S (fun x y z w => K a b c d x y z w))))) = rb_S (fun x y z w => rb_5 (fun a => rb_5 (fun b => rb_5 (fun c => rb_5 (fun d => K a b c d x y z w)))))
  simp only [rb_5_S]
theorem rb_5_nI (f : Nat → Nat) : nI (rb_5 f) = rb_5i (fun c => nI (f c)) := by
  unfold rb_5 rb_5i
  simp only [nI_add]
theorem rb_S_nI (F : Nat → Nat → Nat → Nat → Nat) : nI (rb_S F) = rb_Si (fun a b c d => nI (F a b c d)) := by
  unfold rb_S rb_Si
  simp only [rb_5_nI]
end
section
/-! a placement: the column of each row's rook, 4 for none -/
def rb_dg (a b c d : Nat) : Nat → Nat := fun y => match y with
  | 0 => a
  | 1 => b
  | 2 => c
  | _ => d
def rb_tk (d : Nat → Nat) : Nat → Nat
  | 0 => 0
  | y + 1 => if d y < 4 then rb_tk d y ||| 2 ^ d y else rb_tk d y
def rb_gd (d : Nat → Nat) : Nat → Bool
  | 0 => true
  | y + 1 => rb_gd d y && !(decide (d y < 4) && (rb_tk d y).testBit (d y))
def rb_sz (d : Nat → Nat) : Nat → Nat
  | 0 => 0
  | y + 1 => if d y < 4 then rb_sz d y + 1 else rb_sz d y
def rb_on (B d : Nat → Nat) : Nat → Nat
  | 0 => 0
  | y + 1 => if d y < 4 ∧ (B y).testBit (d y) = true then rb_on B d y + 1 else rb_on B d y
def rb_wo (w : Nat → Int32) (d : Nat → Nat) : Nat → Int32
  | 0 => 1
  | y + 1 => if d y < 4 then rb_wo w d y * w (4 * y + d y) else rb_wo w d y
def rb_iv (d : Nat → Nat) (c : Nat) (s : Int32) : Nat → Int32
  | 0 => s
  | z + 1 => if d z ≤ c then rb_iv d c s z else -rb_iv d c s z
def rb_sn (d : Nat → Nat) : Nat → Int32
  | 0 => 1
  | y + 1 => rb_iv d (d y) (rb_sn d y) y
/-- 1 where the placement is on the board, apart, and has k rooks -/
def rb_F (B : Nat → Nat) (k : Nat) (d : Nat → Nat) : Nat := if rb_gd d 4 = true ∧ rb_on B d 4 = rb_sz d 4 ∧ rb_sz d 4 = k then 1 else 0
theorem rb_F_01 (B : Nat → Nat) (k : Nat) (d : Nat → Nat) : rb_F B k d ≤ 1 := by
  unfold rb_F
  split <;> omega
def rb_ft (B : Nat → Nat) (r c s : Nat) : Bool := (B r).testBit c && !s.testBit c
def rb_P (B : Nat → Nat) : Nat → Nat → Nat → Nat
  | 0, k, _ => if k = 0 then 1 else 0
  | j + 1, k, s => rb_n (fun c => if c = 4 then rb_P B j k s else if rb_ft B (3 - j) c s = true then (if k = 0 then 0 else rb_P B j (k - 1) (s ||| 2 ^ c)) else 0) 5
def rb_bl (B : Nat → Nat) (j k s c : Nat) : Nat := if c = 4 then rb_P B j k s else if rb_ft B (3 - j) c s = true then (if k = 0 then 0 else rb_P B j (k - 1) (s ||| 2 ^ c)) else 0
theorem rb_P_s (B : Nat → Nat) (j k s : Nat) : rb_P B (j + 1) k s = rb_n (rb_bl B j k s) 5 := rfl
theorem rb_P_0 (B : Nat → Nat) : ∀ j s, rb_P B j 0 s = 1 := by
  intro j
  induction j with
  | zero => intro s; rfl
  | succ j ih =>
    intro s
    rw [rb_P_s]
    show 0 + rb_bl B j 0 s 0 + rb_bl B j 0 s 1 + rb_bl B j 0 s 2 + rb_bl B j 0 s 3 + rb_bl B j 0 s 4 = 1
    have h : ∀ c, c < 4 → rb_bl B j 0 s c = 0 := by
      intro c hc
      unfold rb_bl
      rw [if_neg (by omega)]
      split <;> simp
    have h4 : rb_bl B j 0 s 4 = 1 := by
      unfold rb_bl
      rw [if_pos rfl, ih]
    rw [h 0 (by omega), h 1 (by omega), h 2 (by omega), h 3 (by omega), h4]
/-! the same by number: m is read as j digits, the first one greatest -/
def rb_q (B : Nat → Nat) : Nat → Nat → Nat → Nat → Nat
  | 0, k, _, _ => if k = 0 then 1 else 0
  | j + 1, k, s, m => if m / 5 ^ j = 4 then rb_q B j k s (m % 5 ^ j) else if rb_ft B (3 - j) (m / 5 ^ j) s = true then (if k = 0 then 0 else rb_q B j (k - 1) (s ||| 2 ^ (m / 5 ^ j)) (m % 5 ^ j)) else 0
def rb_qc (B : Nat → Nat) (j k s c m : Nat) : Nat := if c = 4 then rb_q B j k s m else if rb_ft B (3 - j) c s = true then (if k = 0 then 0 else rb_q B j (k - 1) (s ||| 2 ^ c) m) else 0
theorem rb_q_s (B : Nat → Nat) (j k s m : Nat) : rb_q B (j + 1) k s m = rb_qc B j k s (m / 5 ^ j) (m % 5 ^ j) := rfl
theorem rb_p5 (j : Nat) : 0 < 5 ^ j := Nat.pow_pos (by omega)
theorem rb_q_c {B : Nat → Nat} {j k s c m : Nat} (hm : m < 5 ^ j) : rb_q B (j + 1) k s (5 ^ j * c + m) = rb_qc B j k s c m := by
  rw [rb_q_s, Nat.mul_add_mod, Nat.mod_eq_of_lt hm, Nat.mul_add_div (rb_p5 j), Nat.div_eq_of_lt hm, Nat.add_zero]
theorem rb_q_n (B : Nat → Nat) : ∀ j k s, rb_n (rb_q B j k s) (5 ^ j) = rb_P B j k s ∧ ∀ c, rb_n (rb_q B (j + 1) k s) (5 ^ j * c) = rb_n (rb_bl B j k s) c := by
  have blk : ∀ j, (∀ k s, rb_n (rb_q B j k s) (5 ^ j) = rb_P B j k s) → ∀ k s c, rb_n (rb_q B (j + 1) k s) (5 ^ j * c) = rb_n (rb_bl B j k s) c := by
    intro j ih k s c
    induction c with
    | zero => rfl
    | succ c hc =>
      rw [Nat.mul_succ, rb_n_add, hc]
      show _ = rb_n (rb_bl B j k s) c + rb_bl B j k s c
      congr 1
      rw [rb_n_c (g := rb_qc B j k s c) (fun m hm => rb_q_c hm)]
      unfold rb_bl
      by_cases h4 : c = 4
      · rw [if_pos h4, ← ih]
        exact rb_n_c (fun m _ => by unfold rb_qc; rw [if_pos h4])
      · rw [if_neg h4]
        by_cases hf : rb_ft B (3 - j) c s = true
        · rw [if_pos hf]
          by_cases hk : k = 0
          · rw [if_pos hk]
            exact rb_n_z (fun m _ => by unfold rb_qc; rw [if_neg h4, if_pos hf, if_pos hk])
          · rw [if_neg hk, ← ih]
            exact rb_n_c (fun m _ => by unfold rb_qc; rw [if_neg h4, if_pos hf, if_neg hk])
        · rw [if_neg hf]
          exact rb_n_z (fun m _ => by unfold rb_qc; rw [if_neg h4, if_neg hf])
  have main : ∀ j k s, rb_n (rb_q B j k s) (5 ^ j) = rb_P B j k s := by
    intro j
    induction j with
    | zero =>
      intro k s
      show 0 + (if k = 0 then 1 else 0) = if k = 0 then 1 else 0
      omega
    | succ j ih =>
      intro k s
      rw [rb_P_s, Nat.pow_succ]
      exact blk j ih k s 5
  exact fun j k s => ⟨main j k s, blk j (main j) k s⟩
/-- one step down in the order of numbers -/
theorem rb_down {B : Nat → Nat} {j k s m left : Nat} (hm : m < 5 ^ (j + 1)) (h1 : rb_q B (j + 1) k s m = 1) (hl : rb_n (rb_q B (j + 1) k s) m = left) :
    m / 5 ^ j < 5 ∧ m % 5 ^ j < 5 ^ j ∧ rb_n (rb_bl B j k s) (m / 5 ^ j) ≤ left ∧ left < rb_n (rb_bl B j k s) (m / 5 ^ j + 1) ∧
    (m / 5 ^ j = 4 → rb_q B j k s (m % 5 ^ j) = 1 ∧ rb_n (rb_q B j k s) (m % 5 ^ j) = left - rb_n (rb_bl B j k s) (m / 5 ^ j)) ∧
    (m / 5 ^ j ≠ 4 → k ≠ 0 ∧ rb_ft B (3 - j) (m / 5 ^ j) s = true ∧ rb_q B j (k - 1) (s ||| 2 ^ (m / 5 ^ j)) (m % 5 ^ j) = 1 ∧ rb_n (rb_q B j (k - 1) (s ||| 2 ^ (m / 5 ^ j))) (m % 5 ^ j) = left - rb_n (rb_bl B j k s) (m / 5 ^ j)) := by
  have hp := rb_p5 j
  have hc5 : m / 5 ^ j < 5 := Nat.div_lt_of_lt_mul (by rw [← Nat.pow_succ]; exact hm)
  have hr : m % 5 ^ j < 5 ^ j := Nat.mod_lt _ hp
  have em : 5 ^ j * (m / 5 ^ j) + m % 5 ^ j = m := Nat.div_add_mod m (5 ^ j)
  have e1 : rb_n (rb_q B (j + 1) k s) m = rb_n (rb_bl B j k s) (m / 5 ^ j) + rb_n (rb_qc B j k s (m / 5 ^ j)) (m % 5 ^ j) := by
    conv => lhs; rw [← em]
    rw [rb_n_add, (rb_q_n B j k s).2]
    congr 1
    exact rb_n_c (fun i hi => rb_q_c (by omega))
  have e2 : rb_n (rb_q B (j + 1) k s) m + rb_q B (j + 1) k s m ≤ rb_n (rb_q B (j + 1) k s) (5 ^ j * (m / 5 ^ j + 1)) := rb_n_lt _ (by rw [Nat.mul_succ]; omega)
  rw [(rb_q_n B j k s).2] at e2
  rw [rb_q_s] at h1
  refine ⟨hc5, hr, by omega, ?_, ?_, ?_⟩
  · rw [rb_q_s] at e2
    omega
  · intro h4
    have hq : ∀ i, rb_qc B j k s (m / 5 ^ j) i = rb_q B j k s i := fun i => by unfold rb_qc; rw [if_pos h4]
    rw [hq] at h1
    rw [rb_n_c (g := rb_q B j k s) (fun i _ => hq i)] at e1
    exact ⟨h1, by omega⟩
  · intro h4
    have hf : rb_ft B (3 - j) (m / 5 ^ j) s = true := by
      by_cases hf : rb_ft B (3 - j) (m / 5 ^ j) s = true
      · exact hf
      · unfold rb_qc at h1
        rw [if_neg h4, if_neg hf] at h1
        omega
    have hk : k ≠ 0 := by
      intro hk
      unfold rb_qc at h1
      rw [if_neg h4, if_pos hf, if_pos hk] at h1
      omega
    have hq : ∀ i, rb_qc B j k s (m / 5 ^ j) i = rb_q B j (k - 1) (s ||| 2 ^ (m / 5 ^ j)) i := fun i => by unfold rb_qc; rw [if_neg h4, if_pos hf, if_neg hk]
    rw [hq] at h1
    rw [rb_n_c (g := rb_q B j (k - 1) (s ||| 2 ^ (m / 5 ^ j))) (fun i _ => hq i)] at e1
    exact ⟨hk, hf, h1, by omega⟩
/-! by digits -/
def rb_qd (B d : Nat → Nat) : Nat → Nat → Nat → Nat
  | 0, k, _ => if k = 0 then 1 else 0
  | j + 1, k, s => if d (3 - j) = 4 then rb_qd B d j k s else if rb_ft B (3 - j) (d (3 - j)) s = true then (if k = 0 then 0 else rb_qd B d j (k - 1) (s ||| 2 ^ d (3 - j))) else 0
theorem rb_q_d {B d : Nat → Nat} {j m : Nat} (h : d (3 - j) = m / 5 ^ j) (ih : ∀ k s, rb_q B j k s (m % 5 ^ j) = rb_qd B d j k s) : ∀ k s, rb_q B (j + 1) k s m = rb_qd B d (j + 1) k s := by
  intro k s
  show (if m / 5 ^ j = 4 then rb_q B j k s (m % 5 ^ j) else if rb_ft B (3 - j) (m / 5 ^ j) s = true then (if k = 0 then 0 else rb_q B j (k - 1) (s ||| 2 ^ (m / 5 ^ j)) (m % 5 ^ j)) else 0) = (if d (3 - j) = 4 then rb_qd B d j k s else if rb_ft B (3 - j) (d (3 - j)) s = true then (if k = 0 then 0 else rb_qd B d j (k - 1) (s ||| 2 ^ d (3 - j))) else 0)
  rw [h, ih, ih]
theorem rb_on_s {B d : Nat → Nat} (n : Nat) : rb_on B d n ≤ rb_sz d n ∧ rb_on B d (n + 1) + rb_sz d n ≤ rb_sz d (n + 1) + rb_on B d n ∧ rb_sz d n ≤ rb_sz d (n + 1) := by
  have h : ∀ n, rb_on B d (n + 1) + rb_sz d n ≤ rb_sz d (n + 1) + rb_on B d n ∧ rb_sz d n ≤ rb_sz d (n + 1) := by
    intro n
    show (if d n < 4 ∧ (B n).testBit (d n) = true then rb_on B d n + 1 else rb_on B d n) + rb_sz d n ≤ (if d n < 4 then rb_sz d n + 1 else rb_sz d n) + rb_on B d n ∧ rb_sz d n ≤ (if d n < 4 then rb_sz d n + 1 else rb_sz d n)
    by_cases h4 : d n < 4
    · rw [if_pos h4]
      split <;> omega
    · rw [if_neg h4, if_neg (fun z => h4 z.1)]
      omega
  refine ⟨?_, h n⟩
  induction n with
  | zero => exact Nat.le_refl _
  | succ n ih =>
    have := h n
    omega
theorem rb_mono {B d : Nat → Nat} {n : Nat} (m : Nat) : rb_on B d (n + m) + rb_sz d n ≤ rb_sz d (n + m) + rb_on B d n ∧ rb_sz d n ≤ rb_sz d (n + m) ∧ (rb_gd d (n + m) = true → rb_gd d n = true) := by
  induction m with
  | zero => exact ⟨by rw [Nat.add_zero]; omega, Nat.le_refl _, fun h => h⟩
  | succ m ih =>
    have h := (rb_on_s (B := B) (d := d) (n + m)).2
    refine ⟨?_, ?_, fun g => ih.2.2 ?_⟩
    · show rb_on B d (n + m + 1) + rb_sz d n ≤ rb_sz d (n + m + 1) + rb_on B d n
      omega
    · show rb_sz d n ≤ rb_sz d (n + m + 1)
      omega
    · have g' : (rb_gd d (n + m) && !(decide (d (n + m) < 4) && (rb_tk d (n + m)).testBit (d (n + m)))) = true := g
      rw [Bool.and_eq_true] at g'
      exact g'.1
theorem rb_qd_F {B d : Nat → Nat} (hd : ∀ y, y < 4 → d y < 5) : ∀ j, j ≤ 4 → rb_gd d (4 - j) = true → rb_on B d (4 - j) = rb_sz d (4 - j) → ∀ k, rb_qd B d j k (rb_tk d (4 - j)) = if rb_gd d 4 = true ∧ rb_on B d 4 = rb_sz d 4 ∧ rb_sz d 4 = rb_sz d (4 - j) + k then 1 else 0 := by
  intro j
  induction j with
  | zero =>
    intro _ hg ho k
    show (if k = 0 then 1 else 0) = _
    by_cases hk : k = 0
    · rw [if_pos hk, if_pos ⟨hg, ho, by rw [hk]; rfl⟩]
    · rw [if_neg hk, if_neg (fun z => hk (by have z2 := z.2.2; show k = 0; change rb_sz d 4 = rb_sz d 4 + k at z2; omega))]
  | succ j ih =>
    intro hj hg ho k
    have e : 4 - j = (4 - (j + 1)) + 1 := by omega
    have er : 3 - j = 4 - (j + 1) := by omega
    have ih' := ih (by omega)
    rw [e] at ih'
    have mo := rb_mono (B := B) (d := d) (n := 4 - (j + 1) + 1) (4 - (4 - (j + 1) + 1))
    rw [show 4 - (j + 1) + 1 + (4 - (4 - (j + 1) + 1)) = 4 by omega] at mo
    show (if d (3 - j) = 4 then rb_qd B d j k (rb_tk d (4 - (j + 1))) else if rb_ft B (3 - j) (d (3 - j)) (rb_tk d (4 - (j + 1))) = true then (if k = 0 then 0 else rb_qd B d j (k - 1) (rb_tk d (4 - (j + 1)) ||| 2 ^ d (3 - j))) else 0) = _
    rw [er]
    have hd' := hd (4 - (j + 1)) (by omega)
    generalize 4 - (j + 1) = r at *
    have tks : rb_tk d (r + 1) = if d r < 4 then rb_tk d r ||| 2 ^ d r else rb_tk d r := rfl
    have gds : rb_gd d (r + 1) = (rb_gd d r && !(decide (d r < 4) && (rb_tk d r).testBit (d r))) := rfl
    have szs : rb_sz d (r + 1) = if d r < 4 then rb_sz d r + 1 else rb_sz d r := rfl
    have ons : rb_on B d (r + 1) = if d r < 4 ∧ (B r).testBit (d r) = true then rb_on B d r + 1 else rb_on B d r := rfl
    by_cases h4 : d r = 4
    · rw [if_pos h4]
      rw [if_neg (by omega)] at tks szs
      rw [if_neg (by omega)] at ons
      have hg1 : rb_gd d (r + 1) = true := by
        rw [gds, hg, h4]
        rfl
      have := ih' hg1 (by omega) k
      rw [tks, szs] at this
      exact this
    · have h4' : d r < 4 := by omega
      rw [if_neg h4]
      rw [if_pos h4'] at tks szs
      by_cases hf : rb_ft B r (d r) (rb_tk d r) = true
      · rw [if_pos hf]
        unfold rb_ft at hf
        rw [Bool.and_eq_true, Bool.not_eq_true'] at hf
        rw [if_pos ⟨h4', hf.1⟩] at ons
        have hg1 : rb_gd d (r + 1) = true := by
          rw [gds, hg, hf.2]
          simp
        by_cases hk : k = 0
        · rw [if_pos hk, if_neg]
          intro z
          omega
        · rw [if_neg hk]
          have := ih' hg1 (by omega) (k - 1)
          rw [tks, szs] at this
          rw [this]
          rw [show rb_sz d r + 1 + (k - 1) = rb_sz d r + k by omega]
      · rw [if_neg hf, if_neg]
        intro z
        apply hf
        unfold rb_ft
        rw [Bool.and_eq_true, Bool.not_eq_true']
        have g1 := mo.2.2 z.1
        rw [gds, Bool.and_eq_true] at g1
        constructor
        · by_cases hb : (B r).testBit (d r) = true
          · exact hb
          · rw [if_neg (fun z => hb z.2)] at ons
            omega
        · have g2 := g1.2
          rw [decide_eq_true h4', Bool.true_and, Bool.not_eq_true'] at g2
          exact g2
/-- the number's own digits in the order of the law's second loop -/
def rb_d2 (m : Nat) : Nat → Nat := rb_dg (m / 125) (m / 25 % 5) (m / 5 % 5) (m % 5)
def rb_d1 (m : Nat) : Nat → Nat := rb_dg (m % 5) (m / 5 % 5) (m / 25 % 5) (m / 125)
theorem rb_dg_5 {a b c d : Nat} (ha : a < 5) (hb : b < 5) (hc : c < 5) (hd : d < 5) : ∀ y, rb_dg a b c d y < 5 := by
  intro y
  unfold rb_dg
  split <;> assumption
theorem rb_d2_5 {m : Nat} (hm : m < 625) : ∀ y, rb_d2 m y < 5 := rb_dg_5 (by omega) (by omega) (by omega) (by omega)
theorem rb_d1_5 {m : Nat} (hm : m < 625) : ∀ y, rb_d1 m y < 5 := rb_dg_5 (by omega) (by omega) (by omega) (by omega)
theorem rb_q4 {B : Nat → Nat} {k m : Nat} (hm : m < 625) : rb_q B 4 k 0 m = rb_F B k (rb_d2 m) := by
  have h0 : ∀ x k s, rb_q B 0 k s x = rb_qd B (rb_d2 m) 0 k s := fun x k s => rfl
  have e3 : rb_d2 m (3 - 0) = m % 5 ^ 3 % 5 ^ 2 % 5 ^ 1 / 5 ^ 0 := by
    show m % 5 = m % 125 % 25 % 5 / 1
    omega
  have e2 : rb_d2 m (3 - 1) = m % 5 ^ 3 % 5 ^ 2 / 5 ^ 1 := by
    show m / 5 % 5 = m % 125 % 25 / 5
    omega
  have e1 : rb_d2 m (3 - 2) = m % 5 ^ 3 / 5 ^ 2 := by
    show m / 25 % 5 = m % 125 / 25
    omega
  have e0 : rb_d2 m (3 - 3) = m / 5 ^ 3 := by
    show m / 125 = m / 125
    rfl
  have h := rb_q_d e0 (rb_q_d e1 (rb_q_d e2 (rb_q_d e3 (h0 _)))) k 0
  rw [h]
  have g := rb_qd_F (B := B) (d := rb_d2 m) (fun y _ => rb_d2_5 hm y) 4 (Nat.le_refl 4) rfl rfl k
  have g' : rb_qd B (rb_d2 m) 4 k 0 = if rb_gd (rb_d2 m) 4 = true ∧ rb_on B (rb_d2 m) 4 = rb_sz (rb_d2 m) 4 ∧ rb_sz (rb_d2 m) 4 = 0 + k then 1 else 0 := g
  rw [g', Nat.zero_add]
  rfl
/-- rooks: the table's answer is the sum over placements -/
theorem rb_P_S (B : Nat → Nat) (k : Nat) : rb_P B 4 k 0 = rb_S (fun a b c d => rb_F B k (rb_dg a b c d)) := by
  rw [← rb_R2, ← (rb_q_n B 4 k 0).1]
  exact rb_n_c (fun m hm => rb_q4 hm)
theorem rb_P_1 (B : Nat → Nat) (k : Nat) : rb_n (fun m => rb_F B k (rb_d1 m)) 625 = rb_P B 4 k 0 := by
  rw [rb_P_S]
  exact rb_R1 (fun a b c d => rb_F B k (rb_dg a b c d))
theorem rb_P_2 (B : Nat → Nat) (k : Nat) : rb_n (fun m => rb_F B k (rb_d2 m)) 625 = rb_P B 4 k 0 := by
  rw [rb_P_S]
  exact rb_R2 (fun a b c d => rb_F B k (rb_dg a b c d))
theorem rb_P_le (B : Nat → Nat) (k : Nat) : rb_P B 4 k 0 ≤ 625 := by
  rw [← rb_P_2]
  exact rb_n_b (fun m _ => rb_F_01 B k _)
end
section
/-! bits of small numbers -/
theorem rb_free : ∀ b, b < 16 → ∀ s, s < 16 → nI b &&& (nI s ^^^ (-1)) = nI (b &&& (15 - s)) ∧ b &&& (15 - s) < 16 ∧ ∀ c, c < 4 → (b &&& (15 - s)).testBit c = (b.testBit c && !s.testBit c) := by decide +kernel
theorem rb_low : ∀ f, f < 16 → 0 < f → ∃ c, c < 4 ∧ f.testBit c = true ∧ nI f &&& (-nI f) = nI (2 ^ c) ∧ nI f ^^^ nI (2 ^ c) = nI (f - 2 ^ c) ∧ f - 2 ^ c < f ∧ ∀ e, e < 4 → (f - 2 ^ c).testBit e = (f.testBit e && decide (e ≠ c)) := by decide +kernel
theorem rb_or : ∀ s, s < 16 → ∀ c, c < 4 → nI s ||| nI (2 ^ c) = nI (s ||| 2 ^ c) ∧ (s ||| 2 ^ c) < 16 := by decide +kernel
theorem rb_ix (r v : Nat) : 64 * (nI r + 1) + nI v = nI (64 * (r + 1) + v) := by
  rw [show (64 : Int32) = nI 64 from rfl, nI_1, pk_mul, nI_add]
theorem rb_ix0 (r v : Nat) : 64 * nI r + nI v = nI (64 * r + v) := by
  rw [show (64 : Int32) = nI 64 from rfl, pk_mul, nI_add]
theorem rb_fill {f s : Nat → Int32} {i k : Nat} {x : Int32} (hk : k = i) (h : ∀ j, j < i → s j = f j) (hx : x = f i) : ∀ j, j < i + 1 → upd s k x j = f j := by
  intro j hj
  rw [hk]
  by_cases e : j = i
  · rw [e, pk_us, hx]
  · rw [pk_un e]
    exact h j (by omega)
def rb_bd (B : Nat → Nat) (a : Nat → Int32) : Prop := ∀ r, r < 4 → B r < 16 ∧ a r = nI (B r)
/-- what stands in rows r .. 4 of the table of ways for k rooks -/
def rb_wt (B : Nat → Nat) (k r0 : Nat) (a : Nat → Int32) : Prop := ∀ r, r0 ≤ r → r ≤ 4 → ∀ s, s < 16 → a (64 * r + s) = nI (rb_P B (4 - r) k s)
def rb_fs (g : Nat → Int32) (f : Nat) : Int32 := rb_i (fun c => if f.testBit c = true then g c else 0) 4
theorem rb_fs_0 (g : Nat → Int32) : rb_fs g 0 = 0 := by
  show 0 + (if (0 : Nat).testBit 0 = true then g 0 else 0) + (if (0 : Nat).testBit 1 = true then g 1 else 0) + (if (0 : Nat).testBit 2 = true then g 2 else 0) + (if (0 : Nat).testBit 3 = true then g 3 else 0) = 0
  simp
theorem rb_i4 (f : Nat → Int32) : rb_i f 4 = f 0 + f 1 + f 2 + f 3 := by
  show 0 + f 0 + f 1 + f 2 + f 3 = f 0 + f 1 + f 2 + f 3
  rw [Int32.zero_add]
theorem rb_i4u {f f' : Nat → Int32} {c : Nat} (hc : c < 4) (h0 : f' c = 0) (h : ∀ e, e < 4 → e ≠ c → f' e = f e) : rb_i f 4 = f c + rb_i f' 4 := by
  rw [rb_i4, rb_i4]
  have h' : c = 0 ∨ c = 1 ∨ c = 2 ∨ c = 3 := by omega
  rcases h' with rfl | rfl | rfl | rfl
  · rw [h0, h 1 (by omega) (by omega), h 2 (by omega) (by omega), h 3 (by omega) (by omega), Int32.zero_add]
    ac_rfl
  · rw [h0, h 0 (by omega) (by omega), h 2 (by omega) (by omega), h 3 (by omega) (by omega), Int32.add_zero]
    ac_rfl
  · rw [h0, h 0 (by omega) (by omega), h 1 (by omega) (by omega), h 3 (by omega) (by omega), Int32.add_zero]
    ac_rfl
  · rw [h0, h 0 (by omega) (by omega), h 1 (by omega) (by omega), h 2 (by omega) (by omega), Int32.add_zero]
    ac_rfl
theorem rb_fs_s {g : Nat → Int32} {f c : Nat} (hc : c < 4) (hb : f.testBit c = true) (h : ∀ e, e < 4 → (f - 2 ^ c).testBit e = (f.testBit e && decide (e ≠ c))) : rb_fs g f = g c + rb_fs g (f - 2 ^ c) := by
  unfold rb_fs
  rw [rb_i4u (f' := fun c' => if (f - 2 ^ c).testBit c' = true then g c' else 0) hc]
  · rw [if_pos hb]
  · rw [h c hc, if_neg (by simp)]
  · intro e he hne
    rw [h e he, decide_eq_true hne, Bool.and_true]
theorem rb_P_fs {B : Nat → Nat} {j k s : Nat} (hB : B (3 - j) < 16) (hs : s < 16) : nI (rb_P B (j + 1) (k + 1) s) = nI (rb_P B j (k + 1) s) + rb_fs (fun c => nI (rb_P B j k (s ||| 2 ^ c))) (B (3 - j) &&& (15 - s)) := by
  rw [rb_P_s, rb_n_nI]
  unfold rb_fs
  have h4 : nI (rb_bl B j (k + 1) s 4) = nI (rb_P B j (k + 1) s) := rfl
  have h : ∀ c, c < 4 → nI (rb_bl B j (k + 1) s c) = if (B (3 - j) &&& (15 - s)).testBit c = true then nI (rb_P B j k (s ||| 2 ^ c)) else 0 := by
    intro c hc
    rw [(rb_free _ hB s hs).2.2 c hc]
    unfold rb_bl rb_ft
    rw [if_neg (by omega)]
    by_cases hf : ((B (3 - j)).testBit c && !s.testBit c) = true
    · rw [if_pos hf, if_pos hf, if_neg (by omega)]
      rfl
    · rw [if_neg hf, if_neg hf]
      rfl
  show rb_i (fun m => nI (rb_bl B j (k + 1) s m)) 4 + nI (rb_bl B j (k + 1) s 4) = _
  rw [h4, rb_i_c h, Int32.add_comm]
/-! takeNext, countRow, findWays -/
theorem rb_take {post : St2 → Prop} {t : Int32} {a1 a2 a3 a4 a5 a6 a7 a8 a9 a10 a11 : Nat → Int32} (H : ∀ b3, (∀ j, j < 320 → b3 j = a4 j) → post (4, t, a1, a2, b3, a4, a5, a6, a7, a8, a9, a10, a11)) : wpX_takeNext post (4, t, a1, a2, a3, a4, a5, a6, a7, a8, a9, a10, a11) :=
  pk_loop (fun n i s => wX_takeNext_2 post 4 t n (nI i) a1 a2 s a4 a5 a6 a7 a8 a9 a10 a11) (fun i s => ∀ j, j < i → s j = a4 j) 320 0 a3 (by omega) (fun j hj => absurd hj (by omega))
    (fun n s h => pk_le 320 320 (fun _ => H s h) (fun z => absurd z (by omega)))
    (fun n i s hi h hw => pk_le 320 i (fun z => absurd z (by omega)) (fun _ => ⟨pk_in i 448 (by omega), pk_in i 448 (by omega), nm_e (nm_r (nI_1 i) (hw _ (rb_fill (nI_clamp (by omega)) h (by rw [nI_clamp (by omega)]))))⟩))
theorem rb_cr38 {post : St2 → Prop} {J2 : Int32 → (Nat → Int32) → (Nat → Int32) → (Nat → Int32) → (Nat → Int32) → (Nat → Int32) → (Nat → Int32) → (Nat → Int32) → (Nat → Int32) → (Nat → Int32) → (Nat → Int32) → (Nat → Int32) → Prop} {t tot x3 : Int32} {a1 a2 a3 a4 a5 a6 a7 a8 a9 a10 a11 : Nat → Int32} {r set f : Nat} (hr : r < 4) (hs : set < 16) (hf : f < 16)
    (ht : x3 + rb_fs (fun c => a3 (64 * (r + 1) + (set ||| 2 ^ c))) f = tot) (H : J2 (nI (set + 1)) a1 a2 a3 (upd a4 (64 * r + set) tot) a5 a6 a7 a8 a9 a10 a11) : ∃ fu, wX_countRow_38 post J2 (nI r) (nI set) 4 t a1 a2 a3 a4 a5 a6 a7 a8 a9 a10 a11 fu x3 (nI f) := by
  refine lp2 (fun fu x y => wX_countRow_38 post J2 (nI r) (nI set) 4 t a1 a2 a3 a4 a5 a6 a7 a8 a9 a10 a11 fu x y) (fun x y => ∃ f, f < 16 ∧ y = nI f ∧ x + rb_fs (fun c => a3 (64 * (r + 1) + (set ||| 2 ^ c))) f = tot) (fun _ y => y.toNatClampNeg) ?_ x3 (nI f) ⟨f, hf, rfl, ht⟩
  rintro fu x y ⟨f, hf, rfl, ht⟩ ih
  refine pk_eq f 0 (fun z => ?_) (fun z => ?_)
  · rw [z, rb_fs_0, Int32.add_zero] at ht
    rw [ht, rb_ix0, nI_clamp (by omega)]
    exact ⟨vp_in_nI (by omega) (by omega), nm_e (nm_r (nI_1 set) H)⟩
  · obtain ⟨c, hc, hb, e1, e2, e3, e4⟩ := rb_low f hf (by omega)
    obtain ⟨o1, o2⟩ := rb_or set hs c hc
    refine nm_r e1 (nm_r e2 ?_)
    rw [o1, rb_ix, nI_clamp (by omega)]
    refine ⟨vp_in_nI (by omega) (by omega), nm_e (ih _ _ ⟨f - 2 ^ c, by omega, rfl, ?_⟩ ?_)⟩
    · rw [← ht, rb_fs_s hc hb e4, Int32.add_assoc]
    · rw [nI_clamp (by omega), nI_clamp (by omega)]
      exact e3
theorem rb_row {post : St2 → Prop} {t : Int32} {a1 a2 a3 a4 a5 a6 a7 a8 a9 a10 a11 : Nat → Int32} {B : Nat → Nat} {r k : Nat} (hr : r < 4) (hB : rb_bd B a1) (h3 : rb_wt B k 0 a3) (h4 : rb_wt B (k + 1) (r + 1) a4)
    (H : ∀ b4, rb_wt B (k + 1) r b4 → post (4, t, a1, a2, a3, b4, a5, a6, a7, a8, a9, a10, a11)) : wpX_countRow post (4, t, a1, a2, a3, a4, a5, a6, a7, a8, a9, a10, a11) (nI r) := by
  refine pk_loop (fun n i s => wX_countRow_2 post (nI r) 4 t n (nI i) a1 a2 a3 s a5 a6 a7 a8 a9 a10 a11) (fun i s => rb_wt B (k + 1) (r + 1) s ∧ ∀ j, j < i → s (64 * r + j) = nI (rb_P B (4 - r) (k + 1) j)) 16 0 a4 (by omega) ⟨h4, fun j hj => absurd hj (by omega)⟩
    (fun n s h => pk_le 16 16 (fun _ => H s ?_) (fun z => absurd z (by omega)))
    (fun n i s hi h hw => pk_le 16 i (fun z => absurd z (by omega)) (fun _ => ?_))
  · intro r' h0 h1 j hj
    by_cases e : r' = r
    · rw [e]
      exact h.2 j hj
    · exact h.1 r' (by omega) h1 j hj
  · have hb := hB r hr
    obtain ⟨f1, f2, -⟩ := rb_free _ hb.1 i hi
    rw [rb_ix, nI_clamp (show 64 * (r + 1) + i < 2 ^ 31 by omega), nI_clamp (show r < 2 ^ 31 by omega), hb.2]
    refine ⟨vp_in_nI (by omega) (by omega), nm_e ⟨pk_in r 6 (by omega), nm_r f1 (rb_cr38 hr hi f2 (tot := nI (rb_P B (4 - r) (k + 1) i)) ?_ (hw _ ⟨?_, ?_⟩))⟩⟩
    · have e : 4 - r = (3 - r) + 1 := by omega
      have er : 3 - (3 - r) = r := by omega
      have p := rb_P_fs (B := B) (j := 3 - r) (k := k) (s := i) (by rw [er]; exact hb.1) hi
      rw [er] at p
      rw [e, p]
      have q := h.1 (r + 1) (by omega) (by omega) i hi
      rw [show 4 - (r + 1) = 3 - r by omega] at q
      rw [q]
      congr 1
      unfold rb_fs
      refine rb_i_c (fun c hc => ?_)
      have w := h3 (r + 1) (by omega) (by omega) (i ||| 2 ^ c) (rb_or i hi c hc).2
      rw [show 4 - (r + 1) = 3 - r by omega] at w
      dsimp only
      rw [w]
    · intro r' h0 h1 j hj
      rw [pk_un (by omega)]
      exact h.1 r' h0 h1 j hj
    · intro j hj
      by_cases e : j = i
      · rw [e, pk_us]
      · rw [pk_un (by omega)]
        exact h.2 j (by omega)
theorem rb_fw71 {post : St2 → Prop} {J : Int32 → Int32 → Int32 → (Nat → Int32) → (Nat → Int32) → (Nat → Int32) → (Nat → Int32) → (Nat → Int32) → (Nat → Int32) → (Nat → Int32) → (Nat → Int32) → (Nat → Int32) → (Nat → Int32) → (Nat → Int32) → Prop} {x1 t : Int32} {a1 a2 a3 a4 a5 a6 a7 a8 a9 a10 a11 : Nat → Int32} {B : Nat → Nat} {k : Nat} (hB : rb_bd B a1) (h3 : rb_wt B k 0 a3)
    (h4 : rb_wt B (k + 1) 4 a4) (H : ∀ b3 b4, rb_wt B (k + 1) 0 b3 → J (nI (k + 2)) 4 t a1 a2 b3 b4 a5 a6 a7 a8 a9 a10 a11) : ∃ fu, wX_findWays_71 post J x1 (nI (k + 1)) fu (4 - 1) 4 t a1 a2 a3 a4 a5 a6 a7 a8 a9 a10 a11 := by
  have g : ∀ e s, rb_wt B (k + 1) e s → e ≤ 4 → wX_findWays_71 post J x1 (nI (k + 1)) (e + 1) (nI e - 1) 4 t a1 a2 a3 s a5 a6 a7 a8 a9 a10 a11 := by
    intro e
    induction e with
    | zero =>
      intro s hs _
      refine br_t (by decide) (rb_take (fun b3 hb => nm_r (nI_1 (k + 1)) (H b3 s ?_)))
      intro r h0 h1 j hj
      rw [hb _ (by omega)]
      exact hs r h0 h1 j hj
    | succ e ih =>
      intro s hs he
      rw [nI_pred]
      refine br_f (nI_pos (by omega)) (rb_row (by omega) hB h3 hs (fun b4 hb => nm_r (?_ : nI e + (-1) = nI e - 1) (ih b4 hb (by omega))))
      rw [Int32.sub_eq_add_neg]
  exact ⟨5, g 4 a4 h4 (by omega)⟩
theorem rb_fw37 {post : St2 → Prop} {J : Int32 → Int32 → Int32 → (Nat → Int32) → (Nat → Int32) → (Nat → Int32) → (Nat → Int32) → (Nat → Int32) → (Nat → Int32) → (Nat → Int32) → (Nat → Int32) → (Nat → Int32) → (Nat → Int32) → (Nat → Int32) → Prop} {x1 t : Int32} {a1 a2 a3 a4 a5 a6 a7 a8 a9 a10 a11 : Nat → Int32} {B : Nat → Nat} {k : Nat} (hB : rb_bd B a1) (h3 : rb_wt B k 0 a3)
    (H : ∀ b3 b4, rb_wt B (k + 1) 0 b3 → J (nI (k + 2)) 4 t a1 a2 b3 b4 a5 a6 a7 a8 a9 a10 a11) : ∃ fu, wX_findWays_37 post J x1 (nI (k + 1)) 4 t fu 0 a1 a2 a3 a4 a5 a6 a7 a8 a9 a10 a11 := by
  refine pk_loop (fun n i s => wX_findWays_37 post J x1 (nI (k + 1)) 4 t n (nI i) a1 a2 a3 s a5 a6 a7 a8 a9 a10 a11) (fun i s => ∀ j, j < i → s (256 + j) = 0) 64 0 a4 (by omega) (fun j hj => absurd hj (by omega))
    (fun n s h => pk_le 64 64 (fun _ => nm_e (rb_fw71 hB h3 ?_ H)) (fun z => absurd z (by omega)))
    (fun n i s hi h hw => pk_le 64 i (fun z => absurd z (by omega)) (fun _ => ?_))
  · intro r h0 h1 j hj
    rw [show r = 4 by omega, h j (by omega)]
    rfl
  · rw [show 64 * (4 : Int32) + nI i = nI (256 + i) from nI_add 256 i, nI_clamp (by omega)]
    refine ⟨vp_in_nI (by omega) (by omega), nm_e (nm_r (nI_1 i) (hw _ ?_))⟩
    intro j hj
    by_cases e : j = i
    · rw [e, pk_us]
    · rw [pk_un (by omega)]
      exact h j (by omega)
theorem rb_ways {post : St2 → Prop} {t : Int32} {a1 a2 a3 a4 a5 a6 a7 a8 a9 a10 a11 : Nat → Int32} {B : Nat → Nat} {k : Nat} (hk : k ≤ 6) (hB : rb_bd B a1) (H : ∀ b3 b4, rb_wt B k 0 b3 → post (4, t, a1, a2, b3, b4, a5, a6, a7, a8, a9, a10, a11)) : wpX_findWays post (4, t, a1, a2, a3, a4, a5, a6, a7, a8, a9, a10, a11) (nI k) := by
  refine pk_loop (fun n i s => wX_findWays_2 post (nI k) 4 t n (nI i) a1 a2 s a4 a5 a6 a7 a8 a9 a10 a11) (fun i s => ∀ j, j < i → s j = 1) 320 0 a3 (by omega) (fun j hj => absurd hj (by omega))
    (fun n s h => pk_le 320 320 (fun _ => ?_) (fun z => absurd z (by omega)))
    (fun n i s hi h hw => pk_le 320 i (fun z => absurd z (by omega)) (fun _ => ⟨pk_in i 448 (by omega), nm_e (nm_r (nI_1 i) (hw _ (rb_fill (f := fun _ => 1) (nI_clamp (by omega)) h rfl)))⟩))
  have h0 : rb_wt B 0 0 s := by
    intro r _ h1 j hj
    rw [h _ (by omega), rb_P_0]
    rfl
  refine pk_loop (fun n i s => wX_findWays_30 post (nI k) n (nI (i + 1)) 4 t a1 a2 s.1 s.2 a5 a6 a7 a8 a9 a10 a11) (fun i s => rb_wt B i 0 s.1) k 0 (s, a4) (by omega) h0
    (fun n s h => pk_lt k (k + 1) (fun _ => H s.1 s.2 h) (fun z => absurd z (by omega)))
    (fun n i s hi h hw => pk_lt k (i + 1) (fun z => absurd z (by omega)) (fun _ => rb_fw37 hB h (fun b3 b4 hb => hw (b3, b4) hb)))
theorem rb_count {post : Int32 → St2 → Prop} {t : Int32} {a1 a2 a3 a4 a5 a6 a7 a8 a9 a10 a11 : Nat → Int32} {B : Nat → Nat} {k : Nat} (hk : k ≤ 6) (hB : rb_bd B a1) (H : ∀ b3 b4, post (nI (rb_P B 4 k 0)) (4, t, a1, a2, b3, b4, a5, a6, a7, a8, a9, a10, a11)) : wpX_countOf post (4, t, a1, a2, a3, a4, a5, a6, a7, a8, a9, a10, a11) (nI k) := by
  refine rb_ways hk hB (fun b3 b4 h => ?_)
  have e := h 0 (by omega) (by omega) 0 (by omega)
  show post (b3 0) _
  rw [show b3 0 = nI (rb_P B 4 k 0) from e]
  exact H b3 b4
end
section
/-! sets of columns below 64 -/
theorem rb_bit1 : ∀ b, b < 64 → ∀ c, c < 6 → (((nI b >>> (nI c &&& 31)) &&& 1) = 1 ↔ b.testBit c = true) := by decide +kernel
theorem rb_bit0 : ∀ b, b < 64 → ∀ c, c < 6 → (((nI b >>> (nI c &&& 31)) &&& 1) = 0 ↔ b.testBit c = false) := by decide +kernel
theorem rb_bitv : ∀ b, b < 64 → ∀ c, c < 6 → ((nI b >>> (nI c &&& 31)) &&& 1) = nI (b / 2 ^ c % 2) := by decide +kernel
theorem rb_shl : ∀ c, c < 6 → (1 : Int32) <<< (nI c &&& 31) = nI (2 ^ c) := by decide +kernel
theorem rb_shr : ∀ s, s < 64 → ∀ c, c < 6 → nI s >>> (nI c &&& 31) = nI (s / 2 ^ c) ∧ s / 2 ^ c < 64 := by decide +kernel
theorem rb_or64 : ∀ s, s < 64 → ∀ c, c < 4 → nI s ||| nI (2 ^ c) = nI (s ||| 2 ^ c) ∧ (s ||| 2 ^ c) < 64 := by decide +kernel
theorem rb_odd : ∀ p, p < 7 → (nI p &&& 1 = 1 ↔ p % 2 = 1) := by decide +kernel
def rb_pc (s : Nat) : Nat := rb_n (fun c => s / 2 ^ c % 2) 6
theorem rb_pc7 (s : Nat) : rb_pc s < 7 := by
  have : rb_pc s ≤ 6 := rb_n_b (fun m _ => by omega)
  omega
theorem rb_sizeOf {post : Int32 → Prop} {t : Int32} {a1 a2 a3 a4 a5 a6 a7 a8 a9 a10 a11 : Nat → Int32} {s : Nat} (hs : s < 64) (H : post (nI (rb_pc s))) : wpX_sizeOf post (4, t, a1, a2, a3, a4, a5, a6, a7, a8, a9, a10, a11) (nI s) :=
  pk_loop (σ := Unit) (fun n i _ => wX_sizeOf_4 post (nI s) 4 t a1 a2 a3 a4 a5 a6 a7 a8 a9 a10 a11 n (nI (rb_n (fun c => s / 2 ^ c % 2) i)) (nI i)) (fun _ _ => True) 6 0 () (by omega) trivial
    (fun n _ _ => pk_le 6 6 (fun _ => H) (fun z => absurd z (by omega)))
    (fun n i _ hi _ hw => pk_le 6 i (fun z => absurd z (by omega)) (fun _ => nm_r (by rw [rb_bitv s hs i hi, nI_add]; rfl) (nm_r (nI_1 i) (hw () trivial))))
/-! a weighed sum over the sets -/
def rb_E (a g : Nat → Int32) : Int32 := rb_i (fun s => a s * g s) 64
theorem rb_i_add (f g : Nat → Int32) (n : Nat) : rb_i (fun m => f m + g m) n = rb_i f n + rb_i g n := by
  induction n with
  | zero => exact (Int32.add_zero 0).symm
  | succ n ih =>
    show rb_i (fun m => f m + g m) n + (f n + g n) = rb_i f n + f n + (rb_i g n + g n)
    rw [ih]
    ac_rfl
theorem rb_i_upd (a g : Nat → Int32) (i : Nat) (x : Int32) (n : Nat) : rb_i (fun s => upd a i (a i + x) s * g s) n = rb_i (fun s => a s * g s) n + (if i < n then x * g i else 0) := by
  induction n with
  | zero => exact (Int32.add_zero 0).symm
  | succ n ih =>
    show rb_i (fun s => upd a i (a i + x) s * g s) n + upd a i (a i + x) n * g n = rb_i (fun s => a s * g s) n + a n * g n + _
    rw [ih]
    by_cases h : n = i
    · rw [h, pk_us, if_neg (by omega), if_pos (by omega), Int32.add_zero, Int32.add_mul, Int32.add_assoc]
    · rw [pk_un h]
      by_cases h2 : i < n
      · rw [if_pos h2, if_pos (by omega)]
        ac_rfl
      · rw [if_neg h2, if_neg (by omega), Int32.add_zero, Int32.add_zero]
theorem rb_E_upd (a g : Nat → Int32) {i : Nat} (hi : i < 64) (x : Int32) : rb_E (upd a i (a i + x)) g = rb_E a g + x * g i := by
  unfold rb_E
  rw [rb_i_upd, if_pos hi]
theorem rb_E_c {a b g : Nat → Int32} (h : ∀ s, s < 64 → b s = a s) : rb_E b g = rb_E a g := rb_i_c (fun s hs => by rw [h s hs])
theorem rb_i_4 (f : Nat → Int32) (n : Nat) : rb_i f (4 * n) = rb_i (fun q => rb_i (fun c => f (4 * q + c)) 4) n := by
  induction n with
  | zero => rfl
  | succ n ih =>
    rw [Nat.mul_succ]
    show rb_i f (4 * n) + f (4 * n) + f (4 * n + 1) + f (4 * n + 2) + f (4 * n + 3) = rb_i (fun q => rb_i (fun c => f (4 * q + c)) 4) n + (0 + f (4 * n) + f (4 * n + 1) + f (4 * n + 2) + f (4 * n + 3))
    rw [← ih, Int32.zero_add]
    simp only [Int32.add_assoc]
theorem rb_i_mul (x : Int32) (f : Nat → Int32) (n : Nat) : x * rb_i f n = rb_i (fun m => x * f m) n := by
  induction n with
  | zero => exact Int32.mul_zero
  | succ n ih =>
    show x * (rb_i f n + f n) = rb_i (fun m => x * f m) n + x * f n
    rw [Int32.mul_add, ih]
theorem rb_i_z {f : Nat → Int32} {n : Nat} (h : ∀ m, m < n → f m = 0) : rb_i f n = 0 := by
  induction n with
  | zero => rfl
  | succ n ih =>
    show rb_i f n + f n = 0
    rw [ih (fun m hm => h m (by omega)), h n (by omega), Int32.add_zero]
/-! one row's act on the weights -/
def rb_sg (sd : Bool) (s c : Nat) (x : Int32) : Int32 := if sd = true ∧ rb_pc (s / 2 ^ c) % 2 = 1 then -x else x
def rb_cf (B : Nat → Nat) (w : Nat → Int32) (sd ps : Bool) (r c s : Nat) : Int32 := if c = 4 then (if ps = true then 1 else 0) else if rb_ft B r c s = true then rb_sg sd s c (w (4 * r + c)) else 0
def rb_nx (c s : Nat) : Nat := if c = 4 then s else s ||| 2 ^ c
def rb_D (B : Nat → Nat) (w : Nat → Int32) (sd ps : Bool) (r : Nat) (g : Nat → Int32) : Nat → Int32 := fun s => rb_5i (fun c => rb_cf B w sd ps r c s * g (rb_nx c s))
theorem rb_sg_mul (sd : Bool) (s c : Nat) (x y : Int32) : rb_sg sd s c (x * y) = x * rb_sg sd s c y := by
  unfold rb_sg
  split
  · rw [Int32.mul_neg]
  · rfl
theorem rb_sg_0 (sd : Bool) (s c : Nat) : rb_sg sd s c 0 = 0 := by
  unfold rb_sg
  split
  · exact Int32.neg_zero
  · rfl
def rb_ct (B : Nat → Nat) (w : Nat → Int32) (sd : Bool) (r : Nat) (a g : Nat → Int32) (k : Nat) : Int32 := if rb_ft B r (k % 4) (k / 4) = true then rb_sg sd (k / 4) (k % 4) (a (k / 4) * w (4 * r + k % 4)) * g (k / 4 ||| 2 ^ (k % 4)) else 0
theorem rb_act {B : Nat → Nat} {w : Nat → Int32} {sd ps : Bool} {r : Nat} {a a0 b g : Nat → Int32} (h0 : ∀ s, s < 64 → a0 s = if ps = true then a s else 0) (h : rb_E b g = rb_E a0 g + rb_i (rb_ct B w sd r a g) 256) : rb_E b g = rb_E a (rb_D B w sd ps r g) := by
  rw [h, show (256 : Nat) = 4 * 64 from rfl, rb_i_4]
  unfold rb_E
  rw [← rb_i_add]
  refine rb_i_c (fun s hs => ?_)
  unfold rb_D
  rw [rb_5i_mul]
  have h4 : a s * (rb_cf B w sd ps r 4 s * g (rb_nx 4 s)) = a0 s * g s := by
    rw [h0 s hs]
    unfold rb_cf rb_nx
    rw [if_pos rfl, if_pos rfl]
    split
    · rw [Int32.one_mul]
    · rw [Int32.zero_mul, Int32.mul_zero]
  have hc : ∀ c, c < 4 → rb_ct B w sd r a g (4 * s + c) = a s * (rb_cf B w sd ps r c s * g (rb_nx c s)) := by
    intro c hc
    unfold rb_ct rb_cf rb_nx
    rw [show (4 * s + c) % 4 = c by omega, show (4 * s + c) / 4 = s by omega, if_neg (show ¬ c = 4 by omega), if_neg (show ¬ c = 4 by omega)]
    split
    · rw [rb_sg_mul, Int32.mul_assoc]
    · rw [Int32.zero_mul, Int32.mul_zero]
  rw [rb_i4]
  unfold rb_5i
  dsimp only
  rw [h4, hc 0 (by omega), hc 1 (by omega), hc 2 (by omega), hc 3 (by omega)]
  rw [Int32.add_comm]
def rb_b (x : Bool) : Int32 := if x = true then 1 else 0
def rb_wg (w a : Nat → Int32) : Prop := ∀ r, r < 4 → ∀ c, c < 4 → a (6 * r + c) = w (4 * r + c)
theorem rb_ix6 (r c : Nat) : 6 * nI r + nI c = nI (6 * r + c) := by
  rw [show (6 : Int32) = nI 6 from rfl, pk_mul, nI_add]
theorem rb_sr195 {post : St2 → Prop} {t : Int32} {a1 a2 a3 a4 a5 a6 a7 a8 a9 a10 a11 : Nat → Int32} (H : ∀ b5, (∀ j, j < 64 → b5 j = a6 j) → post (4, t, a1, a2, a3, a4, b5, a6, a7, a8, a9, a10, a11)) : ∃ n, wX_sumRow_195 post 4 t n 0 a1 a2 a3 a4 a5 a6 a7 a8 a9 a10 a11 :=
  pk_loop (fun n i s => wX_sumRow_195 post 4 t n (nI i) a1 a2 a3 a4 s a6 a7 a8 a9 a10 a11) (fun i s => ∀ j, j < i → s j = a6 j) 64 0 a5 (by omega) (fun j hj => absurd hj (by omega))
    (fun n s h => pk_le 64 64 (fun _ => H s h) (fun z => absurd z (by omega)))
    (fun n i s hi h hw => pk_le 64 i (fun z => absurd z (by omega)) (fun _ => ⟨pk_in i 64 (by omega), pk_in i 64 (by omega), nm_e (nm_r (nI_1 i) (hw _ (rb_fill (nI_clamp (by omega)) h (by rw [nI_clamp (by omega)]))))⟩))
theorem rb_sr101 {post : St2 → Prop} {J : Int32 → (Nat → Int32) → (Nat → Int32) → (Nat → Int32) → (Nat → Int32) → (Nat → Int32) → (Nat → Int32) → (Nat → Int32) → (Nat → Int32) → (Nat → Int32) → (Nat → Int32) → (Nat → Int32) → Prop} {t : Int32} {a1 a2 a3 a4 a5 a6 a7 a8 a9 a10 a11 : Nat → Int32} {w : Nat → Int32} {sd : Bool} {r k s c : Nat} (hr : r < 4) (hs : s < 64) (hc : c < 4) (hW : rb_wg w a2)
    (H : ∀ b6, (∀ g, rb_E b6 g = rb_E a6 g + rb_sg sd s c (a5 s * w (4 * r + c)) * g (s ||| 2 ^ c)) → J (nI (k + 1)) a1 a2 a3 a4 a5 b6 a7 a8 a9 a10 a11) : wX_sumRow_101 post J (nI r) (rb_b sd) (nI k) (nI s) (nI c) 1 4 t a1 a2 a3 a4 a5 a6 a7 a8 a9 a10 a11 := by
  obtain ⟨o1, o2⟩ := rb_or64 s hs c hc
  obtain ⟨q1, q2⟩ := rb_shr s hs c (by omega)
  unfold wX_sumRow_101
  rw [nI_clamp (show s < 2 ^ 31 by omega), rb_shl c (by omega), o1, nI_clamp (show s ||| 2 ^ c < 2 ^ 31 by omega), rb_ix6, nI_clamp (show 6 * r + c < 2 ^ 31 by omega), hW r hr c hc, q1]
  refine br_f (by decide) ⟨pk_in s 64 hs, br_c (fun z => nm_r (nI_1 k) (H _ (fun g => ?_))) (fun z => rb_sizeOf q2 ⟨pk_in s 64 hs, vp_in_nI (by omega) (by omega), nm_e ⟨vp_in_nI o2 (by omega), ?_⟩⟩)⟩
  · rw [z, Int32.zero_mul, rb_sg_0, Int32.zero_mul, Int32.add_zero]
  · have go : ∀ x : Int32, x = rb_sg sd s c (a5 s * w (4 * r + c)) → vp_in (nI (s ||| 2 ^ c)) 64 ∧ ∀ a6_26 : Nat → Int32, a6_26 = upd a6 (s ||| 2 ^ c) (a6 (s ||| 2 ^ c) + x) → (∀ x4_27 : Int32, x4_27 = nI k + 1 → (J x4_27 a1 a2 a3 a4 a5 a6_26 a7 a8 a9 a10 a11)) := by
      intro x hx
      refine ⟨vp_in_nI o2 (by omega), nm_e (nm_r (nI_1 k) (H _ (fun g => ?_)))⟩
      rw [rb_E_upd _ _ o2, hx]
    cases sd with
    | false => exact br_t rfl (go _ rfl)
    | true =>
      refine br_f (by decide) (ek_if (rb_odd _ (rb_pc7 _)) (fun h => go _ ?_) (fun h => go _ ?_))
      · unfold rb_sg
        rw [if_pos ⟨rfl, h⟩]
      · unfold rb_sg
        rw [if_neg (fun z => h z.2)]
theorem rb_sr100 {post : St2 → Prop} {J : Int32 → (Nat → Int32) → (Nat → Int32) → (Nat → Int32) → (Nat → Int32) → (Nat → Int32) → (Nat → Int32) → (Nat → Int32) → (Nat → Int32) → (Nat → Int32) → (Nat → Int32) → (Nat → Int32) → Prop} {x1 x2 x5 x6 t : Int32} {a1 a2 a3 a4 a5 a6 a7 a8 a9 a10 a11 : Nat → Int32} {k : Nat} (H : J (nI (k + 1)) a1 a2 a3 a4 a5 a6 a7 a8 a9 a10 a11) : wX_sumRow_100 post J x1 x2 (nI k) x5 x6 4 t a1 a2 a3 a4 a5 a6 a7 a8 a9 a10 a11 :=
  br_t rfl (nm_r (nI_1 k) H)
theorem rb_sr41 {post : St2 → Prop} {t : Int32} {a1 a2 a3 a4 a5 a6 a7 a8 a9 a10 a11 : Nat → Int32} {B : Nat → Nat} {w : Nat → Int32} {sd : Bool} {r : Nat} (hr : r < 4) (hB : rb_bd B a1) (hW : rb_wg w a2)
    (H : ∀ b5 b6, (∀ g, rb_E b5 g = rb_E a6 g + rb_i (rb_ct B w sd r a5 g) 256) → post (4, t, a1, a2, a3, a4, b5, b6, a7, a8, a9, a10, a11)) : ∃ n, wX_sumRow_41 post (nI r) (rb_b sd) 4 t n 0 a1 a2 a3 a4 a5 a6 a7 a8 a9 a10 a11 := by
  refine pk_loop (fun n i s => wX_sumRow_41 post (nI r) (rb_b sd) 4 t n (nI i) a1 a2 a3 a4 a5 s a7 a8 a9 a10 a11) (fun i s => ∀ g, rb_E s g = rb_E a6 g + rb_i (rb_ct B w sd r a5 g) i) 256 0 a6 (by omega) (fun g => (Int32.add_zero _).symm)
    (fun n s h => pk_le 256 256 (fun _ => rb_sr195 (fun b5 hb => H b5 s (fun g => by rw [← h g]; exact rb_E_c hb))) (fun z => absurd z (by omega)))
    (fun n i s hi h hw => pk_le 256 i (fun z => absurd z (by omega)) (fun _ => ⟨by decide, nm_r (pk_div (d := 4) (by omega) (by omega) (by omega)) ⟨by decide, nm_r (pk_rem (d := 4) (by omega) (by omega) (by omega)) ⟨pk_in r 6 (by omega), ?_⟩⟩⟩))
  have hb := hB r hr
  rw [nI_clamp (show r < 2 ^ 31 by omega), hb.2]
  have no : ¬ rb_ft B r (i % 4) (i / 4) = true → wX_sumRow_100 post (wX_sumRow_41 post (nI r) (rb_b sd) 4 t n) (nI r) (rb_b sd) (nI i) (nI (i / 4)) (nI (i % 4)) 4 t a1 a2 a3 a4 a5 s a7 a8 a9 a10 a11 := by
    intro z
    refine rb_sr100 (hw s (fun g => ?_))
    rw [h g]
    show _ = rb_E a6 g + (rb_i (rb_ct B w sd r a5 g) i + rb_ct B w sd r a5 g i)
    unfold rb_ct
    rw [if_neg z, Int32.add_zero]
  refine ek_if (rb_bit1 (B r) (by omega) (i % 4) (by omega)) (fun h1 => ek_if (rb_bit0 (i / 4) (by omega) (i % 4) (by omega)) (fun h2 => ?_) (fun h2 => no ?_)) (fun h1 => no ?_)
  · refine rb_sr101 hr (by omega) (by omega) hW (fun b6 hb6 => hw b6 (fun g => ?_))
    rw [hb6 g, h g]
    show _ = rb_E a6 g + (rb_i (rb_ct B w sd r a5 g) i + rb_ct B w sd r a5 g i)
    have hf : rb_ft B r (i % 4) (i / 4) = true := by
      unfold rb_ft
      rw [h1, h2]
      rfl
    rw [Int32.add_assoc]
    congr 2
    unfold rb_ct
    rw [if_pos hf]
  · unfold rb_ft
    intro z
    rw [Bool.and_eq_true, Bool.not_eq_true'] at z
    exact h2 z.2
  · unfold rb_ft
    intro z
    rw [Bool.and_eq_true] at z
    exact h1 z.1
theorem rb_sumRow {post : St2 → Prop} {t x2 x3 : Int32} {a1 a2 a3 a4 a5 a6 a7 a8 a9 a10 a11 : Nat → Int32} {B : Nat → Nat} {w : Nat → Int32} (sd ps : Bool) (e2 : x2 = rb_b sd) (e3 : x3 = rb_b ps) {r : Nat} (hr : r < 4) (hB : rb_bd B a1) (hW : rb_wg w a2)
    (H : ∀ b5 b6, (∀ g, rb_E b5 g = rb_E a5 (rb_D B w sd ps r g)) → post (4, t, a1, a2, a3, a4, b5, b6, a7, a8, a9, a10, a11)) : wpX_sumRow post (4, t, a1, a2, a3, a4, a5, a6, a7, a8, a9, a10, a11) (nI r) x2 x3 := by
  rw [e2, e3]
  refine pk_loop (fun n i s => wX_sumRow_3 post (nI r) (rb_b sd) (rb_b ps) 4 t n (nI i) a1 a2 a3 a4 a5 s a7 a8 a9 a10 a11) (fun i s => ∀ j, j < i → s j = if ps = true then a5 j else 0) 64 0 a6 (by omega) (fun j hj => absurd hj (by omega))
    (fun n s h => pk_le 64 64 (fun _ => rb_sr41 hr hB hW (fun b5 b6 hb => H b5 b6 (fun g => rb_act h (hb g)))) (fun z => absurd z (by omega)))
    (fun n i s hi h hw => pk_le 64 i (fun z => absurd z (by omega)) (fun _ => ?_))
  cases ps with
  | false => exact br_t rfl ⟨pk_in i 64 (by omega), nm_e (nm_r (nI_1 i) (hw _ (rb_fill (f := fun j => if false = true then a5 j else 0) (nI_clamp (by omega)) h rfl)))⟩
  | true => exact br_f (by decide) ⟨pk_in i 64 (by omega), pk_in i 64 (by omega), nm_e (nm_r (nI_1 i) (hw _ (rb_fill (f := fun j => if true = true then a5 j else 0) (nI_clamp (by omega)) h (by rw [nI_clamp (by omega)]; rfl))))⟩
/-! the rows' chain -/
def rb_G (B : Nat → Nat) (w : Nat → Int32) (sd ps : Bool) : Nat → (Nat → Int32) → Int32
  | 0, g => g 0
  | n + 1, g => rb_G B w sd ps n (rb_D B w sd ps n g)
theorem rb_G_0 {B : Nat → Nat} {w : Nat → Int32} {sd ps : Bool} {g : Nat → Int32} : rb_G B w sd ps 0 g = g 0 := rfl
theorem rb_G_s {B : Nat → Nat} {w : Nat → Int32} {sd ps : Bool} {n : Nat} {g : Nat → Int32} : rb_G B w sd ps (n + 1) g = rb_G B w sd ps n (rb_D B w sd ps n g) := rfl
theorem rb_E_1 {a g : Nat → Int32} (h0 : a 0 = 1) (h : ∀ s, 0 < s → s < 64 → a s = 0) : rb_E a g = g 0 := by
  have e : ∀ n, n < 64 → rb_i (fun s => a s * g s) (n + 1) = g 0 := by
    intro n
    induction n with
    | zero =>
      intro _
      show 0 + a 0 * g 0 = g 0
      rw [h0, Int32.one_mul, Int32.zero_add]
    | succ n ih =>
      intro hn
      show rb_i (fun s => a s * g s) (n + 1) + a (n + 1) * g (n + 1) = g 0
      rw [ih (by omega), h (n + 1) (by omega) (by omega), Int32.zero_mul, Int32.add_zero]
  exact e 63 (by omega)
theorem rb_clear {post : St2 → Prop} {t : Int32} {a1 a2 a3 a4 a5 a6 a7 a8 a9 a10 a11 : Nat → Int32} (H : ∀ b5, (∀ g, rb_E b5 g = g 0) → post (4, t, a1, a2, a3, a4, b5, a6, a7, a8, a9, a10, a11)) : wpX_clearSums post (4, t, a1, a2, a3, a4, a5, a6, a7, a8, a9, a10, a11) := by
  refine pk_loop (fun n i s => wX_clearSums_2 post 4 t n (nI i) a1 a2 a3 a4 s a6 a7 a8 a9 a10 a11) (fun i s => ∀ j, j < i → s j = 0) 64 0 a5 (by omega) (fun j hj => absurd hj (by omega))
    (fun n s h => pk_le 64 64 (fun _ => nm_e (H _ (fun g => rb_E_1 pk_us (fun j h0 hj => by rw [pk_un (by omega)]; exact h j hj)))) (fun z => absurd z (by omega)))
    (fun n i s hi h hw => pk_le 64 i (fun z => absurd z (by omega)) (fun _ => ⟨pk_in i 64 (by omega), nm_e (nm_r (nI_1 i) (hw _ (rb_fill (f := fun _ => 0) (nI_clamp (by omega)) h rfl)))⟩))
def rb_EG (B : Nat → Nat) (w : Nat → Int32) (sd ps : Bool) (i : Nat) (a : Nat → Int32) : Prop := ∀ g, rb_E a g = rb_G B w sd ps i g
theorem rb_EG_0 {B : Nat → Nat} {w a : Nat → Int32} {sd ps : Bool} (h : ∀ g, rb_E a g = g 0) : rb_EG B w sd ps 0 a := fun g => (h g).trans rb_G_0.symm
theorem rb_EG_s {B : Nat → Nat} {w a b : Nat → Int32} {sd ps : Bool} {i : Nat} (h : rb_EG B w sd ps i a) (hb : ∀ g, rb_E b g = rb_E a (rb_D B w sd ps i g)) : rb_EG B w sd ps (i + 1) b := fun g => by rw [hb g, h, rb_G_s]
end
section
set_option maxHeartbeats 200000 in
theorem rb_sum {post : Int32 → St2 → Prop} {t : Int32} {a1 a2 a3 a4 a5 a6 a7 a8 a9 a10 a11 : Nat → Int32} {B : Nat → Nat} {w : Nat → Int32} {k : Nat} (hk : k ≤ 4) (hB : rb_bd B a1) (hW : rb_wg w a2)
    (H : ∀ b5 b6, post (rb_G B w false true 4 (fun s => if rb_pc s = k then 1 else 0)) (4, t, a1, a2, a3, a4, b5, b6, a7, a8, a9, a10, a11)) : wpX_sum post (4, t, a1, a2, a3, a4, a5, a6, a7, a8, a9, a10, a11) (nI k) := by
  unfold wpX_sum
  refine br_f (nI_pos (by omega)) (pk_le k 4 (fun _ => br_t rfl (rb_clear (fun b5 hb5 => ?_))) (fun z => absurd z (by omega)))
  have h0 : rb_EG B w false true 0 b5 := rb_EG_0 hb5
  show ∃ n, wX_sum_16 post (nI k) n 0 4 t a1 a2 a3 a4 b5 a6 a7 a8 a9 a10 a11
  refine pk_loop (σ := (Nat → Int32) × (Nat → Int32)) (fun n i s => wX_sum_16 post (nI k) n (nI i) 4 t a1 a2 a3 a4 s.1 s.2 a7 a8 a9 a10 a11) (fun i s => rb_EG B w false true i s.1) 4 0 (b5, a6) (by omega) h0
    (fun n s h => pk_le 4 4 (fun _ => ?_) (fun z => absurd z (by omega)))
    (fun n i s hi h hw => pk_le 4 i (fun z => absurd z (by omega)) (fun _ => rb_sumRow false true (by decide) (by decide) hi hB hW (fun c5 c6 hc => nm_r (nI_1 i) (hw (c5, c6) (rb_EG_s h hc)))))
  refine pk_loop (σ := Unit) (fun n i _ => wX_sum_41 post (nI k) 4 t a1 a2 a3 a4 s.1 s.2 a7 a8 a9 a10 a11 n (rb_i (fun j => s.1 j * (if rb_pc j = k then 1 else 0)) i) (nI i)) (fun _ _ => True) 64 0 () (by omega) trivial
    (fun n _ _ => pk_le 64 64 (fun _ => ?_) (fun z => absurd z (by omega)))
    (fun n i _ hi _ hw => pk_le 64 i (fun z => absurd z (by omega)) (fun _ => rb_sizeOf hi (pk_eq (rb_pc i) k (fun e => ⟨pk_in i 64 hi, nm_r ?_ (nm_r (nI_1 i) (hw () trivial))⟩) (fun e => ?_) rfl rfl (by have := rb_pc7 i; omega) (by omega))))
  · have := h (fun s => if rb_pc s = k then 1 else 0)
    unfold rb_E at this
    rw [this]
    exact H s.1 s.2
  · rw [nI_clamp (by omega)]
    show _ = rb_i (fun j => s.1 j * (if rb_pc j = k then 1 else 0)) i + s.1 i * (if rb_pc i = k then 1 else 0)
    rw [if_pos e, Int32.mul_one]
  · have w1 : wX_sum_41 post (nI k) 4 t a1 a2 a3 a4 s.1 s.2 a7 a8 a9 a10 a11 n (rb_i (fun j => s.1 j * (if rb_pc j = k then 1 else 0)) i + s.1 i * (if rb_pc i = k then 1 else 0)) (nI (i + 1)) := hw () trivial
    rw [if_neg e, Int32.mul_zero, Int32.add_zero] at w1
    exact nm_r (nI_1 i) w1
theorem rb_E_15 (a : Nat → Int32) : rb_E a (fun s => if s = 15 then 1 else 0) = a 15 := by
  have e : ∀ n, rb_i (fun s => a s * (if s = 15 then 1 else 0)) n = if 15 < n then a 15 else 0 := by
    intro n
    induction n with
    | zero => rfl
    | succ n ih =>
      show rb_i (fun s => a s * (if s = 15 then 1 else 0)) n + a n * (if n = 15 then 1 else 0) = _
      rw [ih]
      by_cases h : n = 15
      · rw [h, if_neg (by omega), if_pos rfl, if_pos (by omega), Int32.mul_one, Int32.zero_add]
      · rw [if_neg h, Int32.mul_zero, Int32.add_zero]
        by_cases h2 : 15 < n
        · rw [if_pos h2, if_pos (by omega)]
        · rw [if_neg h2, if_neg (by omega)]
  exact e 64
set_option maxHeartbeats 200000 in
theorem rb_signed {post : Int32 → St2 → Prop} {t : Int32} {a1 a2 a3 a4 a5 a6 a7 a8 a9 a10 a11 : Nat → Int32} {B : Nat → Nat} {w : Nat → Int32} (hB : rb_bd B a1) (hW : rb_wg w a2)
    (H : ∀ b5 b6, post (rb_G B w true false 4 (fun s => if s = 15 then 1 else 0)) (4, t, a1, a2, a3, a4, b5, b6, a7, a8, a9, a10, a11)) : wpX_signedSum post (4, t, a1, a2, a3, a4, a5, a6, a7, a8, a9, a10, a11) := by
  unfold wpX_signedSum
  refine rb_clear (fun b5 hb5 => ?_)
  have h0 : rb_EG B w true false 0 b5 := rb_EG_0 hb5
  show ∃ n, wX_signedSum_6 post n 0 4 t a1 a2 a3 a4 b5 a6 a7 a8 a9 a10 a11
  refine pk_loop (σ := (Nat → Int32) × (Nat → Int32)) (fun n i s => wX_signedSum_6 post n (nI i) 4 t a1 a2 a3 a4 s.1 s.2 a7 a8 a9 a10 a11) (fun i s => rb_EG B w true false i s.1) 4 0 (b5, a6) (by omega) h0
    (fun n s h => pk_le 4 4 (fun _ => ?_) (fun z => absurd z (by omega)))
    (fun n i s hi h hw => pk_le 4 i (fun z => absurd z (by omega)) (fun _ => rb_sumRow true false (by decide) (by decide) hi hB hW (fun c5 c6 hc => nm_r (nI_1 i) (hw (c5, c6) (rb_EG_s h hc)))))
  have e : ((1 : Int32) <<< ((4 : Int32) &&& 31)) - 1 = nI 15 := by decide
  rw [e, nI_clamp (by omega)]
  refine ⟨pk_in 15 64 (by omega), ?_⟩
  have := h (fun s => if s = 15 then 1 else 0)
  rw [rb_E_15] at this
  rw [this]
  exact H s.1 s.2
end
section
/-! the rows' chain is the sum over placements -/
theorem rb_G_S (B : Nat → Nat) (w : Nat → Int32) (sd ps : Bool) (g : Nat → Int32) : rb_G B w sd ps 4 g = rb_Si (fun a b c d => rb_cf B w sd ps 0 a 0 * (rb_cf B w sd ps 1 b (rb_nx a 0) * (rb_cf B w sd ps 2 c (rb_nx b (rb_nx a 0)) * (rb_cf B w sd ps 3 d (rb_nx c (rb_nx b (rb_nx a 0))) * g (rb_nx d (rb_nx c (rb_nx b (rb_nx a 0)))))))) := by
  show rb_5i (fun a => rb_cf B w sd ps 0 a 0 * rb_5i (fun b => rb_cf B w sd ps 1 b (rb_nx a 0) * rb_5i (fun c => rb_cf B w sd ps 2 c (rb_nx b (rb_nx a 0)) * rb_5i (fun d => rb_cf B w sd ps 3 d (rb_nx c (rb_nx b (rb_nx a 0))) * g (rb_nx d (rb_nx c (rb_nx b (rb_nx a 0)))))))) = _
  simp only [rb_5i_mul]
  rfl
def rb_cn (B : Nat → Nat) (w : Nat → Int32) (sd ps : Bool) (g : Nat → Int32) (d : Nat → Nat) : Nat → Int32
  | 0 => g (rb_tk d 4)
  | j + 1 => rb_cf B w sd ps (3 - j) (d (3 - j)) (rb_tk d (3 - j)) * rb_cn B w sd ps g d j
theorem rb_tk_nx {d : Nat → Nat} {y : Nat} (h : d y < 5) : rb_nx (d y) (rb_tk d y) = rb_tk d (y + 1) := by
  show (if d y = 4 then rb_tk d y else rb_tk d y ||| 2 ^ d y) = if d y < 4 then rb_tk d y ||| 2 ^ d y else rb_tk d y
  by_cases h4 : d y = 4
  · rw [if_pos h4, if_neg (by omega)]
  · rw [if_neg h4, if_pos (by omega)]
theorem rb_G_cn (B : Nat → Nat) (w : Nat → Int32) (sd ps : Bool) (g : Nat → Int32) : rb_G B w sd ps 4 g = rb_Si (fun a b c d => rb_cn B w sd ps g (rb_dg a b c d) 4) := by
  rw [rb_G_S]
  refine rb_Si_c (fun a b c d ha hb hc hd => ?_)
  have h := rb_dg_5 ha hb hc hd
  have e0 : rb_nx a 0 = rb_tk (rb_dg a b c d) 1 := rb_tk_nx (d := rb_dg a b c d) (y := 0) (h 0)
  have e1 : rb_nx b (rb_tk (rb_dg a b c d) 1) = rb_tk (rb_dg a b c d) 2 := rb_tk_nx (d := rb_dg a b c d) (y := 1) (h 1)
  have e2 : rb_nx c (rb_tk (rb_dg a b c d) 2) = rb_tk (rb_dg a b c d) 3 := rb_tk_nx (d := rb_dg a b c d) (y := 2) (h 2)
  have e3 : rb_nx d (rb_tk (rb_dg a b c d) 3) = rb_tk (rb_dg a b c d) 4 := rb_tk_nx (d := rb_dg a b c d) (y := 3) (h 3)
  rw [e0, e1, e2, e3]
  rfl
theorem rb_all {P : (Nat → Nat) → Prop} (h : ∀ m, m < 625 → P (rb_d2 m)) {a b c d : Nat} (ha : a < 5) (hb : b < 5) (hc : c < 5) (hd : d < 5) : P (rb_dg a b c d) := by
  have g := h (125 * a + 25 * b + 5 * c + d) (by omega)
  unfold rb_d2 at g
  rw [show (125 * a + 25 * b + 5 * c + d) / 125 = a by omega, show (125 * a + 25 * b + 5 * c + d) / 25 % 5 = b by omega, show (125 * a + 25 * b + 5 * c + d) / 5 % 5 = c by omega, show (125 * a + 25 * b + 5 * c + d) % 5 = d by omega] at g
  exact g
theorem rb_pc_sz0 : ∀ m, m < 625 → (rb_gd (rb_d2 m) 4 = true → rb_pc (rb_tk (rb_d2 m) 4) = rb_sz (rb_d2 m) 4 ∧ (rb_tk (rb_d2 m) 4 = 15 ↔ rb_sz (rb_d2 m) 4 = 4)) := by decide +kernel
theorem rb_pc_sz (a : Nat) (ha : a < 5) (b : Nat) (hb : b < 5) (c : Nat) (hc : c < 5) (d : Nat) (hd : d < 5) : rb_gd (rb_dg a b c d) 4 = true → rb_pc (rb_tk (rb_dg a b c d) 4) = rb_sz (rb_dg a b c d) 4 ∧ (rb_tk (rb_dg a b c d) 4 = 15 ↔ rb_sz (rb_dg a b c d) 4 = 4) :=
  rb_all (P := fun d => rb_gd d 4 = true → rb_pc (rb_tk d 4) = rb_sz d 4 ∧ (rb_tk d 4 = 15 ↔ rb_sz d 4 = 4)) rb_pc_sz0 ha hb hc hd
theorem rb_cn_w {B : Nat → Nat} {w g : Nat → Int32} {d : Nat → Nat} (hd : ∀ y, y < 4 → d y < 5) : ∀ j, j ≤ 4 → rb_gd d (4 - j) = true → rb_on B d (4 - j) = rb_sz d (4 - j) → rb_wo w d (4 - j) * rb_cn B w false true g d j = if rb_gd d 4 = true ∧ rb_on B d 4 = rb_sz d 4 then rb_wo w d 4 * g (rb_tk d 4) else 0 := by
  intro j
  induction j with
  | zero =>
    intro _ hg ho
    rw [if_pos ⟨hg, ho⟩]
    rfl
  | succ j ih =>
    intro hj hg ho
    have e : 4 - j = (4 - (j + 1)) + 1 := by omega
    have er : 3 - j = 4 - (j + 1) := by omega
    have ih' := ih (by omega)
    rw [e] at ih'
    have mo := rb_mono (B := B) (d := d) (n := 4 - (j + 1) + 1) (4 - (4 - (j + 1) + 1))
    rw [show 4 - (j + 1) + 1 + (4 - (4 - (j + 1) + 1)) = 4 by omega] at mo
    show rb_wo w d (4 - (j + 1)) * (rb_cf B w false true (3 - j) (d (3 - j)) (rb_tk d (3 - j)) * rb_cn B w false true g d j) = _
    rw [er]
    have hd' := hd (4 - (j + 1)) (by omega)
    generalize 4 - (j + 1) = r at *
    have gds : rb_gd d (r + 1) = (rb_gd d r && !(decide (d r < 4) && (rb_tk d r).testBit (d r))) := rfl
    have szs : rb_sz d (r + 1) = if d r < 4 then rb_sz d r + 1 else rb_sz d r := rfl
    have ons : rb_on B d (r + 1) = if d r < 4 ∧ (B r).testBit (d r) = true then rb_on B d r + 1 else rb_on B d r := rfl
    have wos : rb_wo w d (r + 1) = if d r < 4 then rb_wo w d r * w (4 * r + d r) else rb_wo w d r := rfl
    unfold rb_cf
    by_cases h4 : d r = 4
    · rw [if_pos h4, if_pos rfl, Int32.one_mul]
      rw [if_neg (by omega)] at szs wos
      rw [if_neg (by omega)] at ons
      have hg1 : rb_gd d (r + 1) = true := by
        rw [gds, hg, h4]
        rfl
      have := ih' hg1 (by omega)
      rw [wos] at this
      exact this
    · have h4' : d r < 4 := by omega
      rw [if_neg h4]
      rw [if_pos h4'] at szs wos
      by_cases hf : rb_ft B r (d r) (rb_tk d r) = true
      · rw [if_pos hf]
        unfold rb_ft at hf
        rw [Bool.and_eq_true, Bool.not_eq_true'] at hf
        rw [if_pos ⟨h4', hf.1⟩] at ons
        have hg1 : rb_gd d (r + 1) = true := by
          rw [gds, hg, hf.2]
          simp
        have := ih' hg1 (by omega)
        rw [wos] at this
        rw [← this, ← Int32.mul_assoc]
        unfold rb_sg
        rw [if_neg (fun z => absurd z.1 (by decide))]
      · rw [if_neg hf, if_neg, Int32.zero_mul, Int32.mul_zero]
        intro z
        apply hf
        unfold rb_ft
        rw [Bool.and_eq_true, Bool.not_eq_true']
        have g1 := mo.2.2 z.1
        rw [gds, Bool.and_eq_true] at g1
        constructor
        · by_cases hb : (B r).testBit (d r) = true
          · exact hb
          · rw [if_neg (fun z => hb z.2)] at ons
            omega
        · have g2 := g1.2
          rw [decide_eq_true h4', Bool.true_and, Bool.not_eq_true'] at g2
          exact g2
/-- sum: what the component answers is the law's sum -/
theorem rb_sum_S (B : Nat → Nat) (w : Nat → Int32) (k : Nat) : rb_G B w false true 4 (fun s => if rb_pc s = k then 1 else 0) = rb_Si (fun a b c d => if rb_gd (rb_dg a b c d) 4 = true ∧ rb_on B (rb_dg a b c d) 4 = rb_sz (rb_dg a b c d) 4 ∧ rb_sz (rb_dg a b c d) 4 = k then rb_wo w (rb_dg a b c d) 4 else 0) := by
  rw [rb_G_cn]
  refine rb_Si_c (fun a b c d ha hb hc hd => ?_)
  have h := rb_cn_w (B := B) (w := w) (g := fun s => if rb_pc s = k then 1 else 0) (d := rb_dg a b c d) (fun y _ => rb_dg_5 ha hb hc hd y) 4 (by omega) rfl rfl
  have h' : 1 * rb_cn B w false true (fun s => if rb_pc s = k then 1 else 0) (rb_dg a b c d) 4 = _ := h
  rw [Int32.one_mul] at h'
  rw [h']
  by_cases hg : rb_gd (rb_dg a b c d) 4 = true ∧ rb_on B (rb_dg a b c d) 4 = rb_sz (rb_dg a b c d) 4
  · rw [if_pos hg, (rb_pc_sz a ha b hb c hc d hd hg.1).1]
    by_cases hk : rb_sz (rb_dg a b c d) 4 = k
    · rw [if_pos hk, if_pos ⟨hg.1, hg.2, hk⟩, Int32.mul_one]
    · rw [if_neg hk, if_neg (fun z => hk z.2.2), Int32.mul_zero]
  · rw [if_neg hg, if_neg (fun z => hg ⟨z.1, z.2.1⟩)]
/-! signs -/
theorem rb_iv_1 (d : Nat → Nat) (c : Nat) (s : Int32) (n : Nat) : rb_iv d c s n = s * rb_iv d c 1 n := by
  induction n with
  | zero => exact (Int32.mul_one s).symm
  | succ n ih =>
    show (if d n ≤ c then rb_iv d c s n else -rb_iv d c s n) = s * (if d n ≤ c then rb_iv d c 1 n else -rb_iv d c 1 n)
    by_cases h : d n ≤ c
    · rw [if_pos h, if_pos h, ih]
    · rw [if_neg h, if_neg h, ih, Int32.mul_neg]
theorem rb_iv_c0 : ∀ m, m < 625 → ∀ r, r < 4 → rb_gd (rb_d2 m) (r + 1) = true → rb_sz (rb_d2 m) (r + 1) = r + 1 → rb_iv (rb_d2 m) (rb_d2 m r) 1 r = if rb_pc (rb_tk (rb_d2 m) r / 2 ^ rb_d2 m r) % 2 = 1 then -1 else 1 := by decide +kernel
theorem rb_iv_c (a : Nat) (ha : a < 5) (b : Nat) (hb : b < 5) (c : Nat) (hc : c < 5) (d : Nat) (hd : d < 5) : ∀ r, r < 4 → rb_gd (rb_dg a b c d) (r + 1) = true → rb_sz (rb_dg a b c d) (r + 1) = r + 1 → rb_iv (rb_dg a b c d) (rb_dg a b c d r) 1 r = if rb_pc (rb_tk (rb_dg a b c d) r / 2 ^ rb_dg a b c d r) % 2 = 1 then -1 else 1 :=
  rb_all (P := fun d => ∀ r, r < 4 → rb_gd d (r + 1) = true → rb_sz d (r + 1) = r + 1 → rb_iv d (d r) 1 r = if rb_pc (rb_tk d r / 2 ^ d r) % 2 = 1 then -1 else 1) rb_iv_c0 ha hb hc hd
theorem rb_sz_le (d : Nat → Nat) (n : Nat) : rb_sz d n ≤ n := by
  induction n with
  | zero => exact Nat.le_refl _
  | succ n ih =>
    show (if d n < 4 then rb_sz d n + 1 else rb_sz d n) ≤ n + 1
    split <;> omega
theorem rb_sz_up (d : Nat → Nat) (n m : Nat) : rb_sz d (n + m) ≤ rb_sz d n + m := by
  induction m with
  | zero => exact Nat.le_refl _
  | succ m ih =>
    show (if d (n + m) < 4 then rb_sz d (n + m) + 1 else rb_sz d (n + m)) ≤ rb_sz d n + (m + 1)
    split <;> omega
theorem rb_cn_s {B : Nat → Nat} {w g : Nat → Int32} {a b c e : Nat} (ha : a < 5) (hb : b < 5) (hc : c < 5) (he : e < 5) : ∀ j, j ≤ 4 → rb_gd (rb_dg a b c e) (4 - j) = true → rb_on B (rb_dg a b c e) (4 - j) = rb_sz (rb_dg a b c e) (4 - j) → rb_sz (rb_dg a b c e) (4 - j) = 4 - j →
    rb_sn (rb_dg a b c e) (4 - j) * rb_wo w (rb_dg a b c e) (4 - j) * rb_cn B w true false g (rb_dg a b c e) j = if rb_gd (rb_dg a b c e) 4 = true ∧ rb_on B (rb_dg a b c e) 4 = rb_sz (rb_dg a b c e) 4 ∧ rb_sz (rb_dg a b c e) 4 = 4 then rb_sn (rb_dg a b c e) 4 * rb_wo w (rb_dg a b c e) 4 * g (rb_tk (rb_dg a b c e) 4) else 0 := by
  have iv := rb_iv_c a ha b hb c hc e he
  have hd := rb_dg_5 ha hb hc he
  generalize rb_dg a b c e = d at *
  intro j
  induction j with
  | zero =>
    intro _ hg ho hz
    rw [if_pos ⟨hg, ho, hz⟩]
    rfl
  | succ j ih =>
    intro hj hg ho hz
    have e : 4 - j = (4 - (j + 1)) + 1 := by omega
    have er : 3 - j = 4 - (j + 1) := by omega
    have ih' := ih (by omega)
    rw [e] at ih'
    have mo := rb_mono (B := B) (d := d) (n := 4 - (j + 1) + 1) (4 - (4 - (j + 1) + 1))
    have up := rb_sz_up d (4 - (j + 1) + 1) (4 - (4 - (j + 1) + 1))
    rw [show 4 - (j + 1) + 1 + (4 - (4 - (j + 1) + 1)) = 4 by omega] at mo up
    show rb_sn d (4 - (j + 1)) * rb_wo w d (4 - (j + 1)) * (rb_cf B w true false (3 - j) (d (3 - j)) (rb_tk d (3 - j)) * rb_cn B w true false g d j) = _
    rw [er]
    have hd' := hd (4 - (j + 1))
    have hr4 : 4 - (j + 1) < 4 := by omega
    have iv' := iv (4 - (j + 1)) hr4
    generalize 4 - (j + 1) = r at *
    have gds : rb_gd d (r + 1) = (rb_gd d r && !(decide (d r < 4) && (rb_tk d r).testBit (d r))) := rfl
    have szs : rb_sz d (r + 1) = if d r < 4 then rb_sz d r + 1 else rb_sz d r := rfl
    have ons : rb_on B d (r + 1) = if d r < 4 ∧ (B r).testBit (d r) = true then rb_on B d r + 1 else rb_on B d r := rfl
    have wos : rb_wo w d (r + 1) = if d r < 4 then rb_wo w d r * w (4 * r + d r) else rb_wo w d r := rfl
    have sns : rb_sn d (r + 1) = rb_iv d (d r) (rb_sn d r) r := rfl
    unfold rb_cf
    by_cases h4 : d r = 4
    · rw [if_pos h4, if_neg (by decide), Int32.zero_mul, Int32.mul_zero, if_neg]
      intro z
      rw [if_neg (by omega)] at szs
      omega
    · have h4' : d r < 4 := by omega
      rw [if_neg h4]
      rw [if_pos h4'] at szs wos
      by_cases hf : rb_ft B r (d r) (rb_tk d r) = true
      · rw [if_pos hf]
        unfold rb_ft at hf
        rw [Bool.and_eq_true, Bool.not_eq_true'] at hf
        rw [if_pos ⟨h4', hf.1⟩] at ons
        have hg1 : rb_gd d (r + 1) = true := by
          rw [gds, hg, hf.2]
          simp
        have := ih' hg1 (by omega) (by omega)
        rw [wos, sns, rb_iv_1, iv' hg1 (by omega)] at this
        rw [← this]
        unfold rb_sg
        by_cases hp : rb_pc (rb_tk d r / 2 ^ d r) % 2 = 1
        · rw [if_pos ⟨rfl, hp⟩, if_pos hp, Int32.mul_neg, Int32.mul_one]
          simp only [Int32.neg_mul, Int32.mul_neg]
          congr 1
          ac_rfl
        · rw [if_neg (fun z => hp z.2), if_neg hp, Int32.mul_one]
          ac_rfl
      · rw [if_neg hf, if_neg, Int32.zero_mul, Int32.mul_zero]
        intro z
        apply hf
        unfold rb_ft
        rw [Bool.and_eq_true, Bool.not_eq_true']
        have g1 := mo.2.2 z.1
        rw [gds, Bool.and_eq_true] at g1
        constructor
        · by_cases hb : (B r).testBit (d r) = true
          · exact hb
          · rw [if_neg (fun z => hb z.2)] at ons
            omega
        · have g2 := g1.2
          rw [decide_eq_true h4', Bool.true_and, Bool.not_eq_true'] at g2
          exact g2
/-- signedSum: what the component answers is the law's sum -/
theorem rb_signed_S (B : Nat → Nat) (w : Nat → Int32) : rb_G B w true false 4 (fun s => if s = 15 then 1 else 0) = rb_Si (fun a b c d => if rb_gd (rb_dg a b c d) 4 = true ∧ rb_on B (rb_dg a b c d) 4 = rb_sz (rb_dg a b c d) 4 ∧ rb_sz (rb_dg a b c d) 4 = 4 then rb_sn (rb_dg a b c d) 4 * rb_wo w (rb_dg a b c d) 4 else 0) := by
  rw [rb_G_cn]
  refine rb_Si_c (fun a b c d ha hb hc hd => ?_)
  have h := rb_cn_s (B := B) (w := w) (g := fun s => if s = 15 then 1 else 0) ha hb hc hd 4 (by omega) rfl rfl rfl
  have h' : 1 * 1 * rb_cn B w true false (fun s => if s = 15 then 1 else 0) (rb_dg a b c d) 4 = _ := h
  rw [Int32.one_mul, Int32.one_mul] at h'
  rw [h']
  by_cases hg : rb_gd (rb_dg a b c d) 4 = true ∧ rb_on B (rb_dg a b c d) 4 = rb_sz (rb_dg a b c d) 4 ∧ rb_sz (rb_dg a b c d) 4 = 4
  · rw [if_pos hg, if_pos hg, if_pos ((rb_pc_sz a ha b hb c hc d hd hg.1).2.mpr hg.2.2), Int32.mul_one]
  · rw [if_neg hg, if_neg hg]
end
section
/-! hits: pairs of a placement and a full placement that holds it -/
def rb_fa : Nat → Nat
  | 0 => 1
  | n + 1 => rb_fa n * (n + 1)
def rb_ch : Nat → Nat → Nat
  | _, 0 => 1
  | 0, _ + 1 => 0
  | n + 1, k + 1 => rb_ch n k + rb_ch n (k + 1)
def rb_c4 (a b c d : Nat) : Nat := rb_5 (fun x => if (a = 4 ∨ a = x) ∧ x < 4 then rb_5 (fun y => if (b = 4 ∨ b = y) ∧ y < 4 ∧ y ≠ x then rb_5 (fun z => if (c = 4 ∨ c = z) ∧ z < 4 ∧ z ≠ x ∧ z ≠ y then rb_5 (fun w => if (d = 4 ∨ d = w) ∧ w < 4 ∧ w ≠ x ∧ w ≠ y ∧ w ≠ z then 1 else 0) else 0) else 0) else 0)
theorem rb_c4_0 : ∀ m, m < 625 → rb_gd (rb_d2 m) 4 = true → rb_c4 (rb_d2 m 0) (rb_d2 m 1) (rb_d2 m 2) (rb_d2 m 3) = rb_fa (4 - rb_sz (rb_d2 m) 4) := by decide +kernel
theorem rb_5_if {p : Prop} [Decidable p] (f : Nat → Nat) : (if p then rb_5 f else 0) = rb_5 (fun c => if p then f c else 0) := by
  by_cases h : p
  · simp only [if_pos h]
  · simp only [if_neg h]
    rfl
/-- 1 where the placement lies in the full placement x y z w -/
def rb_kk (a b c d x y z w : Nat) : Nat := if (a = 4 ∨ a = x) ∧ x < 4 then (if (b = 4 ∨ b = y) ∧ y < 4 ∧ y ≠ x then (if (c = 4 ∨ c = z) ∧ z < 4 ∧ z ≠ x ∧ z ≠ y then (if (d = 4 ∨ d = w) ∧ w < 4 ∧ w ≠ x ∧ w ≠ y ∧ w ≠ z then 1 else 0) else 0) else 0) else 0
theorem rb_c4_S (a b c d : Nat) : rb_c4 a b c d = rb_S (fun x y z w => rb_kk a b c d x y z w) := by
  unfold rb_c4 rb_S rb_kk
  simp only [rb_5_if]
theorem rb_fu0 : ∀ m, m < 625 → ((rb_gd (rb_d2 m) 4 = true ∧ rb_sz (rb_d2 m) 4 = 4) ↔ (rb_d2 m 0 < 4 ∧ rb_d2 m 1 < 4 ∧ rb_d2 m 1 ≠ rb_d2 m 0 ∧ rb_d2 m 2 < 4 ∧ rb_d2 m 2 ≠ rb_d2 m 0 ∧ rb_d2 m 2 ≠ rb_d2 m 1 ∧ rb_d2 m 3 < 4 ∧ rb_d2 m 3 ≠ rb_d2 m 0 ∧ rb_d2 m 3 ≠ rb_d2 m 1 ∧ rb_d2 m 3 ≠ rb_d2 m 2)) := by decide +kernel
theorem rb_on_c {B B' d : Nat → Nat} {n : Nat} (h : ∀ y, y < n → d y < 4 → (B y).testBit (d y) = (B' y).testBit (d y)) : rb_on B d n = rb_on B' d n := by
  induction n with
  | zero => rfl
  | succ n ih =>
    show (if d n < 4 ∧ (B n).testBit (d n) = true then rb_on B d n + 1 else rb_on B d n) = (if d n < 4 ∧ (B' n).testBit (d n) = true then rb_on B' d n + 1 else rb_on B' d n)
    rw [ih (fun y hy => h y (by omega))]
    by_cases h4 : d n < 4
    · rw [h n (by omega) h4]
    · rw [if_neg (fun z => h4 z.1), if_neg (fun z => h4 z.1)]
def rb_bv (v : Nat) : Nat → Nat := fun r => if v.testBit r = true then 15 else 0
def rb_16 (h : Nat → Nat → Nat → Nat → Nat) (x y z w : Nat) : Nat :=
  (h x y z w + h x y z 4 + (h x y 4 w + h x y 4 4)) + (h x 4 z w + h x 4 z 4 + (h x 4 4 w + h x 4 4 4)) + ((h 4 y z w + h 4 y z 4 + (h 4 y 4 w + h 4 y 4 4)) + (h 4 4 z w + h 4 4 z 4 + (h 4 4 4 w + h 4 4 4 4)))
theorem rb_16_0 : ∀ m, m < 625 → (rb_gd (rb_d2 m) 4 = true ∧ rb_sz (rb_d2 m) 4 = 4) → ∀ v, v < 16 → ∀ j, j < 5 → rb_16 (fun a b c d => rb_F (rb_bv v) j (rb_dg a b c d)) (rb_d2 m 0) (rb_d2 m 1) (rb_d2 m 2) (rb_d2 m 3) = rb_ch (rb_on (rb_bv v) (rb_d2 m) 4) j := by decide +kernel
theorem rb_5_pick {x : Nat} (hx : x < 4) (h : Nat → Nat) : rb_5 (fun a => if a = 4 ∨ a = x then h a else 0) = h x + h 4 := by
  have h' : x = 0 ∨ x = 1 ∨ x = 2 ∨ x = 3 := by omega
  rcases h' with rfl | rfl | rfl | rfl <;> simp [rb_5]
theorem rb_S_pick {x y z w : Nat} (hx : x < 4) (hy : y < 4) (hz : z < 4) (hw : w < 4) (h : Nat → Nat → Nat → Nat → Nat) : rb_S (fun a b c d => if a = 4 ∨ a = x then (if b = 4 ∨ b = y then (if c = 4 ∨ c = z then (if d = 4 ∨ d = w then h a b c d else 0) else 0) else 0) else 0) = rb_16 h x y z w := by
  unfold rb_S
  simp only [← rb_5_if]
  rw [rb_5_pick hx]
  simp only [rb_5_pick hy, rb_5_pick hz, rb_5_pick hw]
  rfl
def rb_fl (d : Nat → Nat) : Prop := rb_gd d 4 = true ∧ rb_sz d 4 = 4
theorem rb_bits (p q r s : Bool) : ∃ v, v < 16 ∧ v.testBit 0 = p ∧ v.testBit 1 = q ∧ v.testBit 2 = r ∧ v.testBit 3 = s := by
  cases p <;> cases q <;> cases r <;> cases s <;> decide +kernel
theorem rb_hit_in {B : Nat → Nat} {j x y z w : Nat} (hj : j < 5) (hx : x < 5) (hy : y < 5) (hz : z < 5) (hw : w < 5) : rb_S (fun a b c d => rb_F B j (rb_dg a b c d) * rb_kk a b c d x y z w) = if rb_gd (rb_dg x y z w) 4 = true ∧ rb_sz (rb_dg x y z w) 4 = 4 then rb_ch (rb_on B (rb_dg x y z w) 4) j else 0 := by
  have fu := rb_all (P := fun d => (rb_gd d 4 = true ∧ rb_sz d 4 = 4) ↔ (d 0 < 4 ∧ d 1 < 4 ∧ d 1 ≠ d 0 ∧ d 2 < 4 ∧ d 2 ≠ d 0 ∧ d 2 ≠ d 1 ∧ d 3 < 4 ∧ d 3 ≠ d 0 ∧ d 3 ≠ d 1 ∧ d 3 ≠ d 2)) rb_fu0 hx hy hz hw
  have fu' : (rb_gd (rb_dg x y z w) 4 = true ∧ rb_sz (rb_dg x y z w) 4 = 4) ↔ (x < 4 ∧ y < 4 ∧ y ≠ x ∧ z < 4 ∧ z ≠ x ∧ z ≠ y ∧ w < 4 ∧ w ≠ x ∧ w ≠ y ∧ w ≠ z) := fu
  by_cases hf : rb_gd (rb_dg x y z w) 4 = true ∧ rb_sz (rb_dg x y z w) 4 = 4
  · rw [if_pos hf]
    obtain ⟨h0, h1, h2, h3, h4, h5, h6, h7, h8, h9⟩ := fu'.mp hf
    obtain ⟨v, hv, v0, v1, v2, v3⟩ := rb_bits ((B 0).testBit x) ((B 1).testBit y) ((B 2).testBit z) ((B 3).testBit w)
    have cl := rb_all (P := fun d => (rb_gd d 4 = true ∧ rb_sz d 4 = 4) → ∀ v, v < 16 → ∀ j, j < 5 → rb_16 (fun a b c e => rb_F (rb_bv v) j (rb_dg a b c e)) (d 0) (d 1) (d 2) (d 3) = rb_ch (rb_on (rb_bv v) d 4) j) rb_16_0 hx hy hz hw hf v hv j hj
    have bv : ∀ r e, e < 4 → (rb_bv v r).testBit e = v.testBit r := by
      intro r e he
      unfold rb_bv
      have he' : e = 0 ∨ e = 1 ∨ e = 2 ∨ e = 3 := by omega
      by_cases hb : v.testBit r = true
      · rw [if_pos hb, hb]
        rcases he' with rfl | rfl | rfl | rfl <;> rfl
      · rw [if_neg hb, Nat.zero_testBit]
        simp only [Bool.not_eq_true] at hb
        exact hb.symm
    have eqs : ∀ a b c d, (a = 4 ∨ a = x) → (b = 4 ∨ b = y) → (c = 4 ∨ c = z) → (d = 4 ∨ d = w) → rb_on B (rb_dg a b c d) 4 = rb_on (rb_bv v) (rb_dg a b c d) 4 := by
      intro a b c d ha hb hc hd
      refine rb_on_c (fun y' hy' h4 => ?_)
      rw [bv _ _ h4]
      have hy'' : y' = 0 ∨ y' = 1 ∨ y' = 2 ∨ y' = 3 := by omega
      rcases hy'' with rfl | rfl | rfl | rfl
      · have e : a = x := by
          have : a < 4 := h4
          omega
        rw [v0, ← e]
        rfl
      · have e : b = y := by
          have : b < 4 := h4
          omega
        rw [v1, ← e]
        rfl
      · have e : c = z := by
          have : c < 4 := h4
          omega
        rw [v2, ← e]
        rfl
      · have e : d = w := by
          have : d < 4 := h4
          omega
        rw [v3, ← e]
        rfl
    rw [eqs x y z w (Or.inr rfl) (Or.inr rfl) (Or.inr rfl) (Or.inr rfl)]
    refine Eq.trans ?_ cl
    show _ = rb_16 (fun a b c e => rb_F (rb_bv v) j (rb_dg a b c e)) x y z w
    rw [← rb_S_pick h0 h1 h3 h6]
    refine rb_S_c (fun a b c d _ _ _ _ => ?_)
    unfold rb_kk
    by_cases ha : a = 4 ∨ a = x
    · rw [if_pos ⟨ha, h0⟩, if_pos ha]
      by_cases hb : b = 4 ∨ b = y
      · rw [if_pos ⟨hb, h1, h2⟩, if_pos hb]
        by_cases hc : c = 4 ∨ c = z
        · rw [if_pos ⟨hc, h3, h4, h5⟩, if_pos hc]
          by_cases hd : d = 4 ∨ d = w
          · rw [if_pos ⟨hd, h6, h7, h8, h9⟩, if_pos hd, Nat.mul_one]
            unfold rb_F
            rw [eqs a b c d ha hb hc hd]
          · rw [if_neg (fun z => hd z.1), if_neg hd, Nat.mul_zero]
        · rw [if_neg (fun z => hc z.1), if_neg hc, Nat.mul_zero]
      · rw [if_neg (fun z => hb z.1), if_neg hb, Nat.mul_zero]
    · rw [if_neg (fun z => ha z.1), if_neg ha, Nat.mul_zero]
  · rw [if_neg hf]
    have z0 : ∀ a b c d, rb_kk a b c d x y z w = 0 := by
      intro a b c d
      unfold rb_kk
      by_cases q0 : (a = 4 ∨ a = x) ∧ x < 4
      · rw [if_pos q0]
        by_cases q1 : (b = 4 ∨ b = y) ∧ y < 4 ∧ y ≠ x
        · rw [if_pos q1]
          by_cases q2 : (c = 4 ∨ c = z) ∧ z < 4 ∧ z ≠ x ∧ z ≠ y
          · rw [if_pos q2]
            by_cases q3 : (d = 4 ∨ d = w) ∧ w < 4 ∧ w ≠ x ∧ w ≠ y ∧ w ≠ z
            · exact absurd (fu'.mpr ⟨q0.2, q1.2.1, q1.2.2, q2.2.1, q2.2.2.1, q2.2.2.2, q3.2.1, q3.2.2.1, q3.2.2.2.1, q3.2.2.2.2⟩) hf
            · rw [if_neg q3]
          · rw [if_neg q2]
        · rw [if_neg q1]
      · rw [if_neg q0]
    rw [rb_S_c (G := fun _ _ _ _ => 0) (fun a b c d _ _ _ _ => by rw [z0, Nat.mul_zero])]
    rfl
/-- full placements with o cells on the board -/
def rb_N (B : Nat → Nat) (o : Nat) : Nat := rb_S (fun x y z w => if rb_gd (rb_dg x y z w) 4 = true ∧ rb_sz (rb_dg x y z w) 4 = 4 ∧ rb_on B (rb_dg x y z w) 4 = o then 1 else 0)
theorem rb_hit_T {B : Nat → Nat} {j : Nat} (hj : j < 5) : rb_P B 4 j 0 * rb_fa (4 - j) = rb_S (fun x y z w => if rb_gd (rb_dg x y z w) 4 = true ∧ rb_sz (rb_dg x y z w) 4 = 4 then rb_ch (rb_on B (rb_dg x y z w) 4) j else 0) := by
  rw [rb_P_S, rb_S_mul, ← rb_S_c (fun x y z w hx hy hz hw => rb_hit_in (B := B) hj hx hy hz hw), rb_S_S]
  refine rb_S_c (fun a b c d ha hb hc hd => ?_)
  have e : rb_S (fun x y z w => rb_F B j (rb_dg a b c d) * rb_kk a b c d x y z w) = rb_c4 a b c d * rb_F B j (rb_dg a b c d) := by
    rw [rb_c4_S, rb_S_mul]
    exact rb_S_c (fun x y z w _ _ _ _ => Nat.mul_comm _ _)
  rw [e]
  unfold rb_F
  by_cases hF : rb_gd (rb_dg a b c d) 4 = true ∧ rb_on B (rb_dg a b c d) 4 = rb_sz (rb_dg a b c d) 4 ∧ rb_sz (rb_dg a b c d) 4 = j
  · rw [if_pos hF, Nat.one_mul, Nat.mul_one]
    have cl := rb_all (P := fun d => rb_gd d 4 = true → rb_c4 (d 0) (d 1) (d 2) (d 3) = rb_fa (4 - rb_sz d 4)) rb_c4_0 ha hb hc hd hF.1
    rw [hF.2.2] at cl
    exact cl.symm
  · rw [if_neg hF, Nat.zero_mul, Nat.mul_zero]
theorem rb_hit_N {B : Nat → Nat} {j : Nat} (hj : j < 5) : rb_P B 4 j 0 * rb_fa (4 - j) = rb_N B 0 * rb_ch 0 j + rb_N B 1 * rb_ch 1 j + rb_N B 2 * rb_ch 2 j + rb_N B 3 * rb_ch 3 j + rb_N B 4 * rb_ch 4 j := by
  rw [rb_hit_T hj]
  unfold rb_N
  rw [rb_S_mul, rb_S_mul, rb_S_mul, rb_S_mul, rb_S_mul, ← rb_S_add, ← rb_S_add, ← rb_S_add, ← rb_S_add]
  refine rb_S_c (fun x y z w _ _ _ _ => ?_)
  have le : rb_on B (rb_dg x y z w) 4 ≤ 4 := Nat.le_trans (rb_on_s 4).1 (rb_sz_le _ 4)
  generalize rb_on B (rb_dg x y z w) 4 = o at *
  by_cases hf : rb_gd (rb_dg x y z w) 4 = true ∧ rb_sz (rb_dg x y z w) 4 = 4
  · rw [if_pos hf]
    have g : ∀ i, (if rb_gd (rb_dg x y z w) 4 = true ∧ rb_sz (rb_dg x y z w) 4 = 4 ∧ o = i then 1 else 0) = if o = i then 1 else 0 := by
      intro i
      by_cases hi : o = i
      · rw [if_pos hi, if_pos ⟨hf.1, hf.2, hi⟩]
      · rw [if_neg hi, if_neg (fun z => hi z.2.2)]
    rw [g, g, g, g, g]
    have ho : o = 0 ∨ o = 1 ∨ o = 2 ∨ o = 3 ∨ o = 4 := by omega
    rcases ho with rfl | rfl | rfl | rfl | rfl <;> simp
  · rw [if_neg hf]
    have g : ∀ i, (if rb_gd (rb_dg x y z w) 4 = true ∧ rb_sz (rb_dg x y z w) 4 = 4 ∧ o = i then 1 else 0) = 0 := by
      intro i
      rw [if_neg (fun z => hf ⟨z.1, z.2.1⟩)]
    rw [g, g, g, g, g]
    omega
/-- the signed sum that the component makes -/
def rb_hT (B : Nat → Nat) (k j : Nat) : Int32 := nI (rb_P B 4 j 0) * nI (rb_fa (4 - j)) * nI (rb_ch j k)
def rb_ha (B : Nat → Nat) (k : Nat) : Nat → Int32
  | 0 => 0
  | i + 1 => if i % 2 = 0 then rb_ha B k i + rb_hT B k (k + i) else rb_ha B k i - rb_hT B k (k + i)
theorem rb_hit {B : Nat → Nat} {k : Nat} (hk : k ≤ 4) : rb_ha B k (5 - k) = nI (rb_N B k) := by
  have T : ∀ j, j < 5 → rb_hT B k j = (nI (rb_N B 0) * nI (rb_ch 0 j) + nI (rb_N B 1) * nI (rb_ch 1 j) + nI (rb_N B 2) * nI (rb_ch 2 j) + nI (rb_N B 3) * nI (rb_ch 3 j) + nI (rb_N B 4) * nI (rb_ch 4 j)) * nI (rb_ch j k) := by
    intro j hj
    unfold rb_hT
    rw [pk_mul, rb_hit_N hj]
    simp only [pk_mul, nI_add]
  have hk' : k = 0 ∨ k = 1 ∨ k = 2 ∨ k = 3 ∨ k = 4 := by omega
  rcases hk' with rfl | rfl | rfl | rfl | rfl
  · show 0 + rb_hT B 0 0 - rb_hT B 0 1 + rb_hT B 0 2 - rb_hT B 0 3 + rb_hT B 0 4 = nI (rb_N B 0)
    rw [T 0 (by omega), T 1 (by omega), T 2 (by omega), T 3 (by omega), T 4 (by omega)]
    simp only [show nI (rb_ch 0 0) = 1 from rfl, show nI (rb_ch 0 1) = 0 from rfl, show nI (rb_ch 0 2) = 0 from rfl, show nI (rb_ch 0 3) = 0 from rfl, show nI (rb_ch 0 4) = 0 from rfl, show nI (rb_ch 1 0) = 1 from rfl, show nI (rb_ch 1 1) = 1 from rfl, show nI (rb_ch 1 2) = 0 from rfl, show nI (rb_ch 1 3) = 0 from rfl, show nI (rb_ch 1 4) = 0 from rfl, show nI (rb_ch 2 0) = 1 from rfl, show nI (rb_ch 2 1) = 2 from rfl, show nI (rb_ch 2 2) = 1 from rfl, show nI (rb_ch 2 3) = 0 from rfl, show nI (rb_ch 2 4) = 0 from rfl, show nI (rb_ch 3 0) = 1 from rfl, show nI (rb_ch 3 1) = 3 from rfl, show nI (rb_ch 3 2) = 3 from rfl, show nI (rb_ch 3 3) = 1 from rfl, show nI (rb_ch 3 4) = 0 from rfl, show nI (rb_ch 4 0) = 1 from rfl, show nI (rb_ch 4 1) = 4 from rfl, show nI (rb_ch 4 2) = 6 from rfl, show nI (rb_ch 4 3) = 4 from rfl, show nI (rb_ch 4 4) = 1 from rfl]
    grind
  · show 0 + rb_hT B 1 1 - rb_hT B 1 2 + rb_hT B 1 3 - rb_hT B 1 4 = nI (rb_N B 1)
    rw [T 1 (by omega), T 2 (by omega), T 3 (by omega), T 4 (by omega)]
    simp only [show nI (rb_ch 0 0) = 1 from rfl, show nI (rb_ch 0 1) = 0 from rfl, show nI (rb_ch 0 2) = 0 from rfl, show nI (rb_ch 0 3) = 0 from rfl, show nI (rb_ch 0 4) = 0 from rfl, show nI (rb_ch 1 0) = 1 from rfl, show nI (rb_ch 1 1) = 1 from rfl, show nI (rb_ch 1 2) = 0 from rfl, show nI (rb_ch 1 3) = 0 from rfl, show nI (rb_ch 1 4) = 0 from rfl, show nI (rb_ch 2 0) = 1 from rfl, show nI (rb_ch 2 1) = 2 from rfl, show nI (rb_ch 2 2) = 1 from rfl, show nI (rb_ch 2 3) = 0 from rfl, show nI (rb_ch 2 4) = 0 from rfl, show nI (rb_ch 3 0) = 1 from rfl, show nI (rb_ch 3 1) = 3 from rfl, show nI (rb_ch 3 2) = 3 from rfl, show nI (rb_ch 3 3) = 1 from rfl, show nI (rb_ch 3 4) = 0 from rfl, show nI (rb_ch 4 0) = 1 from rfl, show nI (rb_ch 4 1) = 4 from rfl, show nI (rb_ch 4 2) = 6 from rfl, show nI (rb_ch 4 3) = 4 from rfl, show nI (rb_ch 4 4) = 1 from rfl]
    grind
  · show 0 + rb_hT B 2 2 - rb_hT B 2 3 + rb_hT B 2 4 = nI (rb_N B 2)
    rw [T 2 (by omega), T 3 (by omega), T 4 (by omega)]
    simp only [show nI (rb_ch 0 0) = 1 from rfl, show nI (rb_ch 0 1) = 0 from rfl, show nI (rb_ch 0 2) = 0 from rfl, show nI (rb_ch 0 3) = 0 from rfl, show nI (rb_ch 0 4) = 0 from rfl, show nI (rb_ch 1 0) = 1 from rfl, show nI (rb_ch 1 1) = 1 from rfl, show nI (rb_ch 1 2) = 0 from rfl, show nI (rb_ch 1 3) = 0 from rfl, show nI (rb_ch 1 4) = 0 from rfl, show nI (rb_ch 2 0) = 1 from rfl, show nI (rb_ch 2 1) = 2 from rfl, show nI (rb_ch 2 2) = 1 from rfl, show nI (rb_ch 2 3) = 0 from rfl, show nI (rb_ch 2 4) = 0 from rfl, show nI (rb_ch 3 0) = 1 from rfl, show nI (rb_ch 3 1) = 3 from rfl, show nI (rb_ch 3 2) = 3 from rfl, show nI (rb_ch 3 3) = 1 from rfl, show nI (rb_ch 3 4) = 0 from rfl, show nI (rb_ch 4 0) = 1 from rfl, show nI (rb_ch 4 1) = 4 from rfl, show nI (rb_ch 4 2) = 6 from rfl, show nI (rb_ch 4 3) = 4 from rfl, show nI (rb_ch 4 4) = 1 from rfl]
    grind
  · show 0 + rb_hT B 3 3 - rb_hT B 3 4 = nI (rb_N B 3)
    rw [T 3 (by omega), T 4 (by omega)]
    simp only [show nI (rb_ch 0 0) = 1 from rfl, show nI (rb_ch 0 1) = 0 from rfl, show nI (rb_ch 0 2) = 0 from rfl, show nI (rb_ch 0 3) = 0 from rfl, show nI (rb_ch 0 4) = 0 from rfl, show nI (rb_ch 1 0) = 1 from rfl, show nI (rb_ch 1 1) = 1 from rfl, show nI (rb_ch 1 2) = 0 from rfl, show nI (rb_ch 1 3) = 0 from rfl, show nI (rb_ch 1 4) = 0 from rfl, show nI (rb_ch 2 0) = 1 from rfl, show nI (rb_ch 2 1) = 2 from rfl, show nI (rb_ch 2 2) = 1 from rfl, show nI (rb_ch 2 3) = 0 from rfl, show nI (rb_ch 2 4) = 0 from rfl, show nI (rb_ch 3 0) = 1 from rfl, show nI (rb_ch 3 1) = 3 from rfl, show nI (rb_ch 3 2) = 3 from rfl, show nI (rb_ch 3 3) = 1 from rfl, show nI (rb_ch 3 4) = 0 from rfl, show nI (rb_ch 4 0) = 1 from rfl, show nI (rb_ch 4 1) = 4 from rfl, show nI (rb_ch 4 2) = 6 from rfl, show nI (rb_ch 4 3) = 4 from rfl, show nI (rb_ch 4 4) = 1 from rfl]
    grind
  · show 0 + rb_hT B 4 4 = nI (rb_N B 4)
    rw [T 4 (by omega)]
    simp only [show nI (rb_ch 0 0) = 1 from rfl, show nI (rb_ch 0 1) = 0 from rfl, show nI (rb_ch 0 2) = 0 from rfl, show nI (rb_ch 0 3) = 0 from rfl, show nI (rb_ch 0 4) = 0 from rfl, show nI (rb_ch 1 0) = 1 from rfl, show nI (rb_ch 1 1) = 1 from rfl, show nI (rb_ch 1 2) = 0 from rfl, show nI (rb_ch 1 3) = 0 from rfl, show nI (rb_ch 1 4) = 0 from rfl, show nI (rb_ch 2 0) = 1 from rfl, show nI (rb_ch 2 1) = 2 from rfl, show nI (rb_ch 2 2) = 1 from rfl, show nI (rb_ch 2 3) = 0 from rfl, show nI (rb_ch 2 4) = 0 from rfl, show nI (rb_ch 3 0) = 1 from rfl, show nI (rb_ch 3 1) = 3 from rfl, show nI (rb_ch 3 2) = 3 from rfl, show nI (rb_ch 3 3) = 1 from rfl, show nI (rb_ch 3 4) = 0 from rfl, show nI (rb_ch 4 0) = 1 from rfl, show nI (rb_ch 4 1) = 4 from rfl, show nI (rb_ch 4 2) = 6 from rfl, show nI (rb_ch 4 3) = 4 from rfl, show nI (rb_ch 4 4) = 1 from rfl]
    grind
end
section
/-! rooks, hits, through, column -/
theorem rb_rooks {post : Int32 → St2 → Prop} {t : Int32} {a1 a2 a3 a4 a5 a6 a7 a8 a9 a10 a11 : Nat → Int32} {B : Nat → Nat} {k : Nat} (hk : k ≤ 4) (hB : rb_bd B a1) (H : ∀ b3 b4, post (nI (rb_P B 4 k 0)) (4, t, a1, a2, b3, b4, a5, a6, a7, a8, a9, a10, a11)) : wpX_rooks post (4, t, a1, a2, a3, a4, a5, a6, a7, a8, a9, a10, a11) (nI k) := by
  unfold wpX_rooks
  exact br_f (nI_pos (by omega)) (pk_le k 4 (fun _ => br_t rfl (rb_count (by omega) hB H)) (fun z => absurd z (by omega)))
def rb_tf (a : Nat → Int32) : Prop := ∀ i, i ≤ 4 → a i = nI (rb_fa i)
def rb_tc (a : Nat → Int32) : Prop := ∀ i, i ≤ 4 → ∀ j, j ≤ i → a (7 * i + j) = nI (rb_ch i j)
theorem rb_ev : ∀ i, i < 5 → (nI i &&& 1 = 0 ↔ i % 2 = 0) := by decide +kernel
theorem rb_hits {post : Int32 → St2 → Prop} {t : Int32} {a1 a2 a3 a4 a5 a6 a7 a8 a9 a10 a11 : Nat → Int32} {B : Nat → Nat} {k : Nat} (hk : k ≤ 4) (hB : rb_bd B a1) (h7 : rb_tf a7) (h8 : rb_tc a8) (H : ∀ b3 b4, post (nI (rb_N B k)) (4, t, a1, a2, b3, b4, a5, a6, a7, a8, a9, a10, a11)) : wpX_hits post (4, t, a1, a2, a3, a4, a5, a6, a7, a8, a9, a10, a11) (nI k) := by
  unfold wpX_hits
  refine br_f (nI_pos (by omega)) (pk_le k 4 (fun _ => br_t rfl ?_) (fun z => absurd z (by omega)))
  refine pk_loop (σ := (Nat → Int32) × (Nat → Int32)) (fun n i s => wX_hits_14 post (nI k) n (rb_ha B k i) (nI (k + i)) 4 t a1 a2 s.1 s.2 a5 a6 a7 a8 a9 a10 a11) (fun _ _ => True) (5 - k) 0 (a3, a4) (by omega) trivial
    (fun n s _ => pk_lt 4 (k + (5 - k)) (fun _ => ?_) (fun z => absurd z (by omega)))
    (fun n i s hi _ hw => pk_lt 4 (k + i) (fun z => absurd z (by omega)) (fun _ => rb_count (by omega) hB (fun b3 b4 => ?_)))
  · rw [rb_hit hk]
    exact H s.1 s.2
  · have e1 : (4 : Int32) - nI (k + i) = nI (4 - (k + i)) := pk_sub (a := 4) (by omega)
    have e2 : 7 * nI (k + i) + nI k = nI (7 * (k + i) + k) := by
      rw [show (7 : Int32) = nI 7 from rfl, pk_mul, nI_add]
    have e3 : nI (k + i) - nI k = nI i := by
      rw [pk_sub (by omega), show k + i - k = i by omega]
    dsimp only
    rw [e1, e2, e3, nI_clamp (show 4 - (k + i) < 2 ^ 31 by omega), nI_clamp (show 7 * (k + i) + k < 2 ^ 31 by omega), h7 _ (by omega), h8 (k + i) (by omega) k (by omega)]
    have w : wX_hits_14 post (nI k) n (if i % 2 = 0 then rb_ha B k i + rb_hT B k (k + i) else rb_ha B k i - rb_hT B k (k + i)) (nI (k + (i + 1))) 4 t a1 a2 b3 b4 a5 a6 a7 a8 a9 a10 a11 := hw (b3, b4) trivial
    refine ⟨vp_in_nI (by omega) (by omega), vp_in_nI (by omega) (by omega), nm_e (ek_if (rb_ev i (by omega)) (fun z => ?_) (fun z => ?_))⟩
    · rw [if_pos z] at w
      exact nm_e (nm_r (nI_1 (k + i)) w)
    · rw [if_neg z] at w
      exact nm_e (nm_r (nI_1 (k + i)) w)
/-! one cell less -/
theorem rb_cell : ∀ b, b < 16 → ∀ c, c < 4 → (nI b &&& nI (2 ^ c) = 0 ↔ b.testBit c = false) ∧ (b.testBit c = true → (nI b &&& (nI (2 ^ c) ^^^ (-1))).toInt8.toInt32 = nI (b - 2 ^ c) ∧ (nI (b - 2 ^ c) ||| nI (2 ^ c)).toInt8.toInt32 = nI b ∧ b - 2 ^ c < 16 ∧ ∀ e, e < 4 → (b - 2 ^ c).testBit e = (b.testBit e && decide (e ≠ c))) := by decide +kernel
def rb_less (B : Nat → Nat) (r c : Nat) : Nat → Nat := fun y => if y = r then B y - 2 ^ c else B y
def rb_FT (B : Nat → Nat) (k r c : Nat) (d : Nat → Nat) : Nat := if (rb_gd d 4 = true ∧ rb_on B d 4 = rb_sz d 4 ∧ rb_sz d 4 = k) ∧ d r = c then 1 else 0
theorem rb_ow {B d : Nat → Nat} (n : Nat) : rb_on B d n = rb_sz d n ↔ ∀ y, y < n → d y < 4 → (B y).testBit (d y) = true := by
  induction n with
  | zero => exact ⟨fun _ y hy => absurd hy (by omega), fun _ => rfl⟩
  | succ n ih =>
    have szs : rb_sz d (n + 1) = if d n < 4 then rb_sz d n + 1 else rb_sz d n := rfl
    have ons : rb_on B d (n + 1) = if d n < 4 ∧ (B n).testBit (d n) = true then rb_on B d n + 1 else rb_on B d n := rfl
    have le := (rb_on_s (B := B) (d := d) n).1
    constructor
    · intro h
      have hn : d n < 4 → (B n).testBit (d n) = true := by
        intro h4
        by_cases hb : (B n).testBit (d n) = true
        · exact hb
        · rw [if_neg (fun z => hb z.2)] at ons
          rw [if_pos h4] at szs
          omega
      have ho : rb_on B d n = rb_sz d n := by
        by_cases h4 : d n < 4
        · rw [if_pos ⟨h4, hn h4⟩] at ons
          rw [if_pos h4] at szs
          omega
        · rw [if_neg (fun z => h4 z.1)] at ons
          rw [if_neg h4] at szs
          omega
      intro y hy h4
      by_cases e : y = n
      · rw [e] at h4 ⊢
        exact hn h4
      · exact ih.mp ho y (by omega) h4
    · intro h
      have ho := ih.mpr (fun y hy => h y (by omega))
      by_cases h4 : d n < 4
      · rw [if_pos ⟨h4, h n (by omega) h4⟩] at ons
        rw [if_pos h4] at szs
        omega
      · rw [if_neg (fun z => h4 z.1)] at ons
        rw [if_neg h4] at szs
        omega
theorem rb_sz0 {d : Nat → Nat} {n : Nat} (h : rb_sz d n = 0) : ∀ y, y < n → ¬ d y < 4 := by
  induction n with
  | zero => exact fun y hy => absurd hy (by omega)
  | succ n ih =>
    have szs : rb_sz d (n + 1) = if d n < 4 then rb_sz d n + 1 else rb_sz d n := rfl
    intro y hy h4
    by_cases e : d n < 4
    · rw [if_pos e] at szs
      omega
    · rw [if_neg e] at szs
      by_cases e2 : y = n
      · rw [e2] at h4
        exact e h4
      · exact ih (by omega) y (by omega) h4
theorem rb_FT_s {B : Nat → Nat} {k r c : Nat} (hr : r < 4) (hc : c < 4) (hB : ∀ y, y < 4 → B y < 16) (hb : (B r).testBit c = true) (d : Nat → Nat) (hd : ∀ y, d y < 5) : rb_F B k d = rb_F (rb_less B r c) k d + rb_FT B k r c d := by
  have tb : ∀ y, y < 4 → ∀ e, e < 4 → (rb_less B r c y).testBit e = ((B y).testBit e && decide (¬ (y = r ∧ e = c))) := by
    intro y hy e he
    unfold rb_less
    by_cases h : y = r
    · rw [if_pos h, h, (((rb_cell (B r) (hB r hr) c hc).2 hb).2.2.2) e he]
      congr 1
      simp
    · rw [if_neg h]
      simp [h]
  unfold rb_F rb_FT
  by_cases h : rb_gd d 4 = true ∧ rb_on B d 4 = rb_sz d 4 ∧ rb_sz d 4 = k
  · rw [if_pos h]
    have o := (rb_ow (B := B) (d := d) 4).mp h.2.1
    by_cases hc2 : d r = c
    · have n1 : ¬ (rb_gd d 4 = true ∧ rb_on (rb_less B r c) d 4 = rb_sz d 4 ∧ rb_sz d 4 = k) := by
        intro z
        have o2 := (rb_ow (B := rb_less B r c) (d := d) 4).mp z.2.1 r hr (by omega)
        rw [hc2, tb r hr c hc] at o2
        simp at o2
      rw [if_neg n1, if_pos ⟨h, hc2⟩]
    · have p1 : rb_gd d 4 = true ∧ rb_on (rb_less B r c) d 4 = rb_sz d 4 ∧ rb_sz d 4 = k := by
        refine ⟨h.1, (rb_ow 4).mpr (fun y hy h4 => ?_), h.2.2⟩
        rw [tb y hy (d y) h4, o y hy h4]
        have : ¬ (y = r ∧ d y = c) := by
          rintro ⟨rfl, e⟩
          exact hc2 e
        simp [this]
      rw [if_pos p1, if_neg (fun z => hc2 z.2)]
  · have n1 : ¬ (rb_gd d 4 = true ∧ rb_on (rb_less B r c) d 4 = rb_sz d 4 ∧ rb_sz d 4 = k) := by
      intro z
      refine h ⟨z.1, (rb_ow 4).mpr (fun y hy h4 => ?_), z.2.2⟩
      have o2 := (rb_ow (B := rb_less B r c) (d := d) 4).mp z.2.1 y hy h4
      rw [tb y hy (d y) h4, Bool.and_eq_true] at o2
      exact o2.1
    rw [if_neg h, if_neg n1, if_neg (fun z => h z.1)]
def rb_th (B : Nat → Nat) (k r c : Nat) : Nat := rb_S (fun x y z w => rb_FT B k r c (rb_dg x y z w))
theorem rb_th_s {B : Nat → Nat} {k r c : Nat} (hr : r < 4) (hc : c < 4) (hB : ∀ y, y < 4 → B y < 16) (hb : (B r).testBit c = true) : rb_P B 4 k 0 = rb_P (rb_less B r c) 4 k 0 + rb_th B k r c := by
  rw [rb_P_S, rb_P_S]
  unfold rb_th
  rw [← rb_S_add]
  exact rb_S_c (fun x y z w hx hy hz hw => rb_FT_s hr hc hB hb _ (rb_dg_5 hx hy hz hw))
theorem rb_th_0 {B : Nat → Nat} {k r c : Nat} (hr : r < 4) (hc : c < 4) (h : (B r).testBit c = false ∨ k = 0) : rb_th B k r c = 0 := by
  unfold rb_th
  rw [rb_S_c (G := fun _ _ _ _ => 0)]
  · rfl
  · intro x y z w hx hy hz hw
    unfold rb_FT
    rw [if_neg]
    intro g
    rcases h with h | h
    · have o := (rb_ow (B := B) (d := rb_dg x y z w) 4).mp g.1.2.1 r hr (by rw [g.2]; exact hc)
      rw [g.2, h] at o
      cases o
    · have s0 : rb_sz (rb_dg x y z w) 4 = 0 := by
        rw [g.1.2.2, h]
      exact rb_sz0 s0 r hr (by rw [g.2]; exact hc)
theorem rb_upd2 {a : Nat → Int32} {r : Nat} {x y : Int32} (h : y = a r) : upd (upd a r x) r y = a := by
  funext j
  by_cases e : j = r
  · rw [e, pk_us, h]
  · rw [pk_un e, pk_un e]
theorem rb_thr {post : Int32 → St2 → Prop} {t : Int32} {a1 a2 a3 a4 a5 a6 a7 a8 a9 a10 a11 : Nat → Int32} {B : Nat → Nat} {k r c : Nat} (hk : k ≤ 4) (hr : r < 4) (hc : c < 4) (hB : rb_bd B a1) (H : ∀ b3 b4, post (nI (rb_th B k r c)) (4, t, a1, a2, b3, b4, a5, a6, a7, a8, a9, a10, a11)) : wpX_countThrough post (4, t, a1, a2, a3, a4, a5, a6, a7, a8, a9, a10, a11) (nI (6 * r + c)) (nI k) := by
  have hb := hB r hr
  have cl := rb_cell (B r) hb.1 c hc
  have e1 : nI (6 * r + c) / 6 = nI r := by
    rw [show (6 : Int32) = nI 6 from rfl, pk_div (by omega) (by omega) (by omega), show (6 * r + c) / 6 = r by omega]
  have e2 : nI (6 * r + c) - nI (6 * r + c) / 6 * 6 = nI c := by
    rw [show (6 : Int32) = nI 6 from rfl, pk_rem (by omega) (by omega) (by omega), show (6 * r + c) % 6 = c by omega]
  have e4 : (1 : Int32) <<< ((nI (6 * r + c) - nI (6 * r + c) / 6 * 6) &&& 31) = nI (2 ^ c) := by
    rw [e2]
    exact rb_shl c (by omega)
  have z0 : (B r).testBit c = false ∨ k = 0 → post 0 (4, t, a1, a2, a3, a4, a5, a6, a7, a8, a9, a10, a11) := by
    intro h
    have := H a3 a4
    rw [rb_th_0 hr hc h] at this
    exact this
  unfold wpX_countThrough
  refine ⟨by decide, nm_r e1 ⟨by decide, nm_r e4 ⟨pk_in r 6 (by omega), ?_⟩⟩⟩
  rw [nI_clamp (show r < 2 ^ 31 by omega), hb.2]
  refine ek_if cl.1 (fun z => z0 (Or.inl z)) (fun z => pk_eq k 0 (fun z => z0 (Or.inr z)) (fun zk => ?_))
  have hbt : (B r).testBit c = true := by
    simp only [Bool.not_eq_false] at z
    exact z
  obtain ⟨c1, c2, c3, c4⟩ := cl.2 hbt
  refine rb_count (by omega) hB (fun b3 b4 => ⟨pk_in r 6 (by omega), pk_in r 6 (by omega), ?_⟩)
  rw [hb.2, c1]
  have hB' : rb_bd (rb_less B r c) (upd a1 r (nI (B r - 2 ^ c))) := by
    intro y hy
    unfold rb_less
    by_cases e : y = r
    · rw [if_pos e, e, pk_us]
      exact ⟨c3, rfl⟩
    · rw [if_neg e, pk_un e]
      exact hB y hy
  refine nm_e (rb_count (by omega) hB' (fun d3 d4 => ⟨pk_in r 6 (by omega), pk_in r 6 (by omega), ?_⟩))
  rw [pk_us, c2, rb_upd2 hb.2.symm, rb_th_s hr hc (fun y hy => (hB y hy).1) hbt, pk_sub (by omega), show rb_P (rb_less B r c) 4 k 0 + rb_th B k r c - rb_P (rb_less B r c) 4 k 0 = rb_th B k r c by omega]
  exact nm_e (H d3 d4)
theorem rb_badCell {post : Int32 → Prop} {t : Int32} {a1 a2 a3 a4 a5 a6 a7 a8 a9 a10 a11 : Nat → Int32} {x : Nat} (hx : x < 36) (H0 : x / 6 < 4 → x % 6 < 4 → post 0) (H1 : ¬ (x / 6 < 4 ∧ x % 6 < 4) → post 1) : wpX_badCell post (4, t, a1, a2, a3, a4, a5, a6, a7, a8, a9, a10, a11) (nI x) := by
  have e1 : nI x / 6 = nI (x / 6) := pk_div (d := 6) (by omega) (by omega) (by omega)
  have e2 : nI x - nI x / 6 * 6 = nI (x % 6) := pk_rem (d := 6) (by omega) (by omega) (by omega)
  unfold wpX_badCell
  refine br_f (nI_pos (by omega)) ⟨by decide, ?_⟩
  rw [e2, e1]
  exact pk_le 4 (x / 6) (fun z => H1 (by omega)) (fun z => ⟨by decide, pk_lt (x % 6) 4 (fun z2 => H0 z z2) (fun z2 => H1 (by omega))⟩)
theorem rb_through {post : Int32 → St2 → Prop} {t : Int32} {a1 a2 a3 a4 a5 a6 a7 a8 a9 a10 a11 : Nat → Int32} {B : Nat → Nat} {k r c : Nat} (hk : k ≤ 4) (hr : r < 4) (hc : c < 4) (hB : rb_bd B a1) (H : ∀ b3 b4, post (nI (rb_th B k r c)) (4, t, a1, a2, b3, b4, a5, a6, a7, a8, a9, a10, a11)) : wpX_through post (4, t, a1, a2, a3, a4, a5, a6, a7, a8, a9, a10, a11) (nI (6 * r + c)) (nI k) := by
  unfold wpX_through
  exact rb_badCell (by omega) (fun _ _ => br_t rfl (br_f (nI_pos (by omega)) (pk_le k 4 (fun _ => br_t rfl (rb_thr hk hr hc hB H)) (fun z => absurd z (by omega))))) (fun z => absurd z (by omega))
end
section
/-! placements by number -/
theorem rb_q01 (B : Nat → Nat) : ∀ j k s m, rb_q B j k s m ≤ 1 := by
  intro j
  induction j with
  | zero =>
    intro k s m
    show (if k = 0 then 1 else 0) ≤ 1
    split <;> omega
  | succ j ih =>
    intro k s m
    rw [rb_q_s]
    unfold rb_qc
    split
    · exact ih _ _ _
    · split
      · split
        · omega
        · exact ih _ _ _
      · omega
theorem rb_P_b (B : Nat → Nat) (j k s : Nat) : rb_P B j k s ≤ 5 ^ j := by
  rw [← (rb_q_n B j k s).1]
  exact rb_n_b (fun m _ => rb_q01 B j k s m)
theorem rb_bl_b (B : Nat → Nat) {j : Nat} (k s : Nat) {c : Nat} (hj : j ≤ 3) (hc : c ≤ 5) : rb_n (rb_bl B j k s) c ≤ 625 := by
  refine Nat.le_trans (rb_n_mono _ hc) ?_
  rw [← rb_P_s]
  exact Nat.le_trans (rb_P_b B _ k s) (Nat.pow_le_pow_right (n := 5) (j := 4) (by omega) (by omega))
theorem rb_before {post : Int32 → St2 → Prop} {t : Int32} {a1 a2 a3 a4 a5 a6 a7 a8 a9 a10 a11 : Nat → Int32} {B : Nat → Nat} {r s k c : Nat} (hr : r < 4) (hs : s < 16) (hk : k ≤ 4) (hc : c ≤ 4) (hB : rb_bd B a1) (H : ∀ b3 b4, post (nI (rb_n (rb_bl B (3 - r) k s) c)) (4, t, a1, a2, b3, b4, a5, a6, a7, a8, a9, a10, a11)) : wpX_before post (4, t, a1, a2, a3, a4, a5, a6, a7, a8, a9, a10, a11) (nI r) (nI s) (nI k) (nI c) := by
  have er : 3 - (3 - r) = r := by omega
  have hb := hB r hr
  refine pk_eq k 0 (fun z => ?_) (fun z => ?_)
  · have e : rb_n (rb_bl B (3 - r) k s) c = 0 := by
      refine rb_n_z (fun m hm => ?_)
      unfold rb_bl
      rw [if_neg (by omega), z]
      split <;> rfl
    have h := H a3 a4
    rw [e] at h
    exact h
  · have e : nI k - 1 = nI (k - 1) := pk_sub (b := 1) (by omega)
    rw [e]
    refine rb_ways (by omega) hB (fun b3 b4 hw => ?_)
    show ∃ n, wX_before_19 post (nI r) (nI s) (nI c) 4 t a1 a2 b3 b4 a5 a6 a7 a8 a9 a10 a11 n 0 0
    refine pk_loop (σ := Unit) (fun n i _ => wX_before_19 post (nI r) (nI s) (nI c) 4 t a1 a2 b3 b4 a5 a6 a7 a8 a9 a10 a11 n (nI (rb_n (rb_bl B (3 - r) k s) i)) (nI i)) (fun _ _ => True) c 0 () (by omega) trivial
      (fun n _ _ => pk_le c c (fun _ => H b3 b4) (fun z => absurd z (by omega)))
      (fun n i _ hi _ go => pk_le c i (fun z => absurd z (by omega)) (fun _ => ⟨pk_in r 6 (by omega), ?_⟩))
    have hi4 : i < 4 := by omega
    rw [nI_clamp (show r < 2 ^ 31 by omega), hb.2]
    have go' : wX_before_19 post (nI r) (nI s) (nI c) 4 t a1 a2 b3 b4 a5 a6 a7 a8 a9 a10 a11 n (nI (rb_n (rb_bl B (3 - r) k s) i + rb_bl B (3 - r) k s i)) (nI (i + 1)) := go () trivial
    have no : ¬ rb_ft B r i s = true → wX_before_54 post (wX_before_19 post (nI r) (nI s) (nI c) 4 t a1 a2 b3 b4 a5 a6 a7 a8 a9 a10 a11 n) (nI r) (nI s) (nI c) (nI (rb_n (rb_bl B (3 - r) k s) i)) (nI i) 4 t a1 a2 b3 b4 a5 a6 a7 a8 a9 a10 a11 := by
      intro hf
      have e0 : rb_bl B (3 - r) k s i = 0 := by
        unfold rb_bl
        rw [if_neg (by omega), er, if_neg hf]
      rw [e0, Nat.add_zero] at go'
      exact br_t rfl (nm_r (nI_1 i) go')
    refine ek_if (rb_bit1 (B r) (by omega) i (by omega)) (fun h1 => ek_if (rb_bit0 s (by omega) i (by omega)) (fun h2 => ?_) (fun h2 => no ?_)) (fun h1 => no ?_)
    · have hf : rb_ft B r i s = true := by
        unfold rb_ft
        rw [h1, h2]
        rfl
      have e1 : rb_bl B (3 - r) k s i = rb_P B (3 - r) (k - 1) (s ||| 2 ^ i) := by
        unfold rb_bl
        rw [if_neg (by omega), er, if_pos hf, if_neg z]
      obtain ⟨o1, o2⟩ := rb_or s hs i hi4
      have w := hw (r + 1) (by omega) (by omega) (s ||| 2 ^ i) o2
      rw [show 4 - (r + 1) = 3 - r by omega, ← e1] at w
      unfold wX_before_55
      rw [rb_shl i (by omega), o1, rb_ix, nI_clamp (by omega), w]
      exact br_f (by decide) ⟨vp_in_nI (by omega) (by omega), nm_r (nI_add _ _) (nm_r (nI_1 i) go')⟩
    · unfold rb_ft
      intro z
      rw [Bool.and_eq_true, Bool.not_eq_true'] at z
      exact h2 z.2
    · unfold rb_ft
      intro z
      rw [Bool.and_eq_true] at z
      exact h1 z.1
theorem rb_colIn {post : Int32 → St2 → Prop} {t : Int32} {a1 a2 a3 a4 a5 a6 a7 a8 a9 a10 a11 : Nat → Int32} {B : Nat → Nat} {r s k left c : Nat} (hr : r < 4) (hs : s < 16) (hk : k ≤ 4) (hc : c ≤ 4) (hl : left < 2 ^ 31) (hB : rb_bd B a1) (h1 : ∀ e, e < c → rb_n (rb_bl B (3 - r) k s) (e + 1) ≤ left) (h2 : c < 4 → left < rb_n (rb_bl B (3 - r) k s) (c + 1))
    (H : ∀ b3 b4, post (nI c) (4, t, a1, a2, b3, b4, a5, a6, a7, a8, a9, a10, a11)) : wpX_columnIn post (4, t, a1, a2, a3, a4, a5, a6, a7, a8, a9, a10, a11) (nI r) (nI s) (nI k) (nI left) := by
  show ∃ n, wX_columnIn_3 post (nI r) (nI s) (nI k) (nI left) n 0 4 t a1 a2 a3 a4 a5 a6 a7 a8 a9 a10 a11
  refine pk_loop (σ := (Nat → Int32) × (Nat → Int32)) (fun n i p => wX_columnIn_3 post (nI r) (nI s) (nI k) (nI left) n (nI i) 4 t a1 a2 p.1 p.2 a5 a6 a7 a8 a9 a10 a11) (fun _ _ => True) c 0 (a3, a4) (by omega) trivial
    (fun n p _ => pk_le 4 c (fun _ => H p.1 p.2) (fun z => ?_))
    (fun n i p hi _ go => pk_le 4 i (fun z => absurd z (by omega)) (fun _ => ?_))
  · rw [nI_1]
    have b := rb_bl_b B (j := 3 - r) k s (c := c + 1) (by omega) (by omega)
    exact rb_before hr hs hk (by omega) hB (fun b3 b4 => pk_lt left (rb_n (rb_bl B (3 - r) k s) (c + 1)) (fun _ => H b3 b4) (fun z2 => absurd (h2 z) (by omega)))
  · rw [nI_1]
    have b := rb_bl_b B (j := 3 - r) k s (c := i + 1) (by omega) (by omega)
    exact rb_before hr hs hk (by omega) hB (fun b3 b4 => pk_lt left (rb_n (rb_bl B (3 - r) k s) (i + 1)) (fun z => absurd (h1 i hi) (by omega)) (fun _ => nm_e (go (b3, b4) trivial)))
theorem rb_nth {f : Nat → Nat} (h : ∀ m, f m ≤ 1) {i : Nat} : ∀ n, i < rb_n f n → ∃ m, m < n ∧ f m = 1 ∧ rb_n f m = i := by
  intro n
  induction n with
  | zero => exact fun z => absurd z (Nat.not_lt_zero _)
  | succ n ih =>
    intro z
    have z' : i < rb_n f n + f n := z
    have hn := h n
    by_cases e : i < rb_n f n
    · obtain ⟨m, h1, h2, h3⟩ := ih e
      exact ⟨m, by omega, h2, h3⟩
    · exact ⟨n, by omega, by omega, by omega⟩
theorem rb_d2_at {m j : Nat} (hm : m < 625) (hj : j < 4) : m % 5 ^ (4 - j) < 5 ^ (3 - j + 1) ∧ m % 5 ^ (4 - j) / 5 ^ (3 - j) = rb_d2 m j ∧ m % 5 ^ (4 - j) % 5 ^ (3 - j) = m % 5 ^ (4 - (j + 1)) := by
  have h : j = 0 ∨ j = 1 ∨ j = 2 ∨ j = 3 := by omega
  rcases h with rfl | rfl | rfl | rfl
  · show m % 625 < 625 ∧ m % 625 / 125 = m / 125 ∧ m % 625 % 125 = m % 125
    omega
  · show m % 125 < 125 ∧ m % 125 / 25 = m / 25 % 5 ∧ m % 125 % 25 = m % 25
    omega
  · show m % 25 < 25 ∧ m % 25 / 5 = m / 5 % 5 ∧ m % 25 % 5 = m % 5
    omega
  · show m % 5 < 5 ∧ m % 5 / 1 = m % 5 ∧ m % 5 % 1 = m % 1
    omega
/-- the loop's state ahead of row j: the number's last digits are the ones that are left -/
def rb_ci (B : Nat → Nat) (m j : Nat) (x5 x6 x7 x8 : Int32) : Prop := ∃ k s left : Nat, k ≤ 4 ∧ s < 16 ∧ left < 625 ∧ x5 = nI left ∧ x6 = nI k ∧ x7 = nI s ∧ (0 < j → x8 = nI (rb_d2 m (j - 1))) ∧ rb_q B (4 - j) k s (m % 5 ^ (4 - j)) = 1 ∧ rb_n (rb_q B (4 - j) k s) (m % 5 ^ (4 - j)) = left
theorem rb_column {post : Int32 → St2 → Prop} {t : Int32} {a1 a2 a3 a4 a5 a6 a7 a8 a9 a10 a11 : Nat → Int32} {B : Nat → Nat} {k i r : Nat} (hk : k ≤ 4) (hi : i < 16) (hr : r < 4) (hB : rb_bd B a1) (H0 : rb_P B 4 k 0 ≤ i → ∀ b3 b4, post (-4) (4, t, a1, a2, b3, b4, a5, a6, a7, a8, a9, a10, a11))
    (H1 : ∀ m, m < 625 → rb_F B k (rb_d2 m) = 1 → rb_n (fun m => rb_F B k (rb_d2 m)) m = i → ∀ b3 b4, post (nI (rb_d2 m r)) (4, t, a1, a2, b3, b4, a5, a6, a7, a8, a9, a10, a11)) : wpX_column post (4, t, a1, a2, a3, a4, a5, a6, a7, a8, a9, a10, a11) (nI k) (nI i) (nI r) := by
  have pb := rb_P_le B k
  unfold wpX_column
  refine br_f (nI_pos (by omega)) (pk_le k 4 (fun _ => br_t rfl (br_f (nI_pos (by omega)) (pk_lt r 4 (fun _ => rb_count (by omega) hB (fun c3 c4 => br_f (nI_pos (by omega)) (pk_lt i (rb_P B 4 k 0) (fun z => ?_) (fun z => H0 z c3 c4)))) (fun z => absurd z (by omega))))) (fun z => absurd z (by omega)))
  rw [← rb_P_2] at z
  obtain ⟨m, hm, m1, m2⟩ := rb_nth (fun m => rb_F_01 B k (rb_d2 m)) 625 z
  have m1' : rb_q B 4 k 0 m = 1 := by
    rw [rb_q4 hm]
    exact m1
  have m2' : rb_n (rb_q B 4 k 0) m = i := by
    rw [← m2]
    exact rb_n_c (fun m' h => rb_q4 (by omega))
  refine pk_loop (σ := Int32 × Int32 × Int32 × Int32 × (Nat → Int32) × (Nat → Int32)) (fun n j p => wX_column_60 post (nI r) n p.1 p.2.1 p.2.2.1 p.2.2.2.1 (nI j) 4 t a1 a2 p.2.2.2.2.1 p.2.2.2.2.2 a5 a6 a7 a8 a9 a10 a11) (fun j p => rb_ci B m j p.1 p.2.1 p.2.2.1 p.2.2.2.1) (r + 1) 0 (nI i, nI k, 0, 4, c3, c4) (by omega) ?_
    (fun n p h => pk_lt r (r + 1) (fun _ => ?_) (fun z => absurd z (by omega)))
    (fun n j p hj h go => pk_lt r j (fun z => absurd z (by omega)) (fun _ => ?_))
  · refine ⟨k, 0, i, hk, by omega, by omega, rfl, rfl, rfl, fun z => absurd z (by omega), ?_, ?_⟩
    · rw [show m % 5 ^ (4 - 0) = m from Nat.mod_eq_of_lt hm]
      exact m1'
    · rw [show m % 5 ^ (4 - 0) = m from Nat.mod_eq_of_lt hm]
      exact m2'
  · obtain ⟨k', s, left, _, _, _, _, _, _, e8, _⟩ := h
    have e := e8 (by omega)
    rw [e]
    exact H1 m hm m1 m2 _ _
  · obtain ⟨k', s, left, hk', hs', hl, e5, e6, e7, _, q1, q2⟩ := h
    obtain ⟨d1, d2, d3⟩ := rb_d2_at hm (show j < 4 by omega)
    rw [show 4 - j = 3 - j + 1 by omega] at q1 q2 d1 d2 d3
    have dn := rb_down d1 q1 q2
    rw [d2, d3, show 3 - (3 - j) = j by omega] at dn
    obtain ⟨n1, n2, n3, n4, n5, n6⟩ := dn
    rw [e5, e6, e7]
    have bb := rb_bl_b B (j := 3 - j) k' s (c := rb_d2 m j) (by omega) (by omega)
    refine rb_colIn (c := rb_d2 m j) (by omega) hs' hk' (by omega) (by omega) hB (fun e he => Nat.le_trans (rb_n_mono _ he) n3) (fun _ => n4) (fun f3 f4 => ?_)
    refine rb_before (by omega) hs' hk' (by omega) hB (fun g3 g4 => nm_r (pk_sub n3) (pk_le 4 (rb_d2 m j) (fun z => ?_) (fun z => ?_)))
    · refine nm_r (nI_1 j) (go (_, _, _, _, g3, g4) ?_)
      have z4 : rb_d2 m j = 4 := by omega
      obtain ⟨u1, u2⟩ := n5 z4
      refine ⟨k', s, _, hk', hs', by omega, rfl, rfl, rfl, fun _ => rfl, ?_, ?_⟩
      · rw [show 4 - (j + 1) = 3 - j by omega] at u1 ⊢
        exact u1
      · rw [show 4 - (j + 1) = 3 - j by omega] at u2 ⊢
        exact u2
    · obtain ⟨u0, _, u1, u2⟩ := n6 (by omega)
      obtain ⟨o1, o2⟩ := rb_or s hs' (rb_d2 m j) z
      refine nm_r (by rw [rb_shl _ (by omega), o1]) (nm_r (sb_m1 (by omega)) (nm_r (nI_1 j) (go (_, _, _, _, g3, g4) ?_)))
      refine ⟨k' - 1, s ||| 2 ^ rb_d2 m j, _, by omega, o2, by omega, rfl, rfl, rfl, fun _ => rfl, ?_, ?_⟩
      · rw [show 4 - (j + 1) = 3 - j by omega] at u1 ⊢
        exact u1
      · rw [show 4 - (j + 1) = 3 - j by omega] at u2 ⊢
        exact u2
end
section
/-! greatest placements: a matching of columns to rows, a closed set of columns, and the search for a column -/
def rb_sb (b U : Nat) : Prop := ∀ c, c < 4 → b.testBit c = true → U.testBit c = true
def rb_ct4 (ρ : Nat → Nat) : Nat := rb_n (fun c => if ρ c < 4 then 1 else 0) 4
def rb_up (f : Nat → Nat) (k x : Nat) : Nat → Nat := fun j => if j = k then x else f j
theorem rb_up_s (f : Nat → Nat) (k x : Nat) : rb_up f k x k = x := if_pos rfl
theorem rb_up_n {f : Nat → Nat} {k j x : Nat} (h : j ≠ k) : rb_up f k x j = f j := if_neg h
/-- R rows are done with f rooks: ρ c is the row of column c's rook; the columns of U are taken by rows that have all their cells in U, and so have the rows without a rook -/
def rb_OI (B ρ : Nat → Nat) (R U f : Nat) : Prop :=
  (∀ c, c < 4 → ρ c < 4 → ρ c < R ∧ (B (ρ c)).testBit c = true) ∧ (∀ c e, c < 4 → e < 4 → ρ c < 4 → ρ c = ρ e → c = e) ∧ (∀ c, c < 4 → U.testBit c = true → ρ c < 4 ∧ rb_sb (B (ρ c)) U) ∧ (∀ y, y < R → (∃ c, c < 4 ∧ ρ c = y) ∨ rb_sb (B y) U) ∧ f = rb_ct4 ρ
/-- the search: T is tried, the path has rows p 0 .. p d and columns q 0 .. q (d - 1) -/
def rb_LI (B ρ : Nat → Nat) (R T d : Nat) (p q : Nat → Nat) : Prop :=
  T < 16 ∧ p 0 = R ∧ (∀ i, i < d → q i < 4 ∧ (B (p i)).testBit (q i) = true ∧ T.testBit (q i) = true ∧ ρ (q i) = p (i + 1) ∧ p (i + 1) < 4) ∧ (∀ c, c < 4 → T.testBit c = true → ρ c < 4 ∧ (rb_sb (B (ρ c)) T ∨ ∃ i, i < d ∧ q i = c)) ∧ (∀ i j, i < d → j < d → q i = q j → i = j)
theorem rb_orb : ∀ T, T < 16 → ∀ c, c < 4 → (T ||| 2 ^ c < 16 ∧ (T.testBit c = false → rb_pc (T ||| 2 ^ c) = rb_pc T + 1) ∧ ∀ e, e < 4 → (T ||| 2 ^ c).testBit e = (T.testBit e || decide (e = c))) := by decide +kernel
theorem rb_LI_0 {B ρ : Nat → Nat} {R : Nat} : rb_LI B ρ R 0 0 (fun _ => R) (fun _ => 0) :=
  ⟨by omega, rfl, fun i hi => absurd hi (by omega), fun c _ h => absurd h (by rw [Nat.zero_testBit]; decide), fun i j hi => absurd hi (by omega)⟩
theorem rb_LI_pop {B ρ : Nat → Nat} {R T d : Nat} {p q : Nat → Nat} (h : rb_LI B ρ R T (d + 1) p q) (hs : rb_sb (B (p (d + 1))) T) : rb_LI B ρ R T d p q := by
  obtain ⟨l0, l1, l2, l3, l4⟩ := h
  refine ⟨l0, l1, fun i hi => l2 i (by omega), fun c hc ht => ⟨(l3 c hc ht).1, ?_⟩, fun i j hi hj => l4 i j (by omega) (by omega)⟩
  rcases (l3 c hc ht).2 with g | ⟨i, hi, e⟩
  · exact Or.inl g
  · by_cases e2 : i = d
    · refine Or.inl ?_
      have := (l2 d (by omega)).2.2.2.1
      rw [← e, e2, this]
      exact hs
    · exact Or.inr ⟨i, by omega, e⟩
theorem rb_LI_fail {B ρ : Nat → Nat} {R T U f : Nat} {p q : Nat → Nat} (h : rb_LI B ρ R T 0 p q) (hs : rb_sb (B (p 0)) T) (ho : rb_OI B ρ R U f) : rb_OI B ρ (R + 1) (U ||| T) f := by
  obtain ⟨l0, l1, -, l3, -⟩ := h
  obtain ⟨m1, m2, m3, m4, m5⟩ := ho
  have su : ∀ b, rb_sb b U → rb_sb b (U ||| T) := fun b g c hc hb => by rw [Nat.testBit_or, g c hc hb]; rfl
  have st : ∀ b, rb_sb b T → rb_sb b (U ||| T) := fun b g c hc hb => by rw [Nat.testBit_or, g c hc hb, Bool.or_true]
  refine ⟨fun c hc h4 => ⟨by have := (m1 c hc h4).1; omega, (m1 c hc h4).2⟩, m2, fun c hc hb => ?_, fun y hy => ?_, m5⟩
  · rw [Nat.testBit_or, Bool.or_eq_true] at hb
    rcases hb with hb | hb
    · exact ⟨(m3 c hc hb).1, su _ (m3 c hc hb).2⟩
    · refine ⟨(l3 c hc hb).1, ?_⟩
      rcases (l3 c hc hb).2 with g | ⟨i, hi, _⟩
      · exact st _ g
      · exact absurd hi (by omega)
  · by_cases e : y = R
    · refine Or.inr (st _ ?_)
      rw [e, ← l1]
      exact hs
    · rcases m4 y (by omega) with g | g
      · exact Or.inl g
      · exact Or.inr (su _ g)
theorem rb_LI_push {B ρ : Nat → Nat} {R T d c : Nat} {p q : Nat → Nat} (h : rb_LI B ρ R T d p q) (hc : c < 4) (hb : (B (p d)).testBit c = true) (ht : T.testBit c = false) (hr : ρ c < 4) : rb_LI B ρ R (T ||| 2 ^ c) (d + 1) (rb_up p (d + 1) (ρ c)) (rb_up q d c) := by
  obtain ⟨l0, l1, l2, l3, l4⟩ := h
  obtain ⟨o1, -, o3⟩ := rb_orb T l0 c hc
  have nq : ∀ i, i < d → q i ≠ c := by
    intro i hi e
    have := (l2 i hi).2.2.1
    rw [e, ht] at this
    cases this
  have sT : ∀ b, rb_sb b T → rb_sb b (T ||| 2 ^ c) := fun b g e he hb => by rw [o3 e he, g e he hb]; rfl
  refine ⟨o1, ?_, fun i hi => ?_, fun e he hT => ?_, fun i j hi hj e => ?_⟩
  · rw [rb_up_n (by omega)]
    exact l1
  · by_cases e : i = d
    · rw [e, rb_up_s, rb_up_n (show d ≠ d + 1 by omega), rb_up_s]
      refine ⟨hc, hb, ?_, rfl, hr⟩
      rw [o3 c hc]
      simp
    · obtain ⟨g1, g2, g3, g4, g5⟩ := l2 i (by omega)
      rw [rb_up_n e, rb_up_n (show i ≠ d + 1 by omega), rb_up_n (show i + 1 ≠ d + 1 by omega)]
      refine ⟨g1, g2, ?_, g4, g5⟩
      rw [o3 _ g1, g3]
      rfl
  · rw [o3 e he] at hT
    by_cases e2 : e = c
    · rw [e2]
      exact ⟨hr, Or.inr ⟨d, by omega, rb_up_s q d c⟩⟩
    · rw [decide_eq_false e2, Bool.or_false] at hT
      refine ⟨(l3 e he hT).1, ?_⟩
      rcases (l3 e he hT).2 with g | ⟨i, hi, g⟩
      · exact Or.inl (sT _ g)
      · exact Or.inr ⟨i, by omega, by rw [rb_up_n (by omega)]; exact g⟩
  · by_cases ei : i = d
    · by_cases ej : j = d
      · omega
      · rw [ei, rb_up_s, rb_up_n ej] at e
        exact absurd e.symm (nq j (by omega))
    · by_cases ej : j = d
      · rw [ej, rb_up_s, rb_up_n ei] at e
        exact absurd e (nq i (by omega))
      · rw [rb_up_n ei, rb_up_n ej] at e
        exact l4 i j (by omega) (by omega) e
/-- rooks move along the path -/
def rb_mp (ρ p q : Nat → Nat) : Nat → Nat → Nat
  | 0 => ρ
  | i + 1 => rb_up (rb_mp ρ p q i) (q i) (p i)
theorem rb_mp_in {ρ p q : Nat → Nat} : ∀ n, (∀ i j, i < n → j < n → q i = q j → i = j) → ∀ i, i < n → rb_mp ρ p q n (q i) = p i := by
  intro n
  induction n with
  | zero => exact fun _ i hi => absurd hi (by omega)
  | succ n ih =>
    intro inj i hi
    show rb_up (rb_mp ρ p q n) (q n) (p n) (q i) = p i
    by_cases e : i = n
    · rw [e, rb_up_s]
    · rw [rb_up_n (fun z => e (inj i n hi (by omega) z))]
      exact ih (fun i j h1 h2 => inj i j (by omega) (by omega)) i (by omega)
theorem rb_mp_out {ρ p q : Nat → Nat} {c : Nat} : ∀ n, (∀ i, i < n → q i ≠ c) → rb_mp ρ p q n c = ρ c := by
  intro n
  induction n with
  | zero => exact fun _ => rfl
  | succ n ih =>
    intro h
    show rb_up (rb_mp ρ p q n) (q n) (p n) c = ρ c
    rw [rb_up_n (fun z => h n (by omega) z.symm)]
    exact ih (fun i hi => h i (by omega))
theorem rb_n_one {f g : Nat → Nat} {c : Nat} (hf : f c = 0) (hg : g c = 1) (h : ∀ e, e ≠ c → g e = f e) : ∀ n, rb_n g n = rb_n f n + if c < n then 1 else 0 := by
  intro n
  induction n with
  | zero => rfl
  | succ n ih =>
    show rb_n g n + g n = rb_n f n + f n + _
    rw [ih]
    by_cases e : n = c
    · rw [e, hf, hg, if_neg (by omega), if_pos (by omega)]
    · rw [h n e]
      by_cases e2 : c < n
      · rw [if_pos e2, if_pos (by omega)]
        omega
      · rw [if_neg e2, if_neg (by omega)]
        omega
theorem rb_LI_hit {B ρ : Nat → Nat} {R T U f d c : Nat} {p q : Nat → Nat} (hR : R < 4) (h : rb_LI B ρ R T d p q) (ho : rb_OI B ρ R U f) (hc : c < 4) (hb : (B (p d)).testBit c = true) (ht : T.testBit c = false) (hr : ¬ ρ c < 4) : rb_OI B (rb_mp ρ p (rb_up q d c) (d + 1)) (R + 1) U (f + 1) := by
  obtain ⟨l0, l1, l2, l3, l4⟩ := h
  obtain ⟨m1, m2, m3, m4, m5⟩ := ho
  have nq : ∀ i, i < d → q i ≠ c := by
    intro i hi e
    have := (l2 i hi).2.2.1
    rw [e, ht] at this
    cases this
  have Q0 : ∀ i, i < d → rb_up q d c i = q i := fun i hi => rb_up_n (by omega)
  have Qd : rb_up q d c d = c := rb_up_s q d c
  generalize hQ : rb_up q d c = Q at *
  have inj : ∀ i j, i < d + 1 → j < d + 1 → Q i = Q j → i = j := by
    intro i j hi hj e
    by_cases ei : i = d
    · by_cases ej : j = d
      · omega
      · rw [ei, Qd, Q0 j (by omega)] at e
        exact absurd e.symm (nq j (by omega))
    · by_cases ej : j = d
      · rw [ej, Qd, Q0 i (by omega)] at e
        exact absurd e (nq i (by omega))
      · rw [Q0 i (by omega), Q0 j (by omega)] at e
        exact l4 i j (by omega) (by omega) e
  have Q4 : ∀ i, i < d + 1 → Q i < 4 := by
    intro i hi
    by_cases ei : i = d
    · rw [ei, Qd]
      exact hc
    · rw [Q0 i (by omega)]
      exact (l2 i (by omega)).1
  have bitQ : ∀ i, i < d + 1 → (B (p i)).testBit (Q i) = true := by
    intro i hi
    by_cases ei : i = d
    · rw [ei, Qd]
      exact hb
    · rw [Q0 i (by omega)]
      exact (l2 i (by omega)).2.1
  have nxt : ∀ i, i < d → ρ (Q i) = p (i + 1) ∧ p (i + 1) < 4 := by
    intro i hi
    rw [Q0 i hi]
    exact (l2 i hi).2.2.2
  have pR : ∀ i, i < d → p (i + 1) < R := by
    intro i hi
    obtain ⟨n1, n2⟩ := nxt i hi
    have := (m1 (Q i) (Q4 i (by omega)) (by omega)).1
    omega
  have p4 : ∀ i, i < d + 1 → p i < 4 ∧ p i ≤ R := by
    intro i hi
    cases i with
    | zero => omega
    | succ i =>
      have := pR i (by omega)
      omega
  have hin : ∀ i, i < d + 1 → rb_mp ρ p Q (d + 1) (Q i) = p i := rb_mp_in (d + 1) inj
  have hout : ∀ e, (∀ i, i < d + 1 → Q i ≠ e) → rb_mp ρ p Q (d + 1) e = ρ e := fun e => rb_mp_out (d + 1)
  have on : ∀ e, (∃ i, i < d + 1 ∧ Q i = e) ∨ (∀ i, i < d + 1 → Q i ≠ e) := by
    intro e
    by_cases x : ∃ i, i < d + 1 ∧ Q i = e
    · exact Or.inl x
    · exact Or.inr (fun i hi z => x ⟨i, hi, z⟩)
  have notU : ∀ k i, i + k = d → ¬ U.testBit (Q i) = true := by
    intro k
    induction k with
    | zero =>
      intro i hi hu
      rw [show i = d by omega, Qd] at hu
      exact hr (m3 c hc hu).1
    | succ k ih =>
      intro i hi hu
      have g := (m3 (Q i) (Q4 i (by omega)) hu).2
      rw [(nxt i (by omega)).1] at g
      exact ih (i + 1) (by omega) (g (Q (i + 1)) (Q4 (i + 1) (by omega)) (bitQ (i + 1) (by omega)))
  generalize rb_mp ρ p Q (d + 1) = ν at *
  refine ⟨fun e he h4 => ?_, fun e e' he he' h4 eq => ?_, fun e he hu => ?_, fun y hy => ?_, ?_⟩
  · rcases on e with ⟨i, hi, rfl⟩ | no
    · rw [hin i hi]
      exact ⟨by have := (p4 i hi).2; omega, bitQ i hi⟩
    · rw [hout e no] at h4 ⊢
      have := m1 e he h4
      exact ⟨by omega, this.2⟩
  · rcases on e with ⟨i, hi, rfl⟩ | no
    · rw [hin i hi] at eq h4
      rcases on e' with ⟨j, hj, rfl⟩ | no'
      · rw [hin j hj] at eq
        cases i with
        | zero =>
          cases j with
          | zero => rfl
          | succ j =>
            have := pR j (by omega)
            omega
        | succ i =>
          cases j with
          | zero =>
            have := pR i (by omega)
            omega
          | succ j =>
            rw [← (nxt i (by omega)).1, ← (nxt j (by omega)).1] at eq
            have g := m2 (Q i) (Q j) (Q4 i (by omega)) (Q4 j (by omega)) (by rw [(nxt i (by omega)).1]; exact h4) eq
            rw [inj i j (by omega) (by omega) g]
      · rw [hout e' no'] at eq
        have g1 := (m1 e' he' (by omega)).1
        cases i with
        | zero => omega
        | succ i =>
          rw [← (nxt i (by omega)).1] at eq
          exact absurd (m2 (Q i) e' (Q4 i (by omega)) he' (by rw [(nxt i (by omega)).1]; exact h4) eq) (no' i (by omega))
    · rw [hout e no] at eq h4
      rcases on e' with ⟨j, hj, rfl⟩ | no'
      · rw [hin j hj] at eq
        have g1 := (m1 e he h4).1
        cases j with
        | zero => omega
        | succ j =>
          rw [← (nxt j (by omega)).1] at eq
          exact absurd (m2 e (Q j) he (Q4 j (by omega)) h4 eq).symm (no j (by omega))
      · rw [hout e' no'] at eq
        exact m2 e e' he he' h4 eq
  · rcases on e with ⟨i, hi, rfl⟩ | no
    · exact absurd hu (notU (d - i) i (by omega))
    · rw [hout e no]
      exact m3 e he hu
  · by_cases ey : y = R
    · refine Or.inl ⟨Q 0, Q4 0 (by omega), ?_⟩
      rw [hin 0 (by omega), l1, ey]
    · rcases m4 y (by omega) with ⟨e, he, g⟩ | g
      · refine Or.inl ?_
        rcases on e with ⟨i, hi, rfl⟩ | no
        · by_cases ei : i = d
          · rw [ei, Qd] at g
            omega
          · refine ⟨Q (i + 1), Q4 (i + 1) (by omega), ?_⟩
            rw [hin (i + 1) (by omega), ← g, (nxt i (by omega)).1]
        · exact ⟨e, he, by rw [hout e no]; exact g⟩
      · exact Or.inr g
  · rw [m5]
    unfold rb_ct4
    rw [rb_n_one (f := fun c => if ρ c < 4 then 1 else 0) (g := fun c => if ν c < 4 then 1 else 0) (c := c) (if_neg hr) ?_ ?_ 4, if_pos hc]
    · have := hin d (by omega)
      rw [Qd] at this
      rw [this, if_pos (p4 d (by omega)).1]
    · intro e he
      rcases on e with ⟨i, hi, rfl⟩ | no
      · by_cases ei : i = d
        · rw [ei] at he
          exact absurd Qd he
        · rw [hin i hi, if_pos (p4 i hi).1, (nxt i (by omega)).1, if_pos (nxt i (by omega)).2]
      · rw [hout e no]
end
section
/-! movePath, findColumn, findMost -/
def rb_en (x : Nat) : Int32 := if x < 4 then nI x else -1
def rb_ro (ρ : Nat → Nat) (a : Nat → Int32) : Prop := ∀ c, c < 4 → a c = rb_en (ρ c)
theorem rb_nar : ∀ x, x < 4 → vp_nar .byte (nI x) = nI x := by
  intro x hx
  rw [vp_nar_byte]
  have h : ∀ x, x < 4 → (nI x).toInt8.toInt32 = nI x := by decide +kernel
  exact h x hx
theorem rb_nar8 : ∀ x, x < 4 → (nI x).toInt8.toInt32 = nI x := by decide +kernel
theorem rb_pcm : ∀ c, c < 4 → nI (2 ^ c) - 1 = nI (2 ^ c - 1) ∧ 2 ^ c - 1 < 64 ∧ rb_pc (2 ^ c - 1) = c := by decide +kernel
theorem rb_pc4 : ∀ T, T < 16 → rb_pc T ≤ 4 := by decide +kernel
theorem rb_move {post : St2 → Prop} {t : Int32} {a1 a2 a3 a4 a5 a6 a7 a8 a9 a10 a11 : Nat → Int32} {ρ p q : Nat → Nat} {d : Nat} (hd : d < 7) (h9 : rb_ro ρ a9) (hp : ∀ i, i < d + 1 → p i < 4 ∧ a10 i = nI (p i)) (hq : ∀ i, i < d + 1 → q i < 4 ∧ a11 i = nI (q i)) (H : ∀ b9, rb_ro (rb_mp ρ p q (d + 1)) b9 → post (4, t, a1, a2, a3, a4, a5, a6, a7, a8, b9, a10, a11)) : wpX_movePath post (4, t, a1, a2, a3, a4, a5, a6, a7, a8, a9, a10, a11) (nI d) := by
  refine pk_loop (fun n i s => wX_movePath_2 post (nI d) 4 t n (nI i) a1 a2 a3 a4 a5 a6 a7 a8 s a10 a11) (fun i s => rb_ro (rb_mp ρ p q i) s) (d + 1) 0 a9 (by omega) h9
    (fun n s h => pk_lt d (d + 1) (fun _ => H s h) (fun z => absurd z (by omega)))
    (fun n i s hi h hw => pk_lt d i (fun z => absurd z (by omega)) (fun _ => ⟨pk_in i 7 (by omega), pk_in i 7 (by omega), ?_⟩))
  obtain ⟨p1, p2⟩ := hp i hi
  obtain ⟨q1, q2⟩ := hq i hi
  rw [nI_clamp (show i < 2 ^ 31 by omega), q2, p2, rb_nar _ p1, nI_clamp (show q i < 2 ^ 31 by omega)]
  refine ⟨vp_in_nI (by omega) (by omega), nm_e (nm_r (nI_1 i) (hw _ ?_))⟩
  intro c hc
  show _ = rb_en (rb_up (rb_mp ρ p q i) (q i) (p i) c)
  by_cases e : c = q i
  · rw [e, pk_us, rb_up_s]
    unfold rb_en
    rw [if_pos p1]
  · rw [pk_un e, rb_up_n e]
    exact h c hc
theorem rb_fc {post : Int32 → St2 → Prop} {a1 a2 a3 a4 a5 a6 a7 a8 a9 a10 a11 : Nat → Int32} {B ρ : Nat → Nat} {R U f : Nat} (hR : R < 4) (hB : rb_bd B a1) (ho : rb_OI B ρ R U f) (h9 : rb_ro ρ a9)
    (H0 : ∀ U', rb_OI B ρ (R + 1) U' f → ∀ t b10 b11, post 0 (4, t, a1, a2, a3, a4, a5, a6, a7, a8, a9, b10, b11))
    (H1 : ∀ ν, rb_OI B ν (R + 1) U (f + 1) → ∀ t b9 b10 b11, rb_ro ν b9 → post 1 (4, t, a1, a2, a3, a4, a5, a6, a7, a8, b9, b10, b11)) :
    ∀ n st d T p q b10 b11, 10 ≤ st + n → st + d = 2 * rb_pc T → d ≤ rb_pc T → rb_LI B ρ R T d p q → (∀ i, i < d + 1 → b10 i = nI (p i)) → (∀ i, i < d → b11 i = nI (q i)) → wX_findColumn_12 post 4 n (nI d) (nI st) (nI T) a1 a2 a3 a4 a5 a6 a7 a8 a9 b10 b11 := by
  intro n
  induction n with
  | zero =>
    intro st d T p q b10 b11 h1 h2 h3 hl hp hq
    have := rb_pc4 T hl.1
    omega
  | succ n ih =>
    intro st d T p q b10 b11 h1 h2 h3 hl hp hq
    have pc4 := rb_pc4 T hl.1
    have p4 : ∀ i, i < d + 1 → p i < 4 := by
      intro i hi
      cases i with
      | zero =>
        have := hl.2.1
        omega
      | succ i => exact (hl.2.2.1 i (by omega)).2.2.2.2
    have hb := hB (p d) (p4 d (by omega))
    obtain ⟨f1, f2, f3⟩ := rb_free _ hb.1 T hl.1
    refine pk_le 100 st (fun z => absurd z (by omega)) (fun _ => br_f (nI_pos (by omega)) ⟨pk_in d 7 (by omega), ?_⟩)
    rw [nI_clamp (show d < 2 ^ 31 by omega), hp d (by omega), nI_clamp (show p d < 2 ^ 31 by have := p4 d (by omega); omega), hb.2]
    refine ⟨pk_in (p d) 6 (by have := p4 d (by omega); omega), nm_r f1 (pk_eq (B (p d) &&& (15 - T)) 0 (fun z => ?_) (fun z => ?_))⟩
    · have hs : rb_sb (B (p d)) T := by
        intro c hc hbt
        have := f3 c hc
        rw [z, Nat.zero_testBit, hbt, Bool.true_and] at this
        cases hT : T.testBit c with
        | true => rfl
        | false =>
          rw [hT] at this
          cases this
      cases d with
      | zero =>
        refine nm_e (nm_r (nI_1 st) ?_)
        cases n with
        | zero => omega
        | succ n =>
          exact br_f (nI_ge (b := 100) (by omega) (by omega)) (br_t (by decide) (H0 _ (rb_LI_fail hl hs ho) _ b10 b11))
      | succ d =>
        exact nm_r (pk_m1 d) (nm_r (nI_1 st) (ih (st + 1) d T p q b10 b11 (by omega) (by omega) (by omega) (rb_LI_pop hl hs) (fun i hi => hp i (by omega)) (fun i hi => hq i (by omega))))
    · obtain ⟨c, hc, hbt, e1, -, -, -⟩ := rb_low _ f2 (by omega)
      rw [f3 c hc, Bool.and_eq_true, Bool.not_eq_true'] at hbt
      obtain ⟨g1, g2, g3⟩ := rb_pcm c hc
      obtain ⟨o1, o2⟩ := rb_or T hl.1 c hc
      have ob := rb_orb T hl.1 c hc
      have obp := ob.2.1 hbt.2
      have pc4' := rb_pc4 _ o2
      refine nm_r e1 ?_
      rw [g1]
      refine rb_sizeOf g2 ?_
      rw [g3, nI_clamp (show c < 2 ^ 31 by omega), rb_nar8 c hc, h9 c hc]
      refine nm_r o1 ⟨pk_in d 7 (by omega), nm_e ⟨pk_in c 6 (by omega), ?_⟩⟩
      by_cases hr : ρ c < 4
      · have en : rb_en (ρ c) = nI (ρ c) := if_pos hr
        rw [en, rb_nar _ hr]
        refine br_t (nI_pos' (by omega)) (nm_r (nI_1 d) ⟨pk_in c 6 (by omega), pk_in (d + 1) 7 (by omega), ?_⟩)
        rw [nI_clamp (show d + 1 < 2 ^ 31 by omega)]
        refine nm_e (nm_r (nI_1 st) (ih (st + 1) (d + 1) (T ||| 2 ^ c) _ _ _ _ (by omega) (by omega) (by omega) (rb_LI_push hl hc hbt.1 hbt.2 hr) (fun i hi => ?_) (fun i hi => ?_)))
        · by_cases e : i = d + 1
          · rw [e, pk_us, rb_up_s]
          · rw [pk_un e, rb_up_n e]
            exact hp i (by omega)
        · by_cases e : i = d
          · rw [e, pk_us, rb_up_s]
          · rw [pk_un e, rb_up_n e]
            exact hq i (by omega)
      · have en : rb_en (ρ c) = -1 := if_neg hr
        rw [en]
        refine br_f (by decide) (rb_move (ρ := ρ) (p := p) (q := rb_up q d c) (by omega) h9 (fun i hi => ⟨p4 i hi, hp i hi⟩) (fun i hi => ?_) (fun b9 h => H1 _ (rb_LI_hit hR hl ho hc hbt.1 hbt.2 hr) _ b9 _ _ h))
        by_cases e : i = d
        · rw [e, pk_us, rb_up_s]
          exact ⟨hc, rfl⟩
        · rw [pk_un e, rb_up_n e]
          exact ⟨(hl.2.2.1 i (by omega)).1, hq i (by omega)⟩
theorem rb_fcol {post : Int32 → St2 → Prop} {a1 a2 a3 a4 a5 a6 a7 a8 a9 a10 a11 : Nat → Int32} {B ρ : Nat → Nat} {R U f : Nat} (hR : R < 4) (hB : rb_bd B a1) (ho : rb_OI B ρ R U f) (h9 : rb_ro ρ a9)
    (H0 : ∀ U', rb_OI B ρ (R + 1) U' f → ∀ t b10 b11, post 0 (4, t, a1, a2, a3, a4, a5, a6, a7, a8, a9, b10, b11))
    (H1 : ∀ ν, rb_OI B ν (R + 1) U (f + 1) → ∀ t b9 b10 b11, rb_ro ν b9 → post 1 (4, t, a1, a2, a3, a4, a5, a6, a7, a8, b9, b10, b11)) : wpX_findColumn post (4, 0, a1, a2, a3, a4, a5, a6, a7, a8, a9, a10, a11) (nI R) := by
  refine nm_e ⟨12, rb_fc (a10 := a10) (a11 := a11) hR hB ho h9 H0 H1 12 0 0 0 (fun _ => R) (fun _ => 0) _ _ (by omega) rfl (by omega) rb_LI_0 (fun i hi => ?_) (fun i hi => absurd hi (by omega))⟩
  rw [show i = 0 by omega, pk_us, rb_nar8 R hR]
theorem rb_OI_0 (B : Nat → Nat) : rb_OI B (fun _ => 4) 0 0 0 :=
  ⟨fun c _ h => absurd h (Nat.lt_irrefl 4), fun c e _ _ h => absurd h (Nat.lt_irrefl 4), fun c _ h => absurd h (by rw [Nat.zero_testBit]; decide), fun y hy => absurd hy (by omega), rfl⟩
theorem rb_findMost {post : Int32 → St2 → Prop} {t : Int32} {a1 a2 a3 a4 a5 a6 a7 a8 a9 a10 a11 : Nat → Int32} {B : Nat → Nat} (hB : rb_bd B a1) (H : ∀ ρ U f, rb_OI B ρ 4 U f → ∀ t b9 b10 b11, post (nI f) (4, t, a1, a2, a3, a4, a5, a6, a7, a8, b9, b10, b11)) : wpX_findMost post (4, t, a1, a2, a3, a4, a5, a6, a7, a8, a9, a10, a11) := by
  refine pk_loop (fun n i s => wX_findMost_2 post 4 t n (nI i) a1 a2 a3 a4 a5 a6 a7 a8 s a10 a11) (fun i s => ∀ j, j < i → s j = -1) 6 0 a9 (by omega) (fun j hj => absurd hj (by omega))
    (fun n s h => pk_le 6 6 (fun _ => ?_) (fun z => absurd z (by omega)))
    (fun n i s hi h hw => pk_le 6 i (fun z => absurd z (by omega)) (fun _ => ⟨pk_in i 6 (by omega), nm_e (nm_r (nI_1 i) (hw _ (rb_fill (f := fun _ => -1) (nI_clamp (by omega)) h rfl)))⟩))
  refine pk_loop (σ := Int32 × Int32 × (Nat → Int32) × (Nat → Int32) × (Nat → Int32)) (fun n i p => wX_findMost_25 post n p.1 (nI i) 4 p.2.1 a1 a2 a3 a4 a5 a6 a7 a8 p.2.2.1 p.2.2.2.1 p.2.2.2.2) (fun i p => ∃ ρ U f, rb_OI B ρ i U f ∧ p.1 = nI f ∧ rb_ro ρ p.2.2.1) 4 0 (0, t, s, a10, a11) (by omega) ?_
    (fun n p h => pk_le 4 4 (fun _ => ?_) (fun z => absurd z (by omega)))
    (fun n i p hi h hw => pk_le 4 i (fun z => absurd z (by omega)) (fun _ => ?_))
  · exact ⟨fun _ => 4, 0, 0, rb_OI_0 B, rfl, fun c hc => h c (by omega)⟩
  · obtain ⟨ρ, U, f, ho, e, _⟩ := h
    rw [e]
    exact H ρ U f ho _ _ _ _
  · obtain ⟨ρ, U, f, ho, e, h9⟩ := h
    rw [e]
    refine rb_fcol hi hB ho h9 (fun U' ho' t' b10 b11 => br_t rfl (nm_r (nI_1 i) (hw (nI f, t', _, b10, b11) ⟨ρ, U', f, ho', rfl, h9⟩))) (fun ν ho' t' b9 b10 b11 h9' => br_f (by decide) (nm_r (nI_1 f) (nm_r (nI_1 i) (hw (nI (f + 1), t', b9, b10, b11) ⟨ν, U, f + 1, ho', rfl, h9'⟩))))
end
section
/-! a greatest placement, a cover, and weak duality -/
def rb_pl (s : Nat → Nat) : Nat → Nat := fun y => if s 0 = y then 0 else if s 1 = y then 1 else if s 2 = y then 2 else if s 3 = y then 3 else 4
def rb_rw (s : Nat → Nat) (u y : Nat) : Bool := (decide (s 0 = y) && !u.testBit 0) || (decide (s 1 = y) && !u.testBit 1) || (decide (s 2 = y) && !u.testBit 2) || (decide (s 3 = y) && !u.testBit 3)
def rb_vv (s : Nat → Nat) (u : Nat) : Nat := (if rb_rw s u 0 = true then 1 else 0) + (if rb_rw s u 1 = true then 2 else 0) + (if rb_rw s u 2 = true then 4 else 0) + (if rb_rw s u 3 = true then 8 else 0) + 16 * u
def rb_s8 (v : Nat) : Nat := rb_n (fun y => v / 2 ^ y % 2) 8
def rb_inj (s : Nat → Nat) : Bool := decide (∀ c : Nat, c < 4 → ∀ e : Nat, e < 4 → s c < 4 → s c = s e → c = e)
def rb_k1 (s : Nat → Nat) : Bool := decide (∀ y : Nat, y < 4 → rb_pl s y < 5 ∧ (rb_pl s y < 4 → s (rb_pl s y) = y))
def rb_k2 (s : Nat → Nat) (u : Nat) : Bool := decide (∀ c : Nat, c < 4 → u.testBit c = true → s c < 4)
def rb_k3 (s : Nat → Nat) (u : Nat) : Bool := decide ((∀ c : Nat, c < 4 → (rb_vv s u).testBit (4 + c) = u.testBit c) ∧ ∀ c : Nat, c < 4 → s c < 4 → u.testBit c = false → (rb_vv s u).testBit (s c) = true)
theorem rb_pl_0 : ∀ m, m < 625 → rb_inj (rb_d2 m) = true → rb_gd (rb_pl (rb_d2 m)) 4 = true ∧ rb_sz (rb_pl (rb_d2 m)) 4 = rb_ct4 (rb_d2 m) ∧ rb_k1 (rb_d2 m) = true := by decide +kernel
theorem rb_vv_0 : ∀ m, m < 625 → rb_inj (rb_d2 m) = true → ∀ u, u < 16 → rb_k2 (rb_d2 m) u = true → rb_vv (rb_d2 m) u < 256 ∧ rb_s8 (rb_vv (rb_d2 m) u) = rb_ct4 (rb_d2 m) ∧ rb_k3 (rb_d2 m) u = true := by decide +kernel
def rb_cu (d : Nat → Nat) (u : Nat) : Nat := rb_n (fun y => if d y < 4 ∧ u.testBit (d y) = true then 1 else 0) 4
theorem rb_weak_0 : ∀ m, m < 625 → rb_gd (rb_d2 m) 4 = true → ∀ u, u < 16 → rb_cu (rb_d2 m) u ≤ rb_pc u := by decide +kernel
theorem rb_v16 : ∀ v, v < 256 → v / 16 < 16 ∧ rb_s8 v = rb_n (fun y => v / 2 ^ y % 2) 4 + rb_pc (v / 16) ∧ (∀ c, c < 4 → v.testBit (4 + c) = (v / 16).testBit c) ∧ ∀ y, y < 4 → (v.testBit y = true → v / 2 ^ y % 2 = 1) := by decide +kernel
theorem rb_sz_n (d : Nat → Nat) (n : Nat) : rb_sz d n = rb_n (fun y => if d y < 4 then 1 else 0) n := by
  induction n with
  | zero => rfl
  | succ n ih =>
    show (if d n < 4 then rb_sz d n + 1 else rb_sz d n) = rb_n (fun y => if d y < 4 then 1 else 0) n + (if d n < 4 then 1 else 0)
    rw [ih]
    split <;> omega
theorem rb_n_sum (f g : Nat → Nat) (n : Nat) : rb_n (fun m => f m + g m) n = rb_n f n + rb_n g n := by
  induction n with
  | zero => rfl
  | succ n ih =>
    show rb_n (fun m => f m + g m) n + (f n + g n) = rb_n f n + f n + (rb_n g n + g n)
    omega
def rb_cv (B : Nat → Nat) (v : Nat) : Prop := ∀ y, y < 4 → ∀ c, c < 4 → (B y).testBit c = true → v.testBit y = true ∨ v.testBit (4 + c) = true
theorem rb_weak {B : Nat → Nat} {a b c d v : Nat} (ha : a < 5) (hb : b < 5) (hc : c < 5) (hd : d < 5) (hg : rb_gd (rb_dg a b c d) 4 = true) (ho : rb_on B (rb_dg a b c d) 4 = rb_sz (rb_dg a b c d) 4) (hv : v < 256) (hcv : rb_cv B v) : rb_sz (rb_dg a b c d) 4 ≤ rb_s8 v := by
  have w := rb_all (P := fun d => rb_gd d 4 = true → ∀ u, u < 16 → rb_cu d u ≤ rb_pc u) rb_weak_0 ha hb hc hd hg
  have o := (rb_ow (B := B) (d := rb_dg a b c d) 4).mp ho
  obtain ⟨v1, v2, v3, v4⟩ := rb_v16 v hv
  have w1 := w (v / 16) v1
  generalize rb_dg a b c d = e at *
  have le : rb_sz e 4 ≤ rb_n (fun y => v / 2 ^ y % 2 + (if e y < 4 ∧ (v / 16).testBit (e y) = true then 1 else 0)) 4 := by
    rw [rb_sz_n]
    refine rb_n_le (fun y hy => ?_)
    by_cases h4 : e y < 4
    · rw [if_pos h4]
      rcases hcv y hy (e y) h4 (o y hy h4) with g | g
      · have := v4 y hy g
        omega
      · rw [v3 _ h4] at g
        rw [if_pos ⟨h4, g⟩]
        omega
    · rw [if_neg h4]
      omega
  rw [rb_n_sum] at le
  have w2 : rb_n (fun y => if e y < 4 ∧ (v / 16).testBit (e y) = true then 1 else 0) 4 ≤ rb_pc (v / 16) := w1
  omega
def rb_lo (ρ : Nat → Nat) (c : Nat) : Nat := if ρ c < 4 then ρ c else 4
theorem rb_lo_5 (ρ : Nat → Nat) (c : Nat) : rb_lo ρ c < 5 := by
  unfold rb_lo
  split <;> omega
theorem rb_lo_dg (ρ : Nat → Nat) {c : Nat} (hc : c < 4) : rb_dg (rb_lo ρ 0) (rb_lo ρ 1) (rb_lo ρ 2) (rb_lo ρ 3) c = rb_lo ρ c := by
  have h : c = 0 ∨ c = 1 ∨ c = 2 ∨ c = 3 := by omega
  rcases h with rfl | rfl | rfl | rfl <;> rfl
theorem rb_lo_4 {ρ : Nat → Nat} {c : Nat} : rb_lo ρ c < 4 ↔ ρ c < 4 := by
  unfold rb_lo
  split <;> omega
theorem rb_lo_e {ρ : Nat → Nat} {c : Nat} (h : ρ c < 4) : rb_lo ρ c = ρ c := if_pos h
theorem rb_lo_inj {B ρ : Nat → Nat} {R U f : Nat} (h : rb_OI B ρ R U f) : rb_inj (rb_dg (rb_lo ρ 0) (rb_lo ρ 1) (rb_lo ρ 2) (rb_lo ρ 3)) = true := by
  refine decide_eq_true ?_
  intro c hc e he h4 eq
  rw [rb_lo_dg ρ hc] at h4 eq
  rw [rb_lo_dg ρ he] at eq
  have h4' := rb_lo_4.mp h4
  have h5 : ρ e < 4 := rb_lo_4.mp (by rw [← eq]; exact h4)
  rw [rb_lo_e h4', rb_lo_e h5] at eq
  exact h.2.1 c e hc he h4' eq
theorem rb_lo_ct (ρ : Nat → Nat) : rb_ct4 (rb_dg (rb_lo ρ 0) (rb_lo ρ 1) (rb_lo ρ 2) (rb_lo ρ 3)) = rb_ct4 ρ := by
  unfold rb_ct4
  refine rb_n_c (fun c hc => ?_)
  rw [rb_lo_dg ρ hc]
  by_cases h : ρ c < 4
  · rw [if_pos h, if_pos (rb_lo_4.mpr h)]
  · rw [if_neg h, if_neg (fun z => h (rb_lo_4.mp z))]
theorem rb_dg_eta (d : Nat → Nat) : ∀ y, y < 4 → rb_dg (d 0) (d 1) (d 2) (d 3) y = d y := by
  intro y hy
  have h : y = 0 ∨ y = 1 ∨ y = 2 ∨ y = 3 := by omega
  rcases h with rfl | rfl | rfl | rfl <;> rfl
theorem rb_place {B ρ : Nat → Nat} {U f : Nat} (h : rb_OI B ρ 4 U f) : ∃ a b c d, a < 5 ∧ b < 5 ∧ c < 5 ∧ d < 5 ∧ rb_gd (rb_dg a b c d) 4 = true ∧ rb_on B (rb_dg a b c d) 4 = rb_sz (rb_dg a b c d) 4 ∧ rb_sz (rb_dg a b c d) 4 = f := by
  have cl := rb_all (P := fun s => rb_inj s = true → rb_gd (rb_pl s) 4 = true ∧ rb_sz (rb_pl s) 4 = rb_ct4 s ∧ rb_k1 s = true) rb_pl_0 (rb_lo_5 ρ 0) (rb_lo_5 ρ 1) (rb_lo_5 ρ 2) (rb_lo_5 ρ 3) (rb_lo_inj h)
  rw [rb_lo_ct] at cl
  obtain ⟨c1, c2, c3'⟩ := cl
  have c3 := of_decide_eq_true c3'
  have hs : ∀ c, c < 4 → rb_dg (rb_lo ρ 0) (rb_lo ρ 1) (rb_lo ρ 2) (rb_lo ρ 3) c = rb_lo ρ c := fun c => rb_lo_dg ρ
  generalize rb_dg (rb_lo ρ 0) (rb_lo ρ 1) (rb_lo ρ 2) (rb_lo ρ 3) = s at *
  refine ⟨rb_pl s 0, rb_pl s 1, rb_pl s 2, rb_pl s 3, (c3 0 (by omega)).1, (c3 1 (by omega)).1, (c3 2 (by omega)).1, (c3 3 (by omega)).1, c1, ?_, ?_⟩
  · refine (rb_ow 4).mpr (fun y hy h4 => ?_)
    rw [rb_dg_eta (rb_pl s) y hy] at h4 ⊢
    have g := (c3 y hy).2 h4
    rw [hs _ h4] at g
    have g4 : ρ (rb_pl s y) < 4 := rb_lo_4.mp (by rw [g]; exact hy)
    rw [rb_lo_e g4] at g
    have := (h.1 (rb_pl s y) h4 g4).2
    rw [g] at this
    exact this
  · have e : rb_sz (rb_dg (rb_pl s 0) (rb_pl s 1) (rb_pl s 2) (rb_pl s 3)) 4 = rb_sz (rb_pl s) 4 := rfl
    rw [e, c2, h.2.2.2.2]
theorem rb_cover {B ρ : Nat → Nat} {U f : Nat} (h : rb_OI B ρ 4 U f) : ∃ v, v < 256 ∧ rb_cv B v ∧ rb_s8 v = f := by
  obtain ⟨u, hu, u0, u1, u2, u3⟩ := rb_bits (U.testBit 0) (U.testBit 1) (U.testBit 2) (U.testBit 3)
  have hU : ∀ c, c < 4 → u.testBit c = U.testBit c := by
    intro c hc
    have h : c = 0 ∨ c = 1 ∨ c = 2 ∨ c = 3 := by omega
    rcases h with rfl | rfl | rfl | rfl <;> assumption
  have cl := rb_all (P := fun s => rb_inj s = true → ∀ u, u < 16 → rb_k2 s u = true → rb_vv s u < 256 ∧ rb_s8 (rb_vv s u) = rb_ct4 s ∧ rb_k3 s u = true) rb_vv_0 (rb_lo_5 ρ 0) (rb_lo_5 ρ 1) (rb_lo_5 ρ 2) (rb_lo_5 ρ 3) (rb_lo_inj h) u hu (decide_eq_true (fun c hc hb => by rw [rb_lo_dg ρ hc]; exact rb_lo_4.mpr (h.2.2.1 c hc (by rw [← hU c hc]; exact hb)).1))
  rw [rb_lo_ct] at cl
  obtain ⟨c1, c2, c3'⟩ := cl
  obtain ⟨c3, c4⟩ := of_decide_eq_true c3'
  refine ⟨_, c1, fun y hy c hc hb => ?_, by rw [c2, h.2.2.2.2]⟩
  have col : rb_sb (B y) U → (rb_vv (rb_dg (rb_lo ρ 0) (rb_lo ρ 1) (rb_lo ρ 2) (rb_lo ρ 3)) u).testBit (4 + c) = true := by
    intro g
    rw [c3 c hc, hU c hc]
    exact g c hc hb
  rcases h.2.2.2.1 y hy with ⟨e, he, g⟩ | g
  · have e4 : ρ e < 4 := by omega
    by_cases hu : U.testBit e = true
    · refine Or.inr (col ?_)
      have := (h.2.2.1 e he hu).2
      rw [g] at this
      exact this
    · refine Or.inl ?_
      have k := c4 e he (by rw [rb_lo_dg ρ he]; exact rb_lo_4.mpr e4) (by rw [hU e he]; simpa using hu)
      rw [rb_lo_dg ρ he, rb_lo_e e4, g] at k
      exact k
  · exact Or.inr (col g)
/-! needed -/
theorem rb_5_le (f : Nat → Nat) {c : Nat} (hc : c < 5) : f c ≤ rb_5 f := by
  have h : c = 0 ∨ c = 1 ∨ c = 2 ∨ c = 3 ∨ c = 4 := by omega
  unfold rb_5
  rcases h with rfl | rfl | rfl | rfl | rfl <;> omega
theorem rb_S_le (F : Nat → Nat → Nat → Nat → Nat) {a b c d : Nat} (ha : a < 5) (hb : b < 5) (hc : c < 5) (hd : d < 5) : F a b c d ≤ rb_S F :=
  Nat.le_trans (rb_5_le (fun d => F a b c d) hd) (Nat.le_trans (rb_5_le (fun c => rb_5 (fun d => F a b c d)) hc) (Nat.le_trans (rb_5_le (fun b => rb_5 (fun c => rb_5 (fun d => F a b c d))) hb) (rb_5_le (fun a => rb_5 (fun b => rb_5 (fun c => rb_5 (fun d => F a b c d)))) ha)))
def rb_cc (d : Nat → Nat) (n : Nat) : Nat := rb_n (fun x => if x / 6 < 4 ∧ x % 6 < 4 ∧ d (x / 6) = x % 6 then 1 else 0) n
theorem rb_cc_0 : ∀ m, m < 625 → rb_cc (rb_d2 m) 36 = rb_sz (rb_d2 m) 4 := by decide +kernel
theorem rb_need_1 {B : Nat → Nat} {k r c a b e d : Nat} (hB : ∀ y, y < 4 → B y < 16) (hr : r < 4) (hc : c < 4) (ha : a < 5) (hb : b < 5) (he : e < 5) (hd : d < 5) (h1 : rb_F B k (rb_dg a b e d) = 1) (h : rb_th B k r c = rb_P B 4 k 0) : rb_dg a b e d r = c := by
  have p1 : 1 ≤ rb_P B 4 k 0 := by
    rw [rb_P_S, ← h1]
    exact rb_S_le (fun a b e d => rb_F B k (rb_dg a b e d)) ha hb he hd
  have hbt : (B r).testBit c = true := by
    cases hbt : (B r).testBit c with
    | true => rfl
    | false =>
      rw [rb_th_0 hr hc (Or.inl hbt)] at h
      omega
  have s := rb_th_s (k := k) hr hc hB hbt
  have p0 : rb_P (rb_less B r c) 4 k 0 = 0 := by omega
  have f0 : rb_F (rb_less B r c) k (rb_dg a b e d) ≤ 0 := by
    rw [← p0, rb_P_S]
    exact rb_S_le (fun a b e d => rb_F (rb_less B r c) k (rb_dg a b e d)) ha hb he hd
  have fs := rb_FT_s (k := k) hr hc hB hbt (rb_dg a b e d) (rb_dg_5 ha hb he hd)
  have ft : rb_FT B k r c (rb_dg a b e d) = 1 := by omega
  unfold rb_FT at ft
  by_cases g : (rb_gd (rb_dg a b e d) 4 = true ∧ rb_on B (rb_dg a b e d) 4 = rb_sz (rb_dg a b e d) 4 ∧ rb_sz (rb_dg a b e d) 4 = k) ∧ rb_dg a b e d r = c
  · exact g.2
  · rw [if_neg g] at ft
    cases ft
theorem rb_ct4_4 (ρ : Nat → Nat) : rb_ct4 ρ ≤ 4 := rb_n_b (fun m _ => by split <;> omega)
theorem rb_needed {post : Int32 → St2 → Prop} {t : Int32} {a1 a2 a3 a4 a5 a6 a7 a8 a9 a10 a11 : Nat → Int32} {B : Nat → Nat} (hB : rb_bd B a1) (H : ∀ ρ U f many, rb_OI B ρ 4 U f → many ≤ f → ∀ t b3 b4 b9 b10 b11, post (nI many) (4, t, a1, a2, b3, b4, a5, a6, a7, a8, b9, b10, b11)) : wpX_needed post (4, t, a1, a2, a3, a4, a5, a6, a7, a8, a9, a10, a11) := by
  have hB' : ∀ y, y < 4 → B y < 16 := fun y hy => (hB y hy).1
  unfold wpX_needed
  refine rb_findMost hB (fun ρ U f ho t' b9 b10 b11 => ?_)
  obtain ⟨a, b, e, d, ha, hb, he, hd, g1, g2, g3⟩ := rb_place ho
  have hF : rb_F B f (rb_dg a b e d) = 1 := if_pos ⟨g1, g2, g3⟩
  have f4 : f ≤ 4 := by
    rw [ho.2.2.2.2]
    exact rb_ct4_4 ρ
  have cc : rb_cc (rb_dg a b e d) 36 = f := by
    rw [← g3]
    exact rb_all (P := fun d => rb_cc d 36 = rb_sz d 4) rb_cc_0 ha hb he hd
  show ∃ n, wX_needed_9 post (nI f) n 0 0 4 t' a1 a2 a3 a4 a5 a6 a7 a8 b9 b10 b11
  refine pk_loop (σ := Int32 × (Nat → Int32) × (Nat → Int32)) (fun n i p => wX_needed_9 post (nI f) n p.1 (nI i) 4 t' a1 a2 p.2.1 p.2.2 a5 a6 a7 a8 b9 b10 b11) (fun i p => ∃ many, p.1 = nI many ∧ many ≤ rb_cc (rb_dg a b e d) i) 36 0 (0, a3, a4) (by omega) ⟨0, rfl, Nat.zero_le _⟩
    (fun n p h => pk_le 36 36 (fun _ => ?_) (fun z => absurd z (by omega)))
    (fun n i p hi h hw => pk_le 36 i (fun z => absurd z (by omega)) (fun _ => ?_))
  · obtain ⟨many, e1, e2⟩ := h
    rw [e1]
    exact H ρ U f many ho (by omega) _ _ _ _ _ _
  · obtain ⟨many, e1, e2⟩ := h
    rw [e1]
    have up : rb_cc (rb_dg a b e d) i ≤ rb_cc (rb_dg a b e d) (i + 1) := rb_n_mono _ (by omega)
    refine rb_badCell hi (fun z1 z2 => br_t rfl (pk_le f 0 (fun _ => nm_r (nI_1 i) (hw (nI many, p.2.1, p.2.2) ⟨many, rfl, by omega⟩)) (fun z3 => ?_))) (fun _ => br_f (by decide) (nm_r (nI_1 i) (hw (nI many, p.2.1, p.2.2) ⟨many, rfl, by omega⟩)))
    have ei : i = 6 * (i / 6) + i % 6 := by omega
    have pb := rb_P_le B f
    have tb : rb_th B f (i / 6) (i % 6) ≤ 625 := by
      by_cases hbt : (B (i / 6)).testBit (i % 6) = true
      · have := rb_th_s (k := f) z1 z2 hB' hbt
        omega
      · rw [rb_th_0 z1 z2 (Or.inl (by simpa using hbt))]
        omega
    have go : wpX_countThrough (fun r_43 u => match u with | (f0_n_44, f0_tried_45, am301_48, am302_51, am303_54, am304_57, am305_60, am306_63, am307_66, am308_69, am309_72, am3010_75, am3011_78) => (wpX_countOf (fun r_79 u => match u with | (f0_n_80, f0_tried_81, am371_84, am372_87, am373_90, am374_93, am375_96, am376_99, am377_102, am378_105, am379_108, am3710_111, am3711_114) => (((r_43 = r_79 → (∀ x2_117 : Int32, x2_117 = nI many + 1 → (∀ x3_118 : Int32, x3_118 = nI i + 1 → (wX_needed_9 post (nI f) n x2_117 x3_118 f0_n_80 f0_tried_81 am371_84 am372_87 am373_90 am374_93 am375_96 am376_99 am377_102 am378_105 am379_108 am3710_111 am3711_114)))) ∧ (¬ r_43 = r_79 → (∀ x3_116 : Int32, x3_116 = nI i + 1 → (wX_needed_9 post (nI f) n (nI many) x3_116 f0_n_80 f0_tried_81 am371_84 am372_87 am373_90 am374_93 am375_96 am376_99 am377_102 am378_105 am379_108 am3710_111 am3711_114)))))) (f0_n_44, f0_tried_45, am301_48, am302_51, am303_54, am304_57, am305_60, am306_63, am307_66, am308_69, am309_72, am3010_75, am3011_78) (nI f))) (4, t', a1, a2, p.2.1, p.2.2, a5, a6, a7, a8, b9, b10, b11) (nI (6 * (i / 6) + i % 6)) (nI f) := by
      refine rb_thr f4 z1 z2 hB (fun c3 c4 => rb_count (by omega) hB (fun d3 d4 => pk_eq (rb_th B f (i / 6) (i % 6)) (rb_P B 4 f 0) (fun z => nm_r (nI_1 many) (nm_r (nI_1 i) (hw (nI (many + 1), d3, d4) ⟨many + 1, rfl, ?_⟩))) (fun z => nm_r (nI_1 i) (hw (nI many, d3, d4) ⟨many, rfl, by omega⟩))))
      have g := rb_need_1 hB' z1 z2 ha hb he hd hF z
      show many + 1 ≤ rb_cc (rb_dg a b e d) i + (if i / 6 < 4 ∧ i % 6 < 4 ∧ rb_dg a b e d (i / 6) = i % 6 then 1 else 0)
      rw [if_pos ⟨z1, z2, g⟩]
      omega
    rw [← ei] at go
    exact go
end
section
/-! the constructor -/
theorem rb_ch_0 : ∀ i, i < 7 → ∀ j, j < 7 → i < j → rb_ch i j = 0 := by decide +kernel
/-- rows of the triangle below row i, and the first j places of row i; beyond them nothing -/
def rb_tr (i j : Nat) (a : Nat → Int32) : Prop := (∀ e, e < i → ∀ f, f < 7 → a (7 * e + f) = nI (rb_ch e f)) ∧ (∀ f, f < j → a (7 * i + f) = nI (rb_ch i f)) ∧ ∀ x, 7 * i + j ≤ x → a x = 0
theorem rb_in197 {post : St2 → Prop} {mc ms kc ks : Nat} {J : Int32 → (Nat → Int32) → (Nat → Int32) → (Nat → Int32) → (Nat → Int32) → (Nat → Int32) → (Nat → Int32) → (Nat → Int32) → (Nat → Int32) → (Nat → Int32) → (Nat → Int32) → (Nat → Int32) → Prop} {t : Int32} {a1 a2 a3 a4 a5 a6 a7 a8 a9 a10 a11 : Nat → Int32} {i : Nat} (hi : i < 7) (h : rb_tr i 1 a8) (H : ∀ b8, rb_tr (i + 1) 0 b8 → J (nI (i + 1)) a1 a2 a3 a4 a5 a6 a7 b8 a9 a10 a11) : ∃ n, wX_init_197 post mc ms J (nI i) kc ks 4 t n 1 a1 a2 a3 a4 a5 a6 a7 a8 a9 a10 a11 := by
  refine pk_loop (fun n j s => wX_init_197 post mc ms J (nI i) kc ks 4 t n (nI j) a1 a2 a3 a4 a5 a6 a7 s a9 a10 a11) (fun j s => 1 ≤ j ∧ rb_tr i j s) (i + 1) 1 a8 (by omega) ⟨Nat.le_refl 1, h⟩
    (fun n s g => pk_lt i (i + 1) (fun _ => nm_r (nI_1 i) (H s ?_)) (fun z => absurd z (by omega)))
    (fun n j s hj g' hw => pk_lt i j (fun z => absurd z (by omega)) (fun _ => ?_))
  · replace g := g.2
    refine ⟨fun e he f hf => ?_, fun f hf => absurd hf (by omega), fun x hx => g.2.2 x (by omega)⟩
    by_cases ei : e = i
    · rw [ei]
      by_cases hf2 : f < i + 1
      · exact g.2.1 f hf2
      · rw [g.2.2 _ (by omega), rb_ch_0 i hi f hf (by omega)]
        rfl
    · exact g.1 e (by omega) f hf
  · obtain ⟨j0, g⟩ := g'
    · have e0 : 7 * (nI i - 1) + nI j = nI (7 * (i - 1) + j) := by
        rw [show nI i - 1 = nI (i - 1) from pk_sub (b := 1) (by omega), show (7 : Int32) = nI 7 from rfl, pk_mul, nI_add]
      have e1 : nI (7 * (i - 1) + j) - 1 = nI (7 * (i - 1) + (j - 1)) := by
        rw [show nI (7 * (i - 1) + j) - 1 = nI (7 * (i - 1) + j - 1) from pk_sub (b := 1) (by omega), show 7 * (i - 1) + j - 1 = 7 * (i - 1) + (j - 1) by omega]
      have e2 : 7 * nI i + nI j = nI (7 * i + j) := by
        rw [show (7 : Int32) = nI 7 from rfl, pk_mul, nI_add]
      rw [e0, e1, e2, nI_clamp (show 7 * (i - 1) + (j - 1) < 2 ^ 31 by omega), nI_clamp (show 7 * (i - 1) + j < 2 ^ 31 by omega), nI_clamp (show 7 * i + j < 2 ^ 31 by omega), g.1 (i - 1) (by omega) (j - 1) (by omega), g.1 (i - 1) (by omega) j (by omega), nI_add]
      have ec : rb_ch (i - 1) (j - 1) + rb_ch (i - 1) j = rb_ch i j := by
        obtain ⟨i', rfl⟩ : ∃ i', i = i' + 1 := ⟨i - 1, by omega⟩
        obtain ⟨j', rfl⟩ : ∃ j', j = j' + 1 := ⟨j - 1, by omega⟩
        rfl
      rw [ec]
      refine ⟨vp_in_nI (by omega) (by omega), vp_in_nI (by omega) (by omega), vp_in_nI (by omega) (by omega), nm_e (nm_r (nI_1 j) (hw _ ⟨by omega, fun e he f hf => ?_, fun f hf => ?_, fun x hx => ?_⟩))⟩
      · rw [pk_un (by omega)]
        exact g.1 e he f hf
      · by_cases ef : f = j
        · rw [ef, pk_us]
        · rw [pk_un (by omega)]
          exact g.2.1 f (by omega)
      · rw [pk_un (by omega)]
        exact g.2.2 x (by omega)
theorem rb_init {post : St2 → Prop} {mc ms : Nat} (hc : 11 ≤ mc) (hs : 1142 ≤ ms) (H : ∀ a2 a7 a8, rb_tf a7 → rb_tc a8 → post (4, 0, (fun _ => 0), a2, (fun _ => 0), (fun _ => 0), (fun _ => 0), (fun _ => 0), a7, a8, (fun _ => 0), (fun _ => 0), (fun _ => 0))) : wpX_init post mc ms (0, 0) 4 := by
  refine ⟨by omega, by omega, by omega, by omega, by omega, by omega, by omega, by omega, by omega, by omega, by omega, by omega, by omega, by omega, by omega, by omega, by omega, by omega, by omega, by omega, by omega, by omega, br_t (by decide) (br_t (by decide) ?_)⟩
  refine pk_loop (fun n i s => wX_init_121 post mc ms 11 1142 4 0 n (nI i) (fun _ => 0) s (fun _ => 0) (fun _ => 0) (fun _ => 0) (fun _ => 0) (fun _ => 0) (fun _ => 0) (fun _ => 0) (fun _ => 0) (fun _ => 0)) (fun _ _ => True) 36 0 (fun _ => 0) (by omega) trivial
    (fun n s _ => pk_le 36 36 (fun _ => nm_e ?_) (fun z => absurd z (by omega)))
    (fun n i s hi _ hw => pk_le 36 i (fun z => absurd z (by omega)) (fun _ => ⟨pk_in i 36 hi, nm_e (nm_r (nI_1 i) (hw _ trivial))⟩))
  refine pk_loop (fun n i f => wX_init_149 post mc ms 11 1142 4 0 n (nI i) (fun _ => 0) s (fun _ => 0) (fun _ => 0) (fun _ => 0) (fun _ => 0) f (fun _ => 0) (fun _ => 0) (fun _ => 0) (fun _ => 0)) (fun i f => 1 ≤ i ∧ ∀ j, j < i → f j = nI (rb_fa j)) 7 1 (upd (fun _ => 0) 0 1) (by omega) ?_
    (fun n f hf' => pk_le 7 7 (fun _ => ?_) (fun z => absurd z (by omega)))
    (fun n i f hi hf' hw => pk_le 7 i (fun z => absurd z (by omega)) (fun _ => ?_))
  · refine ⟨Nat.le_refl 1, fun j hj => ?_⟩
    rw [show j = 0 by omega, pk_us]
    rfl
  · have hf := hf'.2
    refine pk_loop (fun n i c => wX_init_179 post mc ms 11 1142 4 0 n (nI i) (fun _ => 0) s (fun _ => 0) (fun _ => 0) (fun _ => 0) (fun _ => 0) f c (fun _ => 0) (fun _ => 0) (fun _ => 0)) (fun i c => rb_tr i 0 c) 7 0 (fun _ => 0) (by omega) ⟨fun e he => absurd he (by omega), fun e he => absurd he (by omega), fun _ _ => rfl⟩
      (fun n c hc => pk_le 7 7 (fun _ => H s f c (fun i hi => hf i (by omega)) (fun i hi j hj => hc.1 i (by omega) j (by omega))) (fun z => absurd z (by omega)))
      (fun n i c hi hc hw => pk_le 7 i (fun z => absurd z (by omega)) (fun _ => ?_))
    have e2 : 7 * nI i = nI (7 * i) := by
      rw [show (7 : Int32) = nI 7 from rfl, pk_mul]
    rw [e2, nI_clamp (show 7 * i < 2 ^ 31 by omega)]
    refine ⟨vp_in_nI (by omega) (by omega), nm_e (rb_in197 hi ⟨fun e he f hf => ?_, fun f hf => ?_, fun x hx => ?_⟩ (fun b8 hb => hw b8 hb))⟩
    · rw [pk_un (by omega)]
      exact hc.1 e he f hf
    · rw [show f = 0 by omega, Nat.add_zero, pk_us]
      cases i <;> rfl
    · rw [pk_un (by omega)]
      exact hc.2.2 x (by omega)
  · obtain ⟨i0, hf⟩ := hf'
    · rw [show nI i - 1 = nI (i - 1) from pk_sub (b := 1) (by omega), nI_clamp (show i - 1 < 2 ^ 31 by omega), nI_clamp (show i < 2 ^ 31 by omega), hf (i - 1) (by omega)]
      refine ⟨vp_in_nI (by omega) (by omega), vp_in_nI (by omega) (by omega), nm_e (nm_r (nI_1 i) (hw _ ⟨by omega, rb_fill (f := fun j => nI (rb_fa j)) rfl hf ?_⟩))⟩
      rw [pk_mul]
      obtain ⟨i', rfl⟩ : ∃ i', i = i' + 1 := ⟨i - 1, by omega⟩
      rfl
end
section
/-! the board and the weights that the law sets -/
def rb_bb (x : Int32) (z : Nat) : Bool := decide (((x >>> (nI z &&& 31)) &&& 1) = 1)
def rb_mk (x : Int32) (y r : Nat) : Nat := rb_n (fun c => if 4 * r + c < y ∧ rb_bb x (4 * r + c) = true then 2 ^ c else 0) 4
def rb_BB (x : Int32) : Nat → Nat := fun r => rb_mk x 16 r
def rb_ww (x : Int32) : Nat → Int32 := fun z => ((x >>> ((2 * nI z) &&& 31)) &&& 3) - 1
theorem rb_n_up {f g : Nat → Nat} {c x : Nat} (hf : f c = 0) (hg : g c = x) (h : ∀ e, e ≠ c → g e = f e) : ∀ n, rb_n g n = rb_n f n + if c < n then x else 0 := by
  intro n
  induction n with
  | zero => rfl
  | succ n ih =>
    show rb_n g n + g n = rb_n f n + f n + _
    rw [ih]
    by_cases e : n = c
    · rw [e, hf, hg, if_neg (by omega), if_pos (by omega)]
    · rw [h n e]
      by_cases e2 : c < n
      · rw [if_pos e2, if_pos (by omega)]
        omega
      · rw [if_neg e2, if_neg (by omega)]
        omega
theorem rb_mk_s (x : Int32) (r : Nat) {c : Nat} (hc : c < 4) : rb_mk x (4 * r + c + 1) r = rb_mk x (4 * r + c) r + if rb_bb x (4 * r + c) = true then 2 ^ c else 0 := by
  unfold rb_mk
  rw [rb_n_up (f := fun e => if 4 * r + e < 4 * r + c ∧ rb_bb x (4 * r + e) = true then 2 ^ e else 0) (c := c) (x := if rb_bb x (4 * r + c) = true then 2 ^ c else 0) (if_neg (by omega)) ?_ ?_ 4, if_pos hc]
  · by_cases hb : rb_bb x (4 * r + c) = true
    · rw [if_pos hb, if_pos ⟨by omega, hb⟩]
    · rw [if_neg hb, if_neg (fun z => hb z.2)]
  · intro e he
    by_cases g : 4 * r + e < 4 * r + c ∧ rb_bb x (4 * r + e) = true
    · rw [if_pos g, if_pos ⟨by omega, g.2⟩]
    · rw [if_neg g, if_neg (fun z => g ⟨by omega, z.2⟩)]
theorem rb_mk_o (x : Int32) {y r : Nat} (h : y / 4 ≠ r) : rb_mk x (y + 1) r = rb_mk x y r := by
  unfold rb_mk
  refine rb_n_c (fun e he => ?_)
  by_cases g : 4 * r + e < y ∧ rb_bb x (4 * r + e) = true
  · rw [if_pos g, if_pos ⟨by omega, g.2⟩]
  · rw [if_neg g, if_neg (fun z => g ⟨by omega, z.2⟩)]
theorem rb_mk_lt (x : Int32) (r : Nat) : ∀ c, c ≤ 4 → rb_mk x (4 * r + c) r < 2 ^ c := by
  intro c
  induction c with
  | zero =>
    intro _
    have : rb_mk x (4 * r + 0) r = 0 := rb_n_z (fun e he => if_neg (by omega))
    rw [this]
    decide
  | succ c ih =>
    intro hc
    have h := rb_mk_s x r (show c < 4 by omega)
    have h2 := ih (by omega)
    have e : rb_mk x (4 * r + (c + 1)) r = rb_mk x (4 * r + c + 1) r := rfl
    rw [e, h, Nat.pow_succ]
    split <;> omega
theorem rb_mk_4 (x : Int32) {r : Nat} (hr : r < 4) : rb_mk x 16 r = rb_mk x (4 * r + 4) r := by
  unfold rb_mk
  refine rb_n_c (fun e he => ?_)
  by_cases hb : rb_bb x (4 * r + e) = true
  · rw [if_pos ⟨by omega, hb⟩, if_pos ⟨by omega, hb⟩]
  · rw [if_neg (fun z => hb z.2), if_neg (fun z => hb z.2)]
theorem rb_BB16 (x : Int32) {r : Nat} (hr : r < 4) : rb_BB x r < 16 := by
  show rb_mk x 16 r < 16
  rw [rb_mk_4 x hr]
  exact rb_mk_lt x r 4 (by omega)
theorem rb_4b (p q r s : Bool) : (0 + (if p = true then 1 else 0) + (if q = true then 2 else 0) + (if r = true then 4 else 0) + (if s = true then 8 else 0) : Nat).testBit 0 = p ∧ (0 + (if p = true then 1 else 0) + (if q = true then 2 else 0) + (if r = true then 4 else 0) + (if s = true then 8 else 0) : Nat).testBit 1 = q ∧ (0 + (if p = true then 1 else 0) + (if q = true then 2 else 0) + (if r = true then 4 else 0) + (if s = true then 8 else 0) : Nat).testBit 2 = r ∧ (0 + (if p = true then 1 else 0) + (if q = true then 2 else 0) + (if r = true then 4 else 0) + (if s = true then 8 else 0) : Nat).testBit 3 = s := by
  cases p <;> cases q <;> cases r <;> cases s <;> decide +kernel
theorem rb_BBt (x : Int32) {r c : Nat} (hr : r < 4) (hc : c < 4) : (rb_BB x r).testBit c = rb_bb x (4 * r + c) := by
  have e : rb_BB x r = 0 + (if rb_bb x (4 * r + 0) = true then 1 else 0) + (if rb_bb x (4 * r + 1) = true then 2 else 0) + (if rb_bb x (4 * r + 2) = true then 4 else 0) + (if rb_bb x (4 * r + 3) = true then 8 else 0) := by
    have g : ∀ e, e < 4 → (if 4 * r + e < 16 ∧ rb_bb x (4 * r + e) = true then 2 ^ e else 0) = if rb_bb x (4 * r + e) = true then 2 ^ e else 0 := by
      intro e he
      by_cases hb : rb_bb x (4 * r + e) = true
      · rw [if_pos hb, if_pos ⟨by omega, hb⟩]
      · rw [if_neg hb, if_neg (fun z => hb z.2)]
    show 0 + (if 4 * r + 0 < 16 ∧ rb_bb x (4 * r + 0) = true then 2 ^ 0 else 0) + (if 4 * r + 1 < 16 ∧ rb_bb x (4 * r + 1) = true then 2 ^ 1 else 0) + (if 4 * r + 2 < 16 ∧ rb_bb x (4 * r + 2) = true then 2 ^ 2 else 0) + (if 4 * r + 3 < 16 ∧ rb_bb x (4 * r + 3) = true then 2 ^ 3 else 0) = _
    rw [g 0 (by omega), g 1 (by omega), g 2 (by omega), g 3 (by omega)]
  have q := rb_4b (rb_bb x (4 * r + 0)) (rb_bb x (4 * r + 1)) (rb_bb x (4 * r + 2)) (rb_bb x (4 * r + 3))
  rw [e]
  have h : c = 0 ∨ c = 1 ∨ c = 2 ∨ c = 3 := by omega
  rcases h with rfl | rfl | rfl | rfl
  · exact q.1
  · exact q.2.1
  · exact q.2.2.1
  · exact q.2.2.2
theorem rb_bit (x : Int32) {r c : Nat} (hr : r < 4) (hc : c < 4) : ((x >>> ((4 * nI r + nI c) &&& 31)) &&& 1) = 1 ↔ (rb_BB x r).testBit c = true := by
  rw [rb_BBt x hr hc, show 4 * nI r + nI c = nI (4 * r + c) by rw [show (4 : Int32) = nI 4 from rfl, pk_mul, nI_add]]
  unfold rb_bb
  rw [decide_eq_true_iff]
theorem rb_01 (x : Int32) : x &&& 1 = 0 ∨ x &&& 1 = 1 := by
  obtain ⟨j, hj, e⟩ := pk_andE x (m := 1) 1 (by decide)
  rw [e]
  have h : j = 0 ∨ j = 1 := by omega
  rcases h with rfl | rfl
  · exact Or.inl rfl
  · exact Or.inr rfl
theorem rb_put : ∀ m, m < 16 → ∀ c, c < 4 → m.testBit c = false → (nI m &&& nI (2 ^ c) = 0 ∧ (nI m &&& (nI (2 ^ c) ^^^ (-1))).toInt8.toInt32 = nI m ∧ (nI m ||| nI (2 ^ c)).toInt8.toInt32 = nI (m + 2 ^ c)) := by decide +kernel
theorem rb_set {post : Int32 → St2 → Prop} {t p1 : Int32} {a1 a2 a3 a4 a5 a6 a7 a8 a9 a10 a11 : Nat → Int32} {r c m : Nat} (hr : r < 4) (hc : c < 4) (hm : m < 16) (h1 : a1 r = nI m) (hb : m.testBit c = false) (H : post 0 (4, t, (upd a1 r (nI (if p1 = 0 then m else m + 2 ^ c))), a2, a3, a4, a5, a6, a7, a8, a9, a10, a11)) : wpX_set post (4, t, a1, a2, a3, a4, a5, a6, a7, a8, a9, a10, a11) (nI (6 * r + c)) p1 := by
  have e1 : nI (6 * r + c) / 6 = nI r := by
    rw [show (6 : Int32) = nI 6 from rfl, pk_div (by omega) (by omega) (by omega), show (6 * r + c) / 6 = r by omega]
  have e2 : nI (6 * r + c) - nI (6 * r + c) / 6 * 6 = nI c := by
    rw [show (6 : Int32) = nI 6 from rfl, pk_rem (by omega) (by omega) (by omega), show (6 * r + c) % 6 = c by omega]
  have e4 : (1 : Int32) <<< ((nI (6 * r + c) - nI (6 * r + c) / 6 * 6) &&& 31) = nI (2 ^ c) := by
    rw [e2]
    exact rb_shl c (by omega)
  obtain ⟨q1, q2, q3⟩ := rb_put m hm c hc hb
  unfold wpX_set
  refine rb_badCell (by omega) (fun _ _ => br_t rfl ⟨by decide, nm_r e1 ⟨by decide, nm_r e4 ⟨pk_in r 6 (by omega), ?_⟩⟩⟩) (fun z => absurd z (by omega))
  rw [nI_clamp (show r < 2 ^ 31 by omega), h1]
  refine br_t q1 ?_
  unfold wX_set_40
  rw [nI_clamp (show r < 2 ^ 31 by omega), h1, q2, q3]
  refine br_c (fun z => ?_) (fun z => ?_)
  · rw [if_pos z] at H
    exact ⟨pk_in r 6 (by omega), pk_in r 6 (by omega), nm_e H⟩
  · rw [if_neg z] at H
    exact ⟨pk_in r 6 (by omega), pk_in r 6 (by omega), nm_e H⟩
theorem rb_weight {post : Int32 → St2 → Prop} {t p1 : Int32} {a1 a2 a3 a4 a5 a6 a7 a8 a9 a10 a11 : Nat → Int32} {r c : Nat} (hr : r < 4) (hc : c < 4) (H : post 0 (4, t, a1, (upd a2 (6 * r + c) p1), a3, a4, a5, a6, a7, a8, a9, a10, a11)) : wpX_weight post (4, t, a1, a2, a3, a4, a5, a6, a7, a8, a9, a10, a11) (nI (6 * r + c)) p1 := by
  unfold wpX_weight
  refine rb_badCell (by omega) (fun _ _ => br_t rfl ?_) (fun z => absurd z (by omega))
  rw [nI_clamp (show 6 * r + c < 2 ^ 31 by omega)]
  exact ⟨vp_in_nI (by omega) (by omega), nm_e H⟩
theorem rb_l79 {post : Int32 → St0 → Prop} {mc ms kc ks : Nat} {x0 x1 x7 x8 x9 x10 x11 x12 x13 x14 x15 x16 x17 x18 t : Int32} {a1 a2 a3 a4 a5 a6 a7 a8 a9 a10 a11 : Nat → Int32} (h1 : ∀ r, r < 4 → a1 r = 0) (H : ∀ a1 a2, rb_bd (rb_BB x0) a1 → rb_wg (rb_ww x1) a2 → ∃ n, wL_lawOf_151 post mc ms x0 x1 x7 x8 x9 x16 x17 x18 kc ks 4 t a1 a2 a3 a4 a5 a6 a7 a8 a9 a10 a11 n x10 x11 x12 x13 x14 x15 0) : ∃ n, wL_lawOf_79 post mc ms x0 x1 x7 x8 x9 x10 x11 x12 x13 x14 x15 x16 x17 x18 kc ks n 0 4 t a1 a2 a3 a4 a5 a6 a7 a8 a9 a10 a11 := by
  refine pk_loop (σ := (Nat → Int32) × (Nat → Int32)) (fun n i s => wL_lawOf_79 post mc ms x0 x1 x7 x8 x9 x10 x11 x12 x13 x14 x15 x16 x17 x18 kc ks n (nI i) 4 t s.1 s.2 a3 a4 a5 a6 a7 a8 a9 a10 a11) (fun i s => (∀ r, r < 4 → s.1 r = nI (rb_mk x0 i r)) ∧ ∀ z, z < i → s.2 (6 * (z / 4) + z % 4) = rb_ww x1 z) 16 0 (a1, a2) (by omega) ⟨fun r hr => ?_, fun z hz => absurd hz (by omega)⟩
    (fun n s h => pk_le 16 16 (fun _ => H s.1 s.2 (fun r hr => ⟨rb_BB16 x0 hr, h.1 r hr⟩) (fun r hr c hc => ?_)) (fun z => absurd z (by omega)))
    (fun n i s hi h hw => pk_le 16 i (fun z => absurd z (by omega)) (fun _ => ⟨by decide, by decide, ?_⟩))
  · have e : rb_mk x0 0 r = 0 := rb_n_z (fun e he => if_neg (by omega))
    rw [e]
    exact h1 r hr
  · have := h.2 (4 * r + c) (by omega)
    rw [show (4 * r + c) / 4 = r by omega, show (4 * r + c) % 4 = c by omega] at this
    exact this
  · have e1 : nI i / 4 = nI (i / 4) := pk_div (d := 4) (by omega) (by omega) (by omega)
    have e2 : nI i - nI i / 4 * 4 = nI (i % 4) := pk_rem (d := 4) (by omega) (by omega) (by omega)
    have e3 : 6 * (nI i / 4) + (nI i - nI i / 4 * 4) = nI (6 * (i / 4) + i % 4) := by
      rw [e2, e1, rb_ix6]
    have ei : i = 4 * (i / 4) + i % 4 := by omega
    have lt := rb_mk_lt x0 (i / 4) (i % 4) (by omega)
    rw [← ei] at lt
    have lt2 : 2 ^ (i % 4) ≤ 2 ^ 4 := Nat.pow_le_pow_right (by omega) (by omega)
    have st := rb_mk_s x0 (i / 4) (c := i % 4) (by omega)
    rw [← ei] at st
    refine nm_r e3 (nm_e (rb_set (m := rb_mk x0 i (i / 4)) (by omega) (by omega) (by omega) (h.1 _ (by omega)) (Nat.testBit_lt_two_pow lt) (br_t rfl (rb_weight (by omega) (by omega) (br_t rfl (nm_r (nI_1 i) (hw (_, _) ⟨fun r hr => ?_, fun z hz => ?_⟩)))))))
    · by_cases er : r = i / 4
      · rw [er]
        show upd _ _ _ (i / 4) = _
        rw [pk_us, st]
        congr 1
        unfold rb_bb
        by_cases hb : ((x0 >>> (nI i &&& 31)) &&& 1) = 1
        · rw [if_neg (by rw [hb]; decide), if_pos (decide_eq_true hb)]
        · rw [if_pos ((rb_01 _).resolve_right hb), if_neg (by simpa using hb)]
          rfl
      · show upd _ _ _ r = _
        rw [pk_un er, rb_mk_o x0 (fun z => er z.symm)]
        exact h.1 r hr
    · show upd _ _ _ _ = _
      by_cases ez : z = i
      · rw [ez, pk_us]
        rfl
      · rw [pk_un (by omega)]
        exact h.2 z (by omega)
end
section
/-! the law's codes of placements -/
def rb_cd (d : Nat → Nat) : Nat := d 0 + 8 * d 1 + 64 * d 2 + 512 * d 3
theorem rb_code1 : ∀ m, m < 625 → ((((nI m - nI m / 5 * 5) ||| (((nI m / 5) - (nI m / 5) / 5 * 5) <<< ((3 : Int32) &&& 31))) ||| (((nI m / 25) - (nI m / 25) / 5 * 5) <<< ((6 : Int32) &&& 31))) ||| ((nI m / 125) <<< ((9 : Int32) &&& 31))) = nI (rb_cd (rb_d1 m)) := by decide +kernel
theorem rb_code2 : ∀ m, m < 625 → ((((nI m / 125) ||| (((nI m / 25) - (nI m / 25) / 5 * 5) <<< ((3 : Int32) &&& 31))) ||| (((nI m / 5) - (nI m / 5) / 5 * 5) <<< ((6 : Int32) &&& 31))) ||| ((nI m - nI m / 5 * 5) <<< ((9 : Int32) &&& 31))) = nI (rb_cd (rb_d2 m)) := by decide +kernel
theorem rb_dig0 : ∀ m, m < 625 → ∀ y, y < 4 → ((nI (rb_cd (rb_d2 m)) >>> ((3 * nI y) &&& 31)) &&& 7) = nI (rb_d2 m y) := by decide +kernel
def rb_dc (x : Int32) (d : Nat → Nat) : Prop := ∀ y, y < 4 → ((x >>> ((3 * nI y) &&& 31)) &&& 7) = nI (d y) ∧ d y < 5
theorem rb_dc_dg {a b c d : Nat} (ha : a < 5) (hb : b < 5) (hc : c < 5) (hd : d < 5) : rb_dc (nI (rb_cd (rb_dg a b c d))) (rb_dg a b c d) :=
  fun y hy => ⟨rb_all (P := fun d => ∀ y, y < 4 → ((nI (rb_cd d) >>> ((3 * nI y) &&& 31)) &&& 7) = nI (d y)) rb_dig0 ha hb hc hd y hy, rb_dg_5 ha hb hc hd y⟩
theorem rb_dc1 {m : Nat} (hm : m < 625) : rb_dc (nI (rb_cd (rb_d1 m))) (rb_d1 m) := rb_dc_dg (by omega) (by omega) (by omega) (by omega)
theorem rb_dc2 {m : Nat} (hm : m < 625) : rb_dc (nI (rb_cd (rb_d2 m))) (rb_d2 m) := rb_dc_dg (by omega) (by omega) (by omega) (by omega)
theorem rb_tk16 (d : Nat → Nat) (n : Nat) : rb_tk d n < 16 := by
  induction n with
  | zero => exact (by decide : (0 : Nat) < 16)
  | succ n ih =>
    show (if d n < 4 then rb_tk d n ||| 2 ^ d n else rb_tk d n) < 16
    by_cases h : d n < 4
    · rw [if_pos h]
      exact (rb_or _ ih _ h).2
    · rw [if_neg h]
      exact ih
theorem rb_apart {post : Int32 → Prop} {x : Int32} {d : Nat → Nat} (h : rb_dc x d) (H : post (rb_b (rb_gd d 4))) : wpL_apart post () x := by
  refine pk_loop (σ := Unit) (fun n i _ => wL_apart_4 post x n (nI (rb_tk d i)) (nI i)) (fun i _ => rb_gd d i = true) 4 0 () (by omega) rfl
    (fun n _ g => pk_le 4 4 (fun _ => ?_) (fun z => absurd z (by omega)))
    (fun n i _ hi g hw => pk_le 4 i (fun z => absurd z (by omega)) (fun _ => nm_r (h i hi).1 ?_))
  · rw [g] at H
    exact H
  · have h5 := (h i hi).2
    have tks : rb_tk d (i + 1) = if d i < 4 then rb_tk d i ||| 2 ^ d i else rb_tk d i := rfl
    have gds : rb_gd d (i + 1) = (rb_gd d i && !(decide (d i < 4) && (rb_tk d i).testBit (d i))) := rfl
    refine pk_le 4 (d i) (fun z => ?_) (fun z => ?_)
    · have w := hw () (by rw [gds, g, decide_eq_false (by omega)]; rfl)
      rw [tks, if_neg (by omega)] at w
      exact pk_le (d i) 4 (fun _ => pk_le 4 (d i) (fun _ => nm_r (nI_1 i) w) (fun z => absurd z (by omega))) (fun z => absurd z (by omega))
    · refine ek_if (rb_bit1 _ (Nat.lt_of_lt_of_le (rb_tk16 d i) (by omega)) (d i) (by omega)) (fun hb => ?_) (fun hb => ?_)
      · have g0 : ¬ rb_gd d 4 = true := by
          intro g4
          have mo := (rb_mono (B := d) (d := d) (n := i + 1) (4 - (i + 1))).2.2
          rw [show i + 1 + (4 - (i + 1)) = 4 by omega] at mo
          have g1 := mo g4
          rw [gds, g, hb, decide_eq_true z] at g1
          exact absurd g1 (by decide)
        rw [Bool.not_eq_true] at g0
        rw [g0] at H
        exact H
      · rw [Bool.not_eq_true] at hb
        have w := hw () (by rw [gds, g, hb]; simp)
        rw [tks, if_pos z] at w
        refine pk_le (d i) 4 (fun _ => pk_le 4 (d i) (fun z => absurd z (by omega)) (fun _ => nm_r ?_ (nm_r (nI_1 i) w))) (fun z => absurd z (by omega))
        rw [rb_shl _ (by omega)]
        exact (rb_or _ (rb_tk16 d i) _ z).1
/-! one placement's size, cells on the board, worth and sign -/
theorem rb_l301 {post : Int32 → St0 → Prop} {mc ms kc ks : Nat} {J151 : Int32 → Int32 → Int32 → Int32 → Int32 → Int32 → Int32 → Prop} {J216 : Int32 → Int32 → Int32 → Int32 → Int32 → Prop} {x0 x1 x7 x8 x9 x10 x11 x12 x13 x14 x15 x16 x17 x18 x19 x20 x21 x22 x23 x25 t : Int32} {a1 a2 a3 a4 a5 a6 a7 a8 a9 a10 a11 : Nat → Int32} {d : Nat → Nat} {i c : Nat} {s : Int32} (hd : rb_dc x20 d) (hi : i ≤ 4) (hc : c < 5) (H : J216 x21 x22 x23 (rb_iv d c s i) (nI (i + 1))) : ∃ n, wL_lawOf_301 post mc ms J151 J216 x0 x1 x7 x8 x9 x10 x11 x12 x13 x14 x15 x16 x17 x18 x19 x20 x21 x22 x23 x25 (nI i) (nI c) kc ks 4 t a1 a2 a3 a4 a5 a6 a7 a8 a9 a10 a11 n s 0 := by
  refine pk_loop (σ := Unit) (fun n z _ => wL_lawOf_301 post mc ms J151 J216 x0 x1 x7 x8 x9 x10 x11 x12 x13 x14 x15 x16 x17 x18 x19 x20 x21 x22 x23 x25 (nI i) (nI c) kc ks 4 t a1 a2 a3 a4 a5 a6 a7 a8 a9 a10 a11 n (rb_iv d c s z) (nI z)) (fun _ _ => True) i 0 () (by omega) trivial
    (fun n _ _ => pk_le i i (fun _ => nm_r (nI_1 i) H) (fun z => absurd z (by omega)))
    (fun n z _ hz _ hw => pk_le i z (fun z => absurd z (by omega)) (fun _ => ?_))
  have h5 := hd z (by omega)
  rw [h5.1]
  have ivs : rb_iv d c s (z + 1) = if d z ≤ c then rb_iv d c s z else -rb_iv d c s z := rfl
  have w := hw () trivial
  rw [ivs] at w
  refine pk_le (d z) c (fun g => ?_) (fun g => ?_)
  · rw [if_pos g] at w
    exact nm_r (nI_1 z) w
  · rw [if_neg (by omega)] at w
    exact nm_e (nm_r (nI_1 z) w)
theorem rb_l272 {post : Int32 → St0 → Prop} {mc ms kc ks : Nat} {J151 : Int32 → Int32 → Int32 → Int32 → Int32 → Int32 → Int32 → Prop} {J216 : Int32 → Int32 → Int32 → Int32 → Int32 → Prop} {x0 x1 x7 x8 x9 x10 x11 x12 x13 x14 x15 x16 x17 x18 x19 x20 x21 x22 x25 t : Int32} {a1 a2 a3 a4 a5 a6 a7 a8 a9 a10 a11 : Nat → Int32} {d : Nat → Nat} {i : Nat} (hd : rb_dc x20 d) (hi : i < 4) (H : J216 x21 x22 (rb_wo (rb_ww x1) d (i + 1)) (rb_sn d (i + 1)) (nI (i + 1))) : wL_lawOf_272 post mc ms J151 J216 x0 x1 x7 x8 x9 x10 x11 x12 x13 x14 x15 x16 x17 x18 x19 x20 x21 x22 (rb_wo (rb_ww x1) d i) (rb_sn d i) x25 (nI i) (nI (d i)) kc ks 4 t a1 a2 a3 a4 a5 a6 a7 a8 a9 a10 a11 := by
  have wos : rb_wo (rb_ww x1) d (i + 1) = if d i < 4 then rb_wo (rb_ww x1) d i * rb_ww x1 (4 * i + d i) else rb_wo (rb_ww x1) d i := rfl
  have h5 := (hd i hi).2
  refine pk_le 4 (d i) (fun z => ?_) (fun z => ?_)
  · rw [wos, if_neg (by omega)] at H
    exact rb_l301 hd (by omega) h5 H
  · rw [wos, if_pos z] at H
    rw [show 4 * nI i + nI (d i) = nI (4 * i + d i) by rw [show (4 : Int32) = nI 4 from rfl, pk_mul, nI_add]]
    exact nm_e (rb_l301 hd (by omega) h5 H)
theorem rb_l248 {post : Int32 → St0 → Prop} {mc ms kc ks : Nat} {J151 : Int32 → Int32 → Int32 → Int32 → Int32 → Int32 → Int32 → Prop} {J216 : Int32 → Int32 → Int32 → Int32 → Int32 → Prop} {x0 x1 x7 x8 x9 x10 x11 x12 x13 x14 x15 x16 x17 x18 x19 x20 x21 x25 t : Int32} {a1 a2 a3 a4 a5 a6 a7 a8 a9 a10 a11 : Nat → Int32} {d : Nat → Nat} {i : Nat} (hd : rb_dc x20 d) (hi : i < 4) (H : J216 x21 (nI (rb_on (rb_BB x0) d (i + 1))) (rb_wo (rb_ww x1) d (i + 1)) (rb_sn d (i + 1)) (nI (i + 1))) : wL_lawOf_248 post mc ms J151 J216 x0 x1 x7 x8 x9 x10 x11 x12 x13 x14 x15 x16 x17 x18 x19 x20 x21 (nI (rb_on (rb_BB x0) d i)) (rb_wo (rb_ww x1) d i) (rb_sn d i) x25 (nI i) (nI (d i)) kc ks 4 t a1 a2 a3 a4 a5 a6 a7 a8 a9 a10 a11 := by
  have ons : rb_on (rb_BB x0) d (i + 1) = if d i < 4 ∧ (rb_BB x0 i).testBit (d i) = true then rb_on (rb_BB x0) d i + 1 else rb_on (rb_BB x0) d i := rfl
  have h5 := (hd i hi).2
  refine pk_le 4 (d i) (fun z => ?_) (fun z => ek_if (rb_bit x0 hi z) (fun hb => ?_) (fun hb => ?_))
  · rw [ons, if_neg (by omega)] at H
    exact rb_l272 hd hi H
  · rw [ons, if_pos ⟨z, hb⟩] at H
    exact nm_r (nI_1 _) (rb_l272 hd hi H)
  · rw [ons, if_neg (fun z => hb z.2)] at H
    exact rb_l272 hd hi H
theorem rb_l216 {post : Int32 → St0 → Prop} {mc ms kc ks : Nat} {J151 : Int32 → Int32 → Int32 → Int32 → Int32 → Int32 → Int32 → Prop} {x0 x1 x7 x8 x9 x10 x11 x12 x13 x14 x15 x16 x17 x18 x19 x20 t : Int32} {a1 a2 a3 a4 a5 a6 a7 a8 a9 a10 a11 : Nat → Int32} {d : Nat → Nat} (hd : rb_dc x20 d) (H : wL_lawOf_345 post mc ms J151 x0 x1 x7 x8 x9 x10 x11 x12 x13 x14 x15 x16 x17 x18 x19 x20 (nI (rb_sz d 4)) (nI (rb_on (rb_BB x0) d 4)) (rb_wo (rb_ww x1) d 4) (rb_sn d 4) 1 kc ks 4 t a1 a2 a3 a4 a5 a6 a7 a8 a9 a10 a11) : ∃ n, wL_lawOf_216 post mc ms J151 x0 x1 x7 x8 x9 x10 x11 x12 x13 x14 x15 x16 x17 x18 x19 x20 1 kc ks 4 t a1 a2 a3 a4 a5 a6 a7 a8 a9 a10 a11 n 0 0 1 1 0 := by
  refine pk_loop (σ := Unit) (fun n i _ => wL_lawOf_216 post mc ms J151 x0 x1 x7 x8 x9 x10 x11 x12 x13 x14 x15 x16 x17 x18 x19 x20 1 kc ks 4 t a1 a2 a3 a4 a5 a6 a7 a8 a9 a10 a11 n (nI (rb_sz d i)) (nI (rb_on (rb_BB x0) d i)) (rb_wo (rb_ww x1) d i) (rb_sn d i) (nI i)) (fun _ _ => True) 4 0 () (by omega) trivial
    (fun n _ _ => pk_le 4 4 (fun _ => H) (fun z => absurd z (by omega)))
    (fun n i _ hi _ hw => pk_le 4 i (fun z => absurd z (by omega)) (fun _ => br_f (by decide) (nm_r (hd i hi).1 ?_)))
  have szs : rb_sz d (i + 1) = if d i < 4 then rb_sz d i + 1 else rb_sz d i := rfl
  have w := hw () trivial
  rw [szs] at w
  refine pk_le 4 (d i) (fun z => ?_) (fun z => ?_) rfl rfl (by omega) (by have := (hd i hi).2; omega)
  · rw [if_neg (by omega)] at w
    exact rb_l248 hd hi w
  · rw [if_pos z] at w
    exact nm_r (nI_1 _) (rb_l248 hd hi w)
theorem rb_l216n {post : Int32 → St0 → Prop} {mc ms kc ks : Nat} {J151 : Int32 → Int32 → Int32 → Int32 → Int32 → Int32 → Int32 → Prop} {x0 x1 x7 x8 x9 x10 x11 x12 x13 x14 x15 x16 x17 x18 x19 x20 t : Int32} {a1 a2 a3 a4 a5 a6 a7 a8 a9 a10 a11 : Nat → Int32} (H : wL_lawOf_345 post mc ms J151 x0 x1 x7 x8 x9 x10 x11 x12 x13 x14 x15 x16 x17 x18 x19 x20 0 0 1 1 0 kc ks 4 t a1 a2 a3 a4 a5 a6 a7 a8 a9 a10 a11) : ∃ n, wL_lawOf_216 post mc ms J151 x0 x1 x7 x8 x9 x10 x11 x12 x13 x14 x15 x16 x17 x18 x19 x20 0 kc ks 4 t a1 a2 a3 a4 a5 a6 a7 a8 a9 a10 a11 n 0 0 1 1 0 :=
  ⟨1, br_f (by decide) (br_t rfl H)⟩
end
section
/-! what one placement adds to the law's counts -/
theorem rb_l481 {post : Int32 → St0 → Prop} {mc ms kc ks : Nat} {J151 : Int32 → Int32 → Int32 → Int32 → Int32 → Int32 → Int32 → Prop} {x0 x1 x7 x8 x9 x10 x11 x12 x13 x14 x15 x16 x17 x18 x23 x24 t : Int32} {a1 a2 a3 a4 a5 a6 a7 a8 a9 a10 a11 : Nat → Int32} {fu ow : Bool} {m : Nat} (H : J151 x10 x11 x12 (if ow = true ∧ fu = true then x13 + x24 * x23 else x13) x14 x15 (nI (m + 1))) : wL_lawOf_481 post mc ms J151 x0 x1 x7 x8 x9 x10 x11 x12 x13 x14 x15 x16 x17 x18 (nI m) x23 x24 (rb_b fu) (rb_b ow) kc ks 4 t a1 a2 a3 a4 a5 a6 a7 a8 a9 a10 a11 := by
  cases ow with
  | false =>
    rw [if_neg (show ¬ (false = true ∧ fu = true) from fun g => absurd g.1 (by decide))] at H
    exact br_t rfl (nm_r (nI_1 m) H)
  | true =>
    refine br_f (by decide) ?_
    cases fu with
    | false =>
      rw [if_neg (by decide)] at H
      exact br_t rfl (nm_r (nI_1 m) H)
    | true =>
      rw [if_pos (by decide)] at H
      exact br_f (by decide) (nm_e (nm_r (nI_1 m) H))
theorem rb_l447 {post : Int32 → St0 → Prop} {mc ms kc ks : Nat} {J151 : Int32 → Int32 → Int32 → Int32 → Int32 → Int32 → Int32 → Prop} {x0 x1 x9 x10 x11 x12 x13 x14 x15 x16 x17 x18 x20 x23 x24 t : Int32} {a1 a2 a3 a4 a5 a6 a7 a8 a9 a10 a11 : Nat → Int32} {fu ow : Bool} {m z k x : Nat} {d : Nat → Nat} (hd : rb_dc x20 d) (hz : z ≤ 4) (hk : k ≤ 4) (hx : x < 16) (H : J151 x10 x11 x12 (if ow = true ∧ fu = true then x13 + x24 * x23 else x13) (if ow = true ∧ z = k ∧ d (x / 4) = x % 4 then x14 + 1 else x14) x15 (nI (m + 1))) : wL_lawOf_447 post mc ms J151 x0 x1 (nI k) (nI x) x9 x10 x11 x12 x13 x14 x15 x16 x17 x18 (nI m) x20 (nI z) x23 x24 (rb_b fu) (rb_b ow) kc ks 4 t a1 a2 a3 a4 a5 a6 a7 a8 a9 a10 a11 := by
  have e1 : nI x / 4 = nI (x / 4) := pk_div (d := 4) (by omega) (by omega) (by omega)
  have e2 : nI x - nI x / 4 * 4 = nI (x % 4) := pk_rem (d := 4) (by omega) (by omega) (by omega)
  have h5 := hd (x / 4) (by omega)
  cases ow with
  | false =>
    rw [if_neg (show ¬ (false = true ∧ z = k ∧ d (x / 4) = x % 4) from fun g => absurd g.1 (by decide))] at H
    exact br_t rfl (rb_l481 H)
  | true =>
    refine br_f (by decide) (pk_eq z k (fun g => ⟨by decide, by decide, ?_⟩) (fun g => ?_))
    · rw [e2, e1, h5.1]
      refine pk_eq (d (x / 4)) (x % 4) (fun g2 => ?_) (fun g2 => ?_) rfl rfl (by omega) (by omega)
      · rw [if_pos (show true = true ∧ z = k ∧ d (x / 4) = x % 4 from ⟨rfl, g, g2⟩)] at H
        exact nm_e (rb_l481 H)
      · rw [if_neg (show ¬ (true = true ∧ z = k ∧ d (x / 4) = x % 4) from fun g => g2 g.2.2)] at H
        exact rb_l481 H
    · rw [if_neg (show ¬ (true = true ∧ z = k ∧ d (x / 4) = x % 4) from fun q => g q.2.1)] at H
      exact rb_l481 H
theorem rb_l428 {post : Int32 → St0 → Prop} {mc ms kc ks : Nat} {J151 : Int32 → Int32 → Int32 → Int32 → Int32 → Int32 → Int32 → Prop} {x0 x1 x9 x10 x11 x12 x13 x14 x15 x16 x17 x18 x20 x23 x24 t : Int32} {a1 a2 a3 a4 a5 a6 a7 a8 a9 a10 a11 : Nat → Int32} {fu ow : Bool} {m z k x : Nat} {d : Nat → Nat} (hd : rb_dc x20 d) (hz : z ≤ 4) (hk : k ≤ 4) (hx : x < 16) (H : J151 x10 x11 (if ow = true ∧ z = k then x12 + x23 else x12) (if ow = true ∧ fu = true then x13 + x24 * x23 else x13) (if ow = true ∧ z = k ∧ d (x / 4) = x % 4 then x14 + 1 else x14) x15 (nI (m + 1))) : wL_lawOf_428 post mc ms J151 x0 x1 (nI k) (nI x) x9 x10 x11 x12 x13 x14 x15 x16 x17 x18 (nI m) x20 (nI z) x23 x24 (rb_b fu) (rb_b ow) kc ks 4 t a1 a2 a3 a4 a5 a6 a7 a8 a9 a10 a11 := by
  cases ow with
  | false =>
    rw [if_neg (show ¬ (false = true ∧ z = k) from fun g => absurd g.1 (by decide))] at H
    exact br_t rfl (rb_l447 hd hz hk hx H)
  | true =>
    refine br_f (by decide) (pk_eq z k (fun g => ?_) (fun g => ?_))
    · rw [if_pos (show true = true ∧ z = k from ⟨rfl, g⟩)] at H
      exact nm_e (rb_l447 hd hz hk hx H)
    · rw [if_neg (show ¬ (true = true ∧ z = k) from fun q => g q.2)] at H
      exact rb_l447 hd hz hk hx H
theorem rb_l413 {post : Int32 → St0 → Prop} {mc ms kc ks : Nat} {J151 : Int32 → Int32 → Int32 → Int32 → Int32 → Int32 → Int32 → Prop} {x0 x1 x9 x10 x11 x12 x13 x14 x15 x16 x17 x18 x20 x23 x24 t : Int32} {a1 a2 a3 a4 a5 a6 a7 a8 a9 a10 a11 : Nat → Int32} {fu ow : Bool} {m z k x : Nat} {d : Nat → Nat} (hd : rb_dc x20 d) (hz : z ≤ 4) (hk : k ≤ 4) (hx : x < 16) (H : J151 (if ow = true ∧ z = k then x10 + 1 else x10) x11 (if ow = true ∧ z = k then x12 + x23 else x12) (if ow = true ∧ fu = true then x13 + x24 * x23 else x13) (if ow = true ∧ z = k ∧ d (x / 4) = x % 4 then x14 + 1 else x14) x15 (nI (m + 1))) : wL_lawOf_413 post mc ms J151 x0 x1 (nI k) (nI x) x9 x10 x11 x12 x13 x14 x15 x16 x17 x18 (nI m) x20 (nI z) x23 x24 (rb_b fu) (rb_b ow) kc ks 4 t a1 a2 a3 a4 a5 a6 a7 a8 a9 a10 a11 := by
  cases ow with
  | false =>
    rw [if_neg (show ¬ (false = true ∧ z = k) from fun g => absurd g.1 (by decide)), if_neg (show ¬ (false = true ∧ z = k) from fun g => absurd g.1 (by decide))] at H
    exact br_t rfl (rb_l428 hd hz hk hx (by rw [if_neg (show ¬ (false = true ∧ z = k) from fun g => absurd g.1 (by decide))]; exact H))
  | true =>
    refine br_f (by decide) (pk_eq z k (fun g => ?_) (fun g => ?_))
    · rw [if_pos (show true = true ∧ z = k from ⟨rfl, g⟩), if_pos (show true = true ∧ z = k from ⟨rfl, g⟩)] at H
      exact nm_e (rb_l428 hd hz hk hx (by rw [if_pos (show true = true ∧ z = k from ⟨rfl, g⟩)]; exact H))
    · rw [if_neg (show ¬ (true = true ∧ z = k) from fun q => g q.2), if_neg (show ¬ (true = true ∧ z = k) from fun q => g q.2)] at H
      exact rb_l428 hd hz hk hx (by rw [if_neg (show ¬ (true = true ∧ z = k) from fun q => g q.2)]; exact H)
theorem rb_l397 {post : Int32 → St0 → Prop} {mc ms kc ks : Nat} {J151 : Int32 → Int32 → Int32 → Int32 → Int32 → Int32 → Int32 → Prop} {x0 x1 x9 x10 x11 x12 x13 x14 x16 x17 x18 x20 x23 x24 t : Int32} {a1 a2 a3 a4 a5 a6 a7 a8 a9 a10 a11 : Nat → Int32} {fu ow : Bool} {m z k x M : Nat} {d : Nat → Nat} (hd : rb_dc x20 d) (hz : z ≤ 4) (hk : k ≤ 4) (hx : x < 16) (hM : M ≤ 4) (H : J151 (if ow = true ∧ z = k then x10 + 1 else x10) x11 (if ow = true ∧ z = k then x12 + x23 else x12) (if ow = true ∧ fu = true then x13 + x24 * x23 else x13) (if ow = true ∧ z = k ∧ d (x / 4) = x % 4 then x14 + 1 else x14) (if ow = true ∧ M < z then nI z else nI M) (nI (m + 1))) : wL_lawOf_397 post mc ms J151 x0 x1 (nI k) (nI x) x9 x10 x11 x12 x13 x14 (nI M) x16 x17 x18 (nI m) x20 (nI z) x23 x24 (rb_b fu) (rb_b ow) kc ks 4 t a1 a2 a3 a4 a5 a6 a7 a8 a9 a10 a11 := by
  cases ow with
  | false =>
    rw [if_neg (show ¬ (false = true ∧ M < z) from fun g => absurd g.1 (by decide))] at H
    exact br_t rfl (rb_l413 hd hz hk hx H)
  | true =>
    refine br_f (by decide) (pk_le z M (fun g => ?_) (fun g => ?_))
    · rw [if_neg (show ¬ (true = true ∧ M < z) from fun q => absurd q.2 (by omega))] at H
      exact rb_l413 hd hz hk hx H
    · rw [if_pos (show true = true ∧ M < z from ⟨rfl, g⟩)] at H
      exact rb_l413 hd hz hk hx H
theorem rb_l380 {post : Int32 → St0 → Prop} {mc ms kc ks : Nat} {J151 : Int32 → Int32 → Int32 → Int32 → Int32 → Int32 → Int32 → Prop} {x0 x1 x9 x10 x11 x12 x13 x14 x16 x17 x18 x20 x23 x24 t : Int32} {a1 a2 a3 a4 a5 a6 a7 a8 a9 a10 a11 : Nat → Int32} {fu ow : Bool} {m z k x M o : Nat} {d : Nat → Nat} (hd : rb_dc x20 d) (hz : z ≤ 4) (hk : k ≤ 4) (hx : x < 16) (hM : M ≤ 4) (ho : o ≤ 4) (H : J151 (if ow = true ∧ z = k then x10 + 1 else x10) (if fu = true ∧ o = k then x11 + 1 else x11) (if ow = true ∧ z = k then x12 + x23 else x12) (if ow = true ∧ fu = true then x13 + x24 * x23 else x13) (if ow = true ∧ z = k ∧ d (x / 4) = x % 4 then x14 + 1 else x14) (if ow = true ∧ M < z then nI z else nI M) (nI (m + 1))) : wL_lawOf_380 post mc ms J151 x0 x1 (nI k) (nI x) x9 x10 x11 x12 x13 x14 (nI M) x16 x17 x18 (nI m) x20 (nI z) (nI o) x23 x24 (rb_b fu) (rb_b ow) kc ks 4 t a1 a2 a3 a4 a5 a6 a7 a8 a9 a10 a11 := by
  cases fu with
  | false =>
    rw [if_neg (show ¬ (false = true ∧ o = k) from fun g => absurd g.1 (by decide))] at H
    exact br_t rfl (rb_l397 hd hz hk hx hM H)
  | true =>
    refine br_f (by decide) (pk_eq o k (fun g => ?_) (fun g => ?_))
    · rw [if_pos (show true = true ∧ o = k from ⟨rfl, g⟩)] at H
      exact nm_e (rb_l397 hd hz hk hx hM H)
    · rw [if_neg (show ¬ (true = true ∧ o = k) from fun q => g q.2)] at H
      exact rb_l397 hd hz hk hx hM H
theorem rb_l361 {post : Int32 → St0 → Prop} {mc ms kc ks : Nat} {J151 : Int32 → Int32 → Int32 → Int32 → Int32 → Int32 → Int32 → Prop} {x0 x1 x9 x10 x11 x12 x13 x14 x16 x17 x18 x20 x23 x24 t : Int32} {a1 a2 a3 a4 a5 a6 a7 a8 a9 a10 a11 : Nat → Int32} {fu gg : Bool} {m z k x M o : Nat} {d : Nat → Nat} (hd : rb_dc x20 d) (hz : z ≤ 4) (hk : k ≤ 4) (hx : x < 16) (hM : M ≤ 4) (ho : o ≤ 4) (H : J151 (if (gg && decide (o = z)) = true ∧ z = k then x10 + 1 else x10) (if fu = true ∧ o = k then x11 + 1 else x11) (if (gg && decide (o = z)) = true ∧ z = k then x12 + x23 else x12) (if (gg && decide (o = z)) = true ∧ fu = true then x13 + x24 * x23 else x13) (if (gg && decide (o = z)) = true ∧ z = k ∧ d (x / 4) = x % 4 then x14 + 1 else x14) (if (gg && decide (o = z)) = true ∧ M < z then nI z else nI M) (nI (m + 1))) : wL_lawOf_361 post mc ms J151 x0 x1 (nI k) (nI x) x9 x10 x11 x12 x13 x14 (nI M) x16 x17 x18 (nI m) x20 (nI z) (nI o) x23 x24 (rb_b gg) (rb_b fu) kc ks 4 t a1 a2 a3 a4 a5 a6 a7 a8 a9 a10 a11 := by
  cases gg with
  | false => exact br_t rfl (rb_l380 (ow := false) hd hz hk hx hM ho H)
  | true =>
    refine br_f (by decide) (pk_eq o z (fun g => ?_) (fun g => ?_))
    · rw [decide_eq_true g] at H
      exact rb_l380 (ow := true) hd hz hk hx hM ho H
    · rw [decide_eq_false g] at H
      exact rb_l380 (ow := false) hd hz hk hx hM ho H
theorem rb_l345 {post : Int32 → St0 → Prop} {mc ms kc ks : Nat} {J151 : Int32 → Int32 → Int32 → Int32 → Int32 → Int32 → Int32 → Prop} {x0 x1 x9 x10 x11 x12 x13 x14 x16 x17 x18 x20 x23 x24 t : Int32} {a1 a2 a3 a4 a5 a6 a7 a8 a9 a10 a11 : Nat → Int32} {gg : Bool} {m z k x M o : Nat} {d : Nat → Nat} (hd : rb_dc x20 d) (hz : z ≤ 4) (hk : k ≤ 4) (hx : x < 16) (hM : M ≤ 4) (ho : o ≤ 4) (H : J151 (if (gg && decide (o = z)) = true ∧ z = k then x10 + 1 else x10) (if (gg && decide (z = 4)) = true ∧ o = k then x11 + 1 else x11) (if (gg && decide (o = z)) = true ∧ z = k then x12 + x23 else x12) (if (gg && decide (o = z)) = true ∧ (gg && decide (z = 4)) = true then x13 + x24 * x23 else x13) (if (gg && decide (o = z)) = true ∧ z = k ∧ d (x / 4) = x % 4 then x14 + 1 else x14) (if (gg && decide (o = z)) = true ∧ M < z then nI z else nI M) (nI (m + 1))) : wL_lawOf_345 post mc ms J151 x0 x1 (nI k) (nI x) x9 x10 x11 x12 x13 x14 (nI M) x16 x17 x18 (nI m) x20 (nI z) (nI o) x23 x24 (rb_b gg) kc ks 4 t a1 a2 a3 a4 a5 a6 a7 a8 a9 a10 a11 := by
  cases gg with
  | false => exact br_t rfl (rb_l361 (gg := false) (fu := false) hd hz hk hx hM ho H)
  | true =>
    refine br_f (by decide) (pk_eq z 4 (fun g => ?_) (fun g => ?_))
    · rw [decide_eq_true g] at H
      exact rb_l361 (gg := true) (fu := true) hd hz hk hx hM ho H
    · rw [decide_eq_false g] at H
      exact rb_l361 (gg := true) (fu := false) hd hz hk hx hM ho H
end
section
/-! the law's first loop -/
theorem rb_if1 {p q : Prop} [Decidable p] [Decidable q] (h : p ↔ q) (N : Nat) : (if p then nI N + 1 else nI N) = nI (N + if q then 1 else 0) := by
  by_cases hq : q
  · rw [if_pos (h.mpr hq), if_pos hq, nI_1]
  · rw [if_neg (fun z => hq (h.mp z)), if_neg hq, Nat.add_zero]
theorem rb_ifI {p q : Prop} [Decidable p] [Decidable q] (h : p ↔ q) (s x : Int32) : (if p then s + x else s) = s + if q then x else 0 := by
  by_cases hq : q
  · rw [if_pos (h.mpr hq), if_pos hq]
  · rw [if_neg (fun z => hq (h.mp z)), if_neg hq, Int32.add_zero]
def rb_g11 (B : Nat → Nat) (k m : Nat) : Nat := if rb_gd (rb_d1 m) 4 = true ∧ rb_sz (rb_d1 m) 4 = 4 ∧ rb_on B (rb_d1 m) 4 = k then 1 else 0
def rb_g12 (B : Nat → Nat) (w : Nat → Int32) (k m : Nat) : Int32 := if rb_gd (rb_d1 m) 4 = true ∧ rb_on B (rb_d1 m) 4 = rb_sz (rb_d1 m) 4 ∧ rb_sz (rb_d1 m) 4 = k then rb_wo w (rb_d1 m) 4 else 0
def rb_g13 (B : Nat → Nat) (w : Nat → Int32) (m : Nat) : Int32 := if rb_gd (rb_d1 m) 4 = true ∧ rb_on B (rb_d1 m) 4 = rb_sz (rb_d1 m) 4 ∧ rb_sz (rb_d1 m) 4 = 4 then rb_sn (rb_d1 m) 4 * rb_wo w (rb_d1 m) 4 else 0
/-- the greatest size so far -/
def rb_MI (B : Nat → Nat) (i M : Nat) : Prop := M ≤ 4 ∧ (∀ m, m < i → rb_gd (rb_d1 m) 4 = true → rb_on B (rb_d1 m) 4 = rb_sz (rb_d1 m) 4 → rb_sz (rb_d1 m) 4 ≤ M) ∧ (M = 0 ∨ ∃ m, m < i ∧ rb_gd (rb_d1 m) 4 = true ∧ rb_on B (rb_d1 m) 4 = rb_sz (rb_d1 m) 4 ∧ rb_sz (rb_d1 m) 4 = M)
theorem rb_MI_s {B : Nat → Nat} {i M : Nat} (h : rb_MI B i M) : rb_MI B (i + 1) (if rb_gd (rb_d1 i) 4 = true ∧ rb_on B (rb_d1 i) 4 = rb_sz (rb_d1 i) 4 ∧ M < rb_sz (rb_d1 i) 4 then rb_sz (rb_d1 i) 4 else M) := by
  obtain ⟨h1, h2, h3⟩ := h
  by_cases g : rb_gd (rb_d1 i) 4 = true ∧ rb_on B (rb_d1 i) 4 = rb_sz (rb_d1 i) 4 ∧ M < rb_sz (rb_d1 i) 4
  · rw [if_pos g]
    refine ⟨rb_sz_le _ 4, fun m hm q1 q2 => ?_, Or.inr ⟨i, by omega, g.1, g.2.1, rfl⟩⟩
    by_cases e : m = i
    · rw [e]
      exact Nat.le_refl _
    · have := h2 m (by omega) q1 q2
      omega
  · rw [if_neg g]
    refine ⟨h1, fun m hm q1 q2 => ?_, ?_⟩
    · by_cases e : m = i
      · rw [e] at q1 q2 ⊢
        exact Nat.le_of_not_lt (fun z => g ⟨q1, q2, z⟩)
      · exact h2 m (by omega) q1 q2
    · rcases h3 with h3 | ⟨m, hm, q⟩
      · exact Or.inl h3
      · exact Or.inr ⟨m, by omega, q⟩
theorem rb_l151 {post : Int32 → St0 → Prop} {mc ms kc ks : Nat} {x0 x1 x9 x16 x17 x18 t : Int32} {a1 a2 a3 a4 a5 a6 a7 a8 a9 a10 a11 : Nat → Int32} {k x : Nat} (hk : k ≤ 4) (hx : x < 16)
    (H : ∀ M, rb_MI (rb_BB x0) 625 M → ∃ n, wL_lawOf_513 post mc ms x0 (nI k) x9 (nI (rb_n (fun m => rb_F (rb_BB x0) k (rb_d1 m)) 625)) (nI (rb_n (rb_g11 (rb_BB x0) k) 625)) (rb_i (rb_g12 (rb_BB x0) (rb_ww x1) k) 625) (rb_i (rb_g13 (rb_BB x0) (rb_ww x1)) 625) (nI (rb_n (fun m => rb_FT (rb_BB x0) k (x / 4) (x % 4) (rb_d1 m)) 625)) (nI M) x16 x18 kc ks 4 t a1 a2 a3 a4 a5 a6 a7 a8 a9 a10 a11 n x17 0 0) : ∃ n, wL_lawOf_151 post mc ms x0 x1 (nI k) (nI x) x9 x16 x17 x18 kc ks 4 t a1 a2 a3 a4 a5 a6 a7 a8 a9 a10 a11 n 0 0 0 0 0 0 0 := by
  refine pk_loop (σ := Nat) (fun n i M => wL_lawOf_151 post mc ms x0 x1 (nI k) (nI x) x9 x16 x17 x18 kc ks 4 t a1 a2 a3 a4 a5 a6 a7 a8 a9 a10 a11 n (nI (rb_n (fun m => rb_F (rb_BB x0) k (rb_d1 m)) i)) (nI (rb_n (rb_g11 (rb_BB x0) k) i)) (rb_i (rb_g12 (rb_BB x0) (rb_ww x1) k) i) (rb_i (rb_g13 (rb_BB x0) (rb_ww x1)) i) (nI (rb_n (fun m => rb_FT (rb_BB x0) k (x / 4) (x % 4) (rb_d1 m)) i)) (nI M) (nI i)) (fun i M => rb_MI (rb_BB x0) i M) 625 0 0 (by omega) ⟨by omega, fun m hm => absurd hm (by omega), Or.inl rfl⟩
    (fun n M h => pk_le 625 625 (fun _ => H M h) (fun z => absurd z (by omega)))
    (fun n i M hi h hw => pk_le 625 i (fun z => absurd z (by omega)) (fun _ => ⟨by decide, by decide, by decide, by decide, by decide, by decide, nm_r (rb_code1 i hi) (rb_apart (rb_dc1 hi) ?_)⟩))
  have w : wL_lawOf_151 post mc ms x0 x1 (nI k) (nI x) x9 x16 x17 x18 kc ks 4 t a1 a2 a3 a4 a5 a6 a7 a8 a9 a10 a11 n (nI (rb_n (fun m => rb_F (rb_BB x0) k (rb_d1 m)) i + rb_F (rb_BB x0) k (rb_d1 i))) (nI (rb_n (rb_g11 (rb_BB x0) k) i + rb_g11 (rb_BB x0) k i)) (rb_i (rb_g12 (rb_BB x0) (rb_ww x1) k) i + rb_g12 (rb_BB x0) (rb_ww x1) k i) (rb_i (rb_g13 (rb_BB x0) (rb_ww x1)) i + rb_g13 (rb_BB x0) (rb_ww x1) i) (nI (rb_n (fun m => rb_FT (rb_BB x0) k (x / 4) (x % 4) (rb_d1 m)) i + rb_FT (rb_BB x0) k (x / 4) (x % 4) (rb_d1 i))) (nI (if rb_gd (rb_d1 i) 4 = true ∧ rb_on (rb_BB x0) (rb_d1 i) 4 = rb_sz (rb_d1 i) 4 ∧ M < rb_sz (rb_d1 i) 4 then rb_sz (rb_d1 i) 4 else M)) (nI (i + 1)) := hw _ (rb_MI_s h)
  unfold rb_F rb_g11 rb_g12 rb_g13 rb_FT at w ⊢
  have sz4 := rb_sz_le (rb_d1 i) 4
  have on4 := (rb_on_s (B := rb_BB x0) (d := rb_d1 i) 4).1
  have dc := rb_dc1 hi
  cases hg : rb_gd (rb_d1 i) 4 with
  | false =>
    rw [hg] at w
    refine rb_l216n (rb_l345 (gg := false) (z := 0) (o := 0) dc (by omega) hk hx h.1 (by omega) ?_)
    have nf : ∀ q : Prop, ¬ (false = true ∧ q) := fun q z => absurd z.1 (by decide)
    have nf2 : ∀ q r : Prop, ¬ ((false = true ∧ q) ∧ r) := fun q r z => absurd z.1.1 (by decide)
    simp only [Bool.false_and, if_neg (nf _), if_neg (nf2 _ _), Nat.add_zero, Int32.add_zero] at w ⊢
    exact w
  | true =>
    rw [hg] at w
    refine rb_l216 dc (rb_l345 (gg := true) dc sz4 hk hx h.1 (by omega) ?_)
    have c1 : ∀ q : Prop, ((true && decide (rb_on (rb_BB x0) (rb_d1 i) 4 = rb_sz (rb_d1 i) 4)) = true ∧ q) ↔ (true = true ∧ rb_on (rb_BB x0) (rb_d1 i) 4 = rb_sz (rb_d1 i) 4 ∧ q) := by
      intro q
      rw [Bool.true_and, decide_eq_true_iff]
      exact ⟨fun z => ⟨rfl, z.1, z.2⟩, fun z => ⟨z.2.1, z.2.2⟩⟩
    have c2 : ∀ q : Prop, ((true && decide (rb_sz (rb_d1 i) 4 = 4)) = true ∧ q) ↔ (true = true ∧ rb_sz (rb_d1 i) 4 = 4 ∧ q) := by
      intro q
      rw [Bool.true_and, decide_eq_true_iff]
      exact ⟨fun z => ⟨rfl, z.1, z.2⟩, fun z => ⟨z.2.1, z.2.2⟩⟩
    have c3 : ((true && decide (rb_on (rb_BB x0) (rb_d1 i) 4 = rb_sz (rb_d1 i) 4)) = true ∧ (true && decide (rb_sz (rb_d1 i) 4 = 4)) = true) ↔ (true = true ∧ rb_on (rb_BB x0) (rb_d1 i) 4 = rb_sz (rb_d1 i) 4 ∧ rb_sz (rb_d1 i) 4 = 4) := by
      rw [Bool.true_and, Bool.true_and, decide_eq_true_iff, decide_eq_true_iff]
      exact ⟨fun z => ⟨rfl, z.1, z.2⟩, fun z => ⟨z.2.1, z.2.2⟩⟩
    have c4 : ((true && decide (rb_on (rb_BB x0) (rb_d1 i) 4 = rb_sz (rb_d1 i) 4)) = true ∧ rb_sz (rb_d1 i) 4 = k ∧ rb_d1 i (x / 4) = x % 4) ↔ ((true = true ∧ rb_on (rb_BB x0) (rb_d1 i) 4 = rb_sz (rb_d1 i) 4 ∧ rb_sz (rb_d1 i) 4 = k) ∧ rb_d1 i (x / 4) = x % 4) := by
      rw [Bool.true_and, decide_eq_true_iff]
      exact ⟨fun z => ⟨⟨rfl, z.1, z.2.1⟩, z.2.2⟩, fun z => ⟨z.1.2.1, z.1.2.2, z.2⟩⟩
    have e15 : (if (true && decide (rb_on (rb_BB x0) (rb_d1 i) 4 = rb_sz (rb_d1 i) 4)) = true ∧ M < rb_sz (rb_d1 i) 4 then nI (rb_sz (rb_d1 i) 4) else nI M) = nI (if true = true ∧ rb_on (rb_BB x0) (rb_d1 i) 4 = rb_sz (rb_d1 i) 4 ∧ M < rb_sz (rb_d1 i) 4 then rb_sz (rb_d1 i) 4 else M) := by
      by_cases q : true = true ∧ rb_on (rb_BB x0) (rb_d1 i) 4 = rb_sz (rb_d1 i) 4 ∧ M < rb_sz (rb_d1 i) 4
      · rw [if_pos q, if_pos ((c1 _).mpr q)]
      · rw [if_neg q, if_neg (fun z => q ((c1 _).mp z))]
    rw [rb_if1 (c1 _), rb_if1 (c2 _), rb_ifI (c1 _), rb_ifI c3, rb_if1 c4, e15]
    exact w
end
section
/-! the law's second loop: placements in order -/
theorem rb_l604 {post : Int32 → St0 → Prop} {mc ms kc ks : Nat} {J513 J572 : Int32 → Int32 → Int32 → Prop} {x0 x7 x9 x10 x11 x12 x13 x14 x15 x16 x17 x18 x19 x20 x21 x22 x24 t : Int32} {a1 a2 a3 a4 a5 a6 a7 a8 a9 a10 a11 : Nat → Int32} {d : Nat → Nat} {i : Nat} (hd : rb_dc x21 d) (hi : i < 4) (H : J572 x22 (nI (rb_on (rb_BB x0) d (i + 1))) (nI (i + 1))) : wL_lawOf_604 post mc ms J513 J572 x0 x7 x9 x10 x11 x12 x13 x14 x15 x16 x17 x18 x19 x20 x21 x22 (nI (rb_on (rb_BB x0) d i)) x24 (nI i) (nI (d i)) kc ks 4 t a1 a2 a3 a4 a5 a6 a7 a8 a9 a10 a11 := by
  have ons : rb_on (rb_BB x0) d (i + 1) = if d i < 4 ∧ (rb_BB x0 i).testBit (d i) = true then rb_on (rb_BB x0) d i + 1 else rb_on (rb_BB x0) d i := rfl
  have h5 := (hd i hi).2
  refine pk_le 4 (d i) (fun z => ?_) (fun z => ek_if (rb_bit x0 hi z) (fun hb => ?_) (fun hb => ?_))
  · rw [ons, if_neg (by omega)] at H
    exact nm_r (nI_1 i) H
  · rw [ons, if_pos ⟨z, hb⟩] at H
    exact nm_r (nI_1 _) (nm_r (nI_1 i) H)
  · rw [ons, if_neg (fun z => hb z.2)] at H
    exact nm_r (nI_1 i) H
theorem rb_l572 {post : Int32 → St0 → Prop} {mc ms kc ks : Nat} {J513 : Int32 → Int32 → Int32 → Prop} {x0 x7 x9 x10 x11 x12 x13 x14 x15 x16 x17 x18 x19 x20 x21 t : Int32} {a1 a2 a3 a4 a5 a6 a7 a8 a9 a10 a11 : Nat → Int32} {d : Nat → Nat} (hd : rb_dc x21 d) (H : wL_lawOf_634 post mc ms J513 x0 x7 x9 x10 x11 x12 x13 x14 x15 x16 x17 x18 x19 x20 x21 (nI (rb_sz d 4)) (nI (rb_on (rb_BB x0) d 4)) 1 kc ks 4 t a1 a2 a3 a4 a5 a6 a7 a8 a9 a10 a11) : ∃ n, wL_lawOf_572 post mc ms J513 x0 x7 x9 x10 x11 x12 x13 x14 x15 x16 x17 x18 x19 x20 x21 1 kc ks 4 t a1 a2 a3 a4 a5 a6 a7 a8 a9 a10 a11 n 0 0 0 := by
  refine pk_loop (σ := Unit) (fun n i _ => wL_lawOf_572 post mc ms J513 x0 x7 x9 x10 x11 x12 x13 x14 x15 x16 x17 x18 x19 x20 x21 1 kc ks 4 t a1 a2 a3 a4 a5 a6 a7 a8 a9 a10 a11 n (nI (rb_sz d i)) (nI (rb_on (rb_BB x0) d i)) (nI i)) (fun _ _ => True) 4 0 () (by omega) trivial
    (fun n _ _ => pk_le 4 4 (fun _ => H) (fun z => absurd z (by omega)))
    (fun n i _ hi _ hw => pk_le 4 i (fun z => absurd z (by omega)) (fun _ => br_f (by decide) (nm_r (hd i hi).1 ?_)))
  have szs : rb_sz d (i + 1) = if d i < 4 then rb_sz d i + 1 else rb_sz d i := rfl
  have w := hw () trivial
  rw [szs] at w
  refine pk_le 4 (d i) (fun z => ?_) (fun z => ?_) rfl rfl (by omega) (by have := (hd i hi).2; omega)
  · rw [if_neg (by omega)] at w
    exact rb_l604 hd hi w
  · rw [if_pos z] at w
    exact nm_r (nI_1 _) (rb_l604 hd hi w)
theorem rb_l572n {post : Int32 → St0 → Prop} {mc ms kc ks : Nat} {J513 : Int32 → Int32 → Int32 → Prop} {x0 x7 x9 x10 x11 x12 x13 x14 x15 x16 x17 x18 x19 x20 x21 t : Int32} {a1 a2 a3 a4 a5 a6 a7 a8 a9 a10 a11 : Nat → Int32} (H : wL_lawOf_634 post mc ms J513 x0 x7 x9 x10 x11 x12 x13 x14 x15 x16 x17 x18 x19 x20 x21 0 0 0 kc ks 4 t a1 a2 a3 a4 a5 a6 a7 a8 a9 a10 a11) : ∃ n, wL_lawOf_572 post mc ms J513 x0 x7 x9 x10 x11 x12 x13 x14 x15 x16 x17 x18 x19 x20 x21 0 kc ks 4 t a1 a2 a3 a4 a5 a6 a7 a8 a9 a10 a11 n 0 0 0 :=
  ⟨1, br_f (by decide) (br_t rfl H)⟩
theorem rb_l684 {post : Int32 → St0 → Prop} {mc ms kc ks : Nat} {J513 : Int32 → Int32 → Int32 → Prop} {x0 x7 x9 x10 x11 x12 x13 x14 x15 x16 x17 x18 t : Int32} {a1 a2 a3 a4 a5 a6 a7 a8 a9 a10 a11 : Nat → Int32} {ow : Bool} {N m : Nat} (H : J513 x17 (nI (N + if ow = true then 1 else 0)) (nI (m + 1))) : wL_lawOf_684 post mc ms J513 x0 x7 x9 x10 x11 x12 x13 x14 x15 x16 x17 x18 (nI N) (nI m) (rb_b ow) kc ks 4 t a1 a2 a3 a4 a5 a6 a7 a8 a9 a10 a11 := by
  cases ow with
  | false =>
    rw [if_neg (by decide), Nat.add_zero] at H
    exact br_t rfl (nm_r (nI_1 m) H)
  | true =>
    rw [if_pos rfl] at H
    exact br_f (by decide) (nm_r (nI_1 N) (nm_r (nI_1 m) H))
theorem rb_l658 {post : Int32 → St0 → Prop} {mc ms kc ks : Nat} {J513 : Int32 → Int32 → Int32 → Prop} {x0 x7 x9 x10 x11 x12 x13 x14 x15 x17 x21 t : Int32} {a1 a2 a3 a4 a5 a6 a7 a8 a9 a10 a11 : Nat → Int32} {ow : Bool} {N m p row : Nat} {d : Nat → Nat} (hd : rb_dc x21 d) (hN : N ≤ 625) (hp : p < 16) (hr : row < 4) (H : J513 (if ow = true ∧ N = p then nI (d row) else x17) (nI (N + if ow = true then 1 else 0)) (nI (m + 1))) : wL_lawOf_658 post mc ms J513 x0 x7 x9 x10 x11 x12 x13 x14 x15 (nI p) x17 (nI row) (nI N) (nI m) x21 (rb_b ow) kc ks 4 t a1 a2 a3 a4 a5 a6 a7 a8 a9 a10 a11 := by
  cases ow with
  | false =>
    rw [if_neg (show ¬ (false = true ∧ N = p) from fun g => absurd g.1 (by decide))] at H
    exact br_t rfl (rb_l684 (ow := false) H)
  | true =>
    refine br_f (by decide) (pk_eq N p (fun g => ?_) (fun g => ?_))
    · rw [if_pos (show true = true ∧ N = p from ⟨rfl, g⟩)] at H
      exact nm_r (hd row hr).1 (rb_l684 (ow := true) H)
    · rw [if_neg (show ¬ (true = true ∧ N = p) from fun q => g q.2)] at H
      exact rb_l684 (ow := true) H
theorem rb_l634 {post : Int32 → St0 → Prop} {mc ms kc ks : Nat} {J513 : Int32 → Int32 → Int32 → Prop} {x0 x9 x10 x11 x12 x13 x14 x15 x17 x21 t : Int32} {a1 a2 a3 a4 a5 a6 a7 a8 a9 a10 a11 : Nat → Int32} {gg : Bool} {N m p row z o k : Nat} {d : Nat → Nat} (hd : rb_dc x21 d) (hN : N ≤ 625) (hp : p < 16) (hr : row < 4) (hz : z ≤ 4) (ho : o ≤ 4) (hk : k ≤ 4) (H : J513 (if (gg && (decide (o = z) && decide (z = k))) = true ∧ N = p then nI (d row) else x17) (nI (N + if (gg && (decide (o = z) && decide (z = k))) = true then 1 else 0)) (nI (m + 1))) : wL_lawOf_634 post mc ms J513 x0 (nI k) x9 x10 x11 x12 x13 x14 x15 (nI p) x17 (nI row) (nI N) (nI m) x21 (nI z) (nI o) (rb_b gg) kc ks 4 t a1 a2 a3 a4 a5 a6 a7 a8 a9 a10 a11 := by
  cases gg with
  | false => exact br_t rfl (rb_l658 (ow := false) hd hN hp hr H)
  | true =>
    refine br_f (by decide) (pk_eq o z (fun g => pk_eq z k (fun g2 => ?_) (fun g2 => ?_)) (fun g => ?_))
    · rw [decide_eq_true g, decide_eq_true g2] at H
      exact rb_l658 (ow := true) hd hN hp hr H
    · rw [decide_eq_true g, decide_eq_false g2] at H
      exact rb_l658 (ow := false) hd hN hp hr H
    · rw [decide_eq_false g] at H
      exact rb_l658 (ow := false) hd hN hp hr H
/-- what has been found among the first i placements -/
def rb_FI (B : Nat → Nat) (k p row i : Nat) (f : Int32) : Prop := (rb_n (fun m => rb_F B k (rb_d2 m)) i ≤ p ∧ f = -4) ∨ ∃ m, m < i ∧ rb_F B k (rb_d2 m) = 1 ∧ rb_n (fun m => rb_F B k (rb_d2 m)) m = p ∧ f = nI (rb_d2 m row)
theorem rb_FI_s {B : Nat → Nat} {k p row i : Nat} {f f' : Int32} (h : rb_FI B k p row i f) (h1 : rb_F B k (rb_d2 i) = 1 → rb_n (fun m => rb_F B k (rb_d2 m)) i = p → f' = nI (rb_d2 i row)) (h0 : ¬ (rb_F B k (rb_d2 i) = 1 ∧ rb_n (fun m => rb_F B k (rb_d2 m)) i = p) → f' = f) : rb_FI B k p row (i + 1) f' := by
  have ns : rb_n (fun m => rb_F B k (rb_d2 m)) (i + 1) = rb_n (fun m => rb_F B k (rb_d2 m)) i + rb_F B k (rb_d2 i) := rfl
  have f01 := rb_F_01 B k (rb_d2 i)
  by_cases g : rb_F B k (rb_d2 i) = 1 ∧ rb_n (fun m => rb_F B k (rb_d2 m)) i = p
  · exact Or.inr ⟨i, by omega, g.1, g.2, h1 g.1 g.2⟩
  · rw [h0 g]
    rcases h with ⟨q1, q2⟩ | ⟨m, hm, q⟩
    · exact Or.inl ⟨by omega, q2⟩
    · exact Or.inr ⟨m, by omega, q⟩
theorem rb_l513 {post : Int32 → St0 → Prop} {mc ms kc ks : Nat} {x0 x9 x10 x11 x12 x13 x14 x15 t : Int32} {a1 a2 a3 a4 a5 a6 a7 a8 a9 a10 a11 : Nat → Int32} {k p row : Nat} (hk : k ≤ 4) (hp : p < 16) (hr : row < 4)
    (H : ∀ x17, rb_FI (rb_BB x0) k p row 625 x17 → ∃ n, wL_lawOf_705 post mc ms x0 (nI k) x9 x10 x11 x12 x13 x14 x15 (nI p) x17 (nI row) kc ks 4 t a1 a2 a3 a4 a5 a6 a7 a8 a9 a10 a11 n 8 0) : ∃ n, wL_lawOf_513 post mc ms x0 (nI k) x9 x10 x11 x12 x13 x14 x15 (nI p) (nI row) kc ks 4 t a1 a2 a3 a4 a5 a6 a7 a8 a9 a10 a11 n (-4) 0 0 := by
  refine pk_loop (σ := Int32) (fun n i f => wL_lawOf_513 post mc ms x0 (nI k) x9 x10 x11 x12 x13 x14 x15 (nI p) (nI row) kc ks 4 t a1 a2 a3 a4 a5 a6 a7 a8 a9 a10 a11 n f (nI (rb_n (fun m => rb_F (rb_BB x0) k (rb_d2 m)) i)) (nI i)) (fun i f => rb_FI (rb_BB x0) k p row i f) 625 0 (-4) (by omega) (Or.inl ⟨Nat.zero_le _, rfl⟩)
    (fun n f h => pk_le 625 625 (fun _ => H f h) (fun z => absurd z (by omega)))
    (fun n i f hi h hw => pk_le 625 i (fun z => absurd z (by omega)) (fun _ => ⟨by decide, by decide, by decide, by decide, by decide, by decide, nm_r (rb_code2 i hi) (rb_apart (rb_dc2 hi) ?_)⟩))
  have sz4 := rb_sz_le (rb_d2 i) 4
  have on4 := (rb_on_s (B := rb_BB x0) (d := rb_d2 i) 4).1
  have dc := rb_dc2 hi
  have nb : rb_n (fun m => rb_F (rb_BB x0) k (rb_d2 m)) i ≤ 625 := Nat.le_trans (rb_n_b (fun m _ => rb_F_01 _ _ _)) (by omega)
  have w : ∀ f', rb_FI (rb_BB x0) k p row (i + 1) f' → wL_lawOf_513 post mc ms x0 (nI k) x9 x10 x11 x12 x13 x14 x15 (nI p) (nI row) kc ks 4 t a1 a2 a3 a4 a5 a6 a7 a8 a9 a10 a11 n f' (nI (rb_n (fun m => rb_F (rb_BB x0) k (rb_d2 m)) i + rb_F (rb_BB x0) k (rb_d2 i))) (nI (i + 1)) := hw
  have fi := fun f' => rb_FI_s (f' := f') h
  cases hg : rb_gd (rb_d2 i) 4 with
  | false =>
    have F0 : rb_F (rb_BB x0) k (rb_d2 i) = 0 := if_neg (fun z => by rw [hg] at z; exact absurd z.1 (by decide))
    rw [F0] at w fi
    refine rb_l572n (rb_l634 (gg := false) (z := 0) (o := 0) dc nb hp hr (by omega) (by omega) hk (w _ (fi _ (fun z => absurd z (by omega)) (fun _ => ?_))))
    exact if_neg (fun z => absurd z.1 (by rw [Bool.false_and]; decide))
  | true =>
    have Fe : rb_F (rb_BB x0) k (rb_d2 i) = if (true && (decide (rb_on (rb_BB x0) (rb_d2 i) 4 = rb_sz (rb_d2 i) 4) && decide (rb_sz (rb_d2 i) 4 = k))) = true then 1 else 0 := by
      unfold rb_F
      by_cases q : rb_on (rb_BB x0) (rb_d2 i) 4 = rb_sz (rb_d2 i) 4 ∧ rb_sz (rb_d2 i) 4 = k
      · rw [if_pos ⟨hg, q⟩, decide_eq_true q.1, decide_eq_true q.2]
        rfl
      · rw [if_neg (fun z => q z.2), if_neg]
        intro z
        rw [Bool.true_and, Bool.and_eq_true, decide_eq_true_iff, decide_eq_true_iff] at z
        exact q z
    rw [Fe] at w fi
    refine rb_l572 dc (rb_l634 (gg := true) dc nb hp hr sz4 (by omega) hk (w _ (fi _ (fun z1 z2 => if_pos ⟨?_, z2⟩) (fun z => if_neg (fun q => z ⟨if_pos q.1, q.2⟩)))))
    by_cases q : (true && (decide (rb_on (rb_BB x0) (rb_d2 i) 4 = rb_sz (rb_d2 i) 4) && decide (rb_sz (rb_d2 i) 4 = k))) = true
    · exact q
    · rw [if_neg q] at z1
      cases z1
/-! the law's third loop: lines -/
theorem rb_vb : ∀ v, v < 256 → ∀ y, y < 8 → ((nI v >>> (nI y &&& 31)) &&& 1) = nI (v / 2 ^ y % 2) ∧ (((nI v >>> (nI y &&& 31)) &&& 1) = 0 ↔ v.testBit y = false) := by decide +kernel
def rb_lf (B : Nat → Nat) (v : Nat) (y : Nat) : Nat := if (B (y / 4)).testBit (y % 4) = true ∧ v.testBit (y / 4) = false ∧ v.testBit (4 + y % 4) = false then 1 else 0
theorem rb_lf_0 {B : Nat → Nat} {v : Nat} : rb_n (rb_lf B v) 16 = 0 ↔ rb_cv B v := by
  constructor
  · intro h y hy c hc hb
    have := rb_n_0 h (4 * y + c) (by omega)
    unfold rb_lf at this
    rw [show (4 * y + c) / 4 = y by omega, show (4 * y + c) % 4 = c by omega] at this
    cases h1 : v.testBit y with
    | true => exact Or.inl rfl
    | false =>
      cases h2 : v.testBit (4 + c) with
      | true => exact Or.inr rfl
      | false =>
        rw [if_pos ⟨hb, h1, h2⟩] at this
        cases this
  · intro h
    refine rb_n_z (fun y hy => if_neg (fun z => ?_))
    rcases h (y / 4) (by omega) (y % 4) (by omega) z.1 with g | g
    · rw [z.2.1] at g
      cases g
    · rw [z.2.2] at g
      cases g
/-- the least cover so far -/
def rb_NI (B : Nat → Nat) (i L : Nat) : Prop := L ≤ 8 ∧ (∀ v, v < i → rb_cv B v → L ≤ rb_s8 v) ∧ (L = 8 ∨ ∃ v, v < i ∧ rb_cv B v ∧ rb_s8 v = L)
theorem rb_l750 {post : Int32 → St0 → Prop} {mc ms kc ks : Nat} {J705 : Int32 → Int32 → Prop} {x0 x7 x9 x10 x11 x12 x13 x14 x15 x16 x17 x18 t : Int32} {a1 a2 a3 a4 a5 a6 a7 a8 a9 a10 a11 : Nat → Int32} {v L : Nat} (hv : v < 256) (hL : L ≤ 8) (H0 : rb_cv (rb_BB x0) v → J705 (nI (if L ≤ rb_s8 v then L else rb_s8 v)) (nI (v + 1))) (H1 : ¬ rb_cv (rb_BB x0) v → J705 (nI L) (nI (v + 1))) : ∃ n, wL_lawOf_750 post mc ms J705 x0 x7 x9 x10 x11 x12 x13 x14 x15 x16 x17 x18 (nI L) (nI v) (nI (rb_s8 v)) kc ks 4 t a1 a2 a3 a4 a5 a6 a7 a8 a9 a10 a11 n 0 0 := by
  have s8 : rb_s8 v ≤ 8 := rb_n_b (fun m _ => by omega)
  have lb : ∀ y, rb_lf (rb_BB x0) v y ≤ 1 := by
    intro y
    unfold rb_lf
    split <;> omega
  refine pk_loop (σ := Unit) (fun n i _ => wL_lawOf_750 post mc ms J705 x0 x7 x9 x10 x11 x12 x13 x14 x15 x16 x17 x18 (nI L) (nI v) (nI (rb_s8 v)) kc ks 4 t a1 a2 a3 a4 a5 a6 a7 a8 a9 a10 a11 n (nI (rb_n (rb_lf (rb_BB x0) v) i)) (nI i)) (fun _ _ => True) 16 0 () (by omega) trivial
    (fun n _ _ => pk_le 16 16 (fun _ => ?_) (fun z => absurd z (by omega)))
    (fun n i _ hi _ hw => pk_le 16 i (fun z => absurd z (by omega)) (fun _ => ?_))
  · have nb : rb_n (rb_lf (rb_BB x0) v) 16 ≤ 16 := rb_n_b (fun m _ => lb m)
    refine pk_eq (rb_n (rb_lf (rb_BB x0) v) 16) 0 (fun z => ?_) (fun z => nm_r (nI_1 v) (H1 (fun g => z (rb_lf_0.mpr g))))
    have h := H0 (rb_lf_0.mp z)
    refine pk_le L (rb_s8 v) (fun g => ?_) (fun g => ?_)
    · rw [if_pos g] at h
      exact nm_r (nI_1 v) h
    · rw [if_neg (by omega)] at h
      exact nm_r (nI_1 v) h
  · have e1 : nI i / 4 = nI (i / 4) := pk_div (d := 4) (by omega) (by omega) (by omega)
    have e2 : nI i - nI i / 4 * 4 = nI (i % 4) := pk_rem (d := 4) (by omega) (by omega) (by omega)
    have e3 : 4 + nI (i % 4) = nI (4 + i % 4) := nI_add 4 (i % 4)
    have w : wL_lawOf_750 post mc ms J705 x0 x7 x9 x10 x11 x12 x13 x14 x15 x16 x17 x18 (nI L) (nI v) (nI (rb_s8 v)) kc ks 4 t a1 a2 a3 a4 a5 a6 a7 a8 a9 a10 a11 n (nI (rb_n (rb_lf (rb_BB x0) v) i + rb_lf (rb_BB x0) v i)) (nI (i + 1)) := hw () trivial
    have bi : ((x0 >>> (nI i &&& 31)) &&& 1) = 1 ↔ (rb_BB x0 (i / 4)).testBit (i % 4) = true := by
      rw [← rb_bit x0 (show i / 4 < 4 by omega) (show i % 4 < 4 by omega), show 4 * nI (i / 4) + nI (i % 4) = nI i by rw [show (4 : Int32) = nI 4 from rfl, pk_mul, nI_add, show 4 * (i / 4) + i % 4 = i by omega]]
    have no : ¬ ((rb_BB x0 (i / 4)).testBit (i % 4) = true ∧ v.testBit (i / 4) = false ∧ v.testBit (4 + i % 4) = false) → nI (rb_n (rb_lf (rb_BB x0) v) i) + 0 = nI (rb_n (rb_lf (rb_BB x0) v) i + rb_lf (rb_BB x0) v i) := by
      intro g
      unfold rb_lf
      rw [if_neg g, Nat.add_zero, Int32.add_zero]
    rw [e2, e1, e3]
    refine ek_if bi (fun g1 => ⟨by decide, ek_if (rb_vb v hv (i / 4) (by omega)).2 (fun g2 => ⟨by decide, ek_if (rb_vb v hv (4 + i % 4) (by omega)).2 (fun g3 => ?_) (fun g3 => ?_)⟩) (fun g2 => ?_)⟩) (fun g1 => ?_)
    · refine nm_r ?_ (nm_r (nI_1 i) w)
      unfold rb_lf
      rw [if_pos ⟨g1, g2, g3⟩, nI_1]
    · exact nm_r (no (fun z => g3 z.2.2)) (nm_r (nI_1 i) w)
    · exact nm_r (no (fun z => g2 z.2.1)) (nm_r (nI_1 i) w)
    · exact nm_r (no (fun z => g1 z.1)) (nm_r (nI_1 i) w)
theorem rb_l722 {post : Int32 → St0 → Prop} {mc ms kc ks : Nat} {J705 : Int32 → Int32 → Prop} {x0 x7 x9 x10 x11 x12 x13 x14 x15 x16 x17 x18 t : Int32} {a1 a2 a3 a4 a5 a6 a7 a8 a9 a10 a11 : Nat → Int32} {v L : Nat} (hv : v < 256) (hL : L ≤ 8) (H0 : rb_cv (rb_BB x0) v → J705 (nI (if L ≤ rb_s8 v then L else rb_s8 v)) (nI (v + 1))) (H1 : ¬ rb_cv (rb_BB x0) v → J705 (nI L) (nI (v + 1))) : ∃ n, wL_lawOf_722 post mc ms J705 x0 x7 x9 x10 x11 x12 x13 x14 x15 x16 x17 x18 (nI L) (nI v) 0 kc ks 4 t a1 a2 a3 a4 a5 a6 a7 a8 a9 a10 a11 n 0 0 :=
  pk_loop (σ := Unit) (fun n i _ => wL_lawOf_722 post mc ms J705 x0 x7 x9 x10 x11 x12 x13 x14 x15 x16 x17 x18 (nI L) (nI v) 0 kc ks 4 t a1 a2 a3 a4 a5 a6 a7 a8 a9 a10 a11 n (nI (rb_n (fun y => v / 2 ^ y % 2) i)) (nI i)) (fun _ _ => True) 8 0 () (by omega) trivial
    (fun n _ _ => pk_le 8 8 (fun _ => rb_l750 hv hL H0 H1) (fun z => absurd z (by omega)))
    (fun n i _ hi _ hw => pk_le 8 i (fun z => absurd z (by omega)) (fun _ => nm_r (by rw [(rb_vb v hv i hi).1, nI_add]; rfl) (nm_r (nI_1 i) (hw () trivial))))
end
section
theorem rb_l705 {post : Int32 → St0 → Prop} {mc ms kc ks : Nat} {x0 x7 x9 x10 x11 x12 x13 x14 x15 x16 x17 x18 t : Int32} {a1 a2 a3 a4 a5 a6 a7 a8 a9 a10 a11 : Nat → Int32} (H : ∀ L n, rb_NI (rb_BB x0) 256 L → wL_lawOf_705 post mc ms x0 x7 x9 x10 x11 x12 x13 x14 x15 x16 x17 x18 kc ks 4 t a1 a2 a3 a4 a5 a6 a7 a8 a9 a10 a11 (n + 1) (nI L) (nI 256)) : ∃ n, wL_lawOf_705 post mc ms x0 x7 x9 x10 x11 x12 x13 x14 x15 x16 x17 x18 kc ks 4 t a1 a2 a3 a4 a5 a6 a7 a8 a9 a10 a11 n 8 0 := by
  refine pk_loop (σ := Nat) (fun n i L => wL_lawOf_705 post mc ms x0 x7 x9 x10 x11 x12 x13 x14 x15 x16 x17 x18 kc ks 4 t a1 a2 a3 a4 a5 a6 a7 a8 a9 a10 a11 n (nI L) (nI i)) (fun i L => rb_NI (rb_BB x0) i L) 256 0 8 (by omega) ⟨by omega, fun v hv => absurd hv (by omega), Or.inl rfl⟩
    (fun n L h => H L n h)
    (fun n i L hi h hw => pk_le 256 i (fun z => absurd z (by omega)) (fun _ => rb_l722 hi h.1 (fun g => hw _ ?_) (fun g => hw _ ?_)))
  · obtain ⟨h1, h2, h3⟩ := h
    by_cases q : L ≤ rb_s8 i
    · rw [if_pos q]
      refine ⟨h1, fun v hv gv => ?_, ?_⟩
      · by_cases e : v = i
        · rw [e]
          exact q
        · exact h2 v (by omega) gv
      · rcases h3 with h3 | ⟨v, hv, gv⟩
        · exact Or.inl h3
        · exact Or.inr ⟨v, by omega, gv⟩
    · rw [if_neg q]
      refine ⟨by omega, fun v hv gv => ?_, Or.inr ⟨i, by omega, g, rfl⟩⟩
      by_cases e : v = i
      · rw [e]
        exact Nat.le_refl _
      · have := h2 v (by omega) gv
        omega
  · obtain ⟨h1, h2, h3⟩ := h
    refine ⟨h1, fun v hv gv => ?_, ?_⟩
    · by_cases e : v = i
      · rw [e] at gv
        exact absurd gv g
      · exact h2 v (by omega) gv
    · rcases h3 with h3 | ⟨v, hv, gv⟩
      · exact Or.inl h3
      · exact Or.inr ⟨v, by omega, gv⟩
theorem rb_MM {B ρ : Nat → Nat} {U f M : Nat} (ho : rb_OI B ρ 4 U f) (h : rb_MI B 625 M) : M = f := by
  obtain ⟨h1, h2, h3⟩ := h
  obtain ⟨a, b, c, d, ha, hb, hc, hd, g1, g2, g3⟩ := rb_place ho
  obtain ⟨v, hv, cv, sv⟩ := rb_cover ho
  have le : f ≤ M := by
    have e : rb_d1 (a + 5 * b + 25 * c + 125 * d) = rb_dg a b c d := by
      unfold rb_d1
      rw [show (a + 5 * b + 25 * c + 125 * d) % 5 = a by omega, show (a + 5 * b + 25 * c + 125 * d) / 5 % 5 = b by omega, show (a + 5 * b + 25 * c + 125 * d) / 25 % 5 = c by omega, show (a + 5 * b + 25 * c + 125 * d) / 125 = d by omega]
    have := h2 (a + 5 * b + 25 * c + 125 * d) (by omega)
    rw [e, g3] at this
    exact this g1 (by rw [g2, g3])
  rcases h3 with h3 | ⟨m, hm, q1, q2, q3⟩
  · omega
  · have := rb_weak (B := B) (a := m % 5) (b := m / 5 % 5) (c := m / 25 % 5) (d := m / 125) (by omega) (by omega) (by omega) (by omega) q1 q2 hv cv
    have e : rb_sz (rb_dg (m % 5) (m / 5 % 5) (m / 25 % 5) (m / 125)) 4 = M := q3
    omega
theorem rb_LL {B ρ : Nat → Nat} {U f L : Nat} (ho : rb_OI B ρ 4 U f) (h : rb_NI B 256 L) : L = f := by
  obtain ⟨h1, h2, h3⟩ := h
  obtain ⟨a, b, c, d, ha, hb, hc, hd, g1, g2, g3⟩ := rb_place ho
  obtain ⟨v, hv, cv, sv⟩ := rb_cover ho
  have le : L ≤ f := by
    have := h2 v hv cv
    omega
  have f4 : f ≤ 4 := by
    rw [ho.2.2.2.2]
    exact rb_ct4_4 ρ
  rcases h3 with h3 | ⟨v', hv', cv', sv'⟩
  · omega
  · have := rb_weak ha hb hc hd g1 g2 hv' cv'
    omega
theorem rb_fin {post : Int32 → St0 → Prop} {mc ms kc ks n : Nat} {x0 x17 t : Int32} {a1 a2 a3 a4 a5 a6 a7 a8 a9 a10 a11 : Nat → Int32} {x1 : Int32} {k x p row M L : Nat} (hk : k ≤ 4) (hx : x < 16) (hp : p < 16) (hr : row < 4) (hB : rb_bd (rb_BB x0) a1) (hW : rb_wg (rb_ww x1) a2) (h7 : rb_tf a7) (h8 : rb_tc a8) (hM : rb_MI (rb_BB x0) 625 M) (hL : rb_NI (rb_BB x0) 256 L) (hF : rb_FI (rb_BB x0) k p row 625 x17) (Hp : post 1 ()) :
    wL_lawOf_705 post mc ms x0 (nI k) (nI (6 * (x / 4) + x % 4)) (nI (rb_n (fun m => rb_F (rb_BB x0) k (rb_d1 m)) 625)) (nI (rb_n (rb_g11 (rb_BB x0) k) 625)) (rb_i (rb_g12 (rb_BB x0) (rb_ww x1) k) 625) (rb_i (rb_g13 (rb_BB x0) (rb_ww x1)) 625) (nI (rb_n (fun m => rb_FT (rb_BB x0) k (x / 4) (x % 4) (rb_d1 m)) 625)) (nI M) (nI p) x17 (nI row) kc ks 4 t a1 a2 a3 a4 a5 a6 a7 a8 a9 a10 a11 (n + 1) (nI L) (nI 256) := by
  have e10 : nI (rb_P (rb_BB x0) 4 k 0) = nI (rb_n (fun m => rb_F (rb_BB x0) k (rb_d1 m)) 625) := by
    rw [rb_P_1]
  have e11 : nI (rb_N (rb_BB x0) k) = nI (rb_n (rb_g11 (rb_BB x0) k) 625) :=
    congrArg nI (rb_R1 (fun x y z w => if rb_gd (rb_dg x y z w) 4 = true ∧ rb_sz (rb_dg x y z w) 4 = 4 ∧ rb_on (rb_BB x0) (rb_dg x y z w) 4 = k then 1 else 0)).symm
  have e12 : rb_G (rb_BB x0) (rb_ww x1) false true 4 (fun s => if rb_pc s = k then 1 else 0) = rb_i (rb_g12 (rb_BB x0) (rb_ww x1) k) 625 :=
    (rb_sum_S (rb_BB x0) (rb_ww x1) k).trans (rb_R1i (fun a b c d => if rb_gd (rb_dg a b c d) 4 = true ∧ rb_on (rb_BB x0) (rb_dg a b c d) 4 = rb_sz (rb_dg a b c d) 4 ∧ rb_sz (rb_dg a b c d) 4 = k then rb_wo (rb_ww x1) (rb_dg a b c d) 4 else 0)).symm
  have e13 : rb_G (rb_BB x0) (rb_ww x1) true false 4 (fun s => if s = 15 then 1 else 0) = rb_i (rb_g13 (rb_BB x0) (rb_ww x1)) 625 :=
    (rb_signed_S (rb_BB x0) (rb_ww x1)).trans (rb_R1i (fun a b c d => if rb_gd (rb_dg a b c d) 4 = true ∧ rb_on (rb_BB x0) (rb_dg a b c d) 4 = rb_sz (rb_dg a b c d) 4 ∧ rb_sz (rb_dg a b c d) 4 = 4 then rb_sn (rb_dg a b c d) 4 * rb_wo (rb_ww x1) (rb_dg a b c d) 4 else 0)).symm
  have e14 : nI (rb_th (rb_BB x0) k (x / 4) (x % 4)) = nI (rb_n (fun m => rb_FT (rb_BB x0) k (x / 4) (x % 4) (rb_d1 m)) 625) :=
    congrArg nI (rb_R1 (fun a b c d => rb_FT (rb_BB x0) k (x / 4) (x % 4) (rb_dg a b c d))).symm
  have uniq : ∀ m, m < 625 → rb_F (rb_BB x0) k (rb_d2 m) = 1 → rb_n (fun m => rb_F (rb_BB x0) k (rb_d2 m)) m = p → nI (rb_d2 m row) = x17 := by
    intro m hm q1 q2
    rcases hF with ⟨f1, _⟩ | ⟨m', hm', f1, f2, f3⟩
    · have := rb_n_lt (fun m => rb_F (rb_BB x0) k (rb_d2 m)) hm
      omega
    · have em : m = m' := by
        rcases Nat.lt_trichotomy m m' with z | z | z
        · have := rb_n_lt (fun m => rb_F (rb_BB x0) k (rb_d2 m)) z
          omega
        · exact z
        · have := rb_n_lt (fun m => rb_F (rb_BB x0) k (rb_d2 m)) z
          omega
      rw [em, f3]
  have none : rb_P (rb_BB x0) 4 k 0 ≤ p → (-4 : Int32) = x17 := by
    intro q
    rcases hF with ⟨_, f1⟩ | ⟨m', hm', f1, f2, f3⟩
    · exact f1.symm
    · have := rb_n_lt (fun m => rb_F (rb_BB x0) k (rb_d2 m)) hm'
      rw [rb_P_2] at this
      omega
  refine pk_le 256 256 (fun _ => ?_) (fun z => absurd z (by omega))
  refine rb_rooks hk hB (fun b3 b4 => br_t e10 (rb_hits hk hB h7 h8 (fun b3 b4 => br_t e11 (rb_sum hk hB hW (fun b5 b6 => br_t e12 (rb_signed hB hW (fun b5 b6 => br_t e13 (rb_through hk (by omega) (by omega) hB (fun b3 b4 => br_t e14 ?_)))))))))
  refine rb_findMost hB (fun ρ U f ho t b9 b10 b11 => br_t (by rw [rb_MM ho hM]) (rb_findMost hB (fun ρ' U' f' ho' t b9 b10 b11 => br_t (by rw [rb_LL ho' hL]) (br_t (by rw [rb_LL ho hL, rb_MM ho hM]) ?_))))
  refine rb_column hk hp hr hB (fun z c3 c4 => br_t (none z) ?_) (fun m hm q1 q2 c3 c4 => br_t (uniq m hm q1 q2) ?_)
  · refine rb_needed hB (fun ρ'' U'' f'' many ho'' hle t b3 b4 b9 b10 b11 => br_f ?_ Hp)
    have em := rb_MM ho'' hM
    have := hM.1
    exact nI_nlt (by omega) (by omega)
  · refine rb_needed hB (fun ρ'' U'' f'' many ho'' hle t b3 b4 b9 b10 b11 => br_f ?_ Hp)
    have em := rb_MM ho'' hM
    have := hM.1
    exact nI_nlt (by omega) (by omega)
theorem rb_lawOf (p0 p1 p2 p3 p4 p5 : Int32) {post : Int32 → St0 → Prop} (Hp : post 1 ()) : wpL_lawOf post 12 1155 () p0 p1 p2 p3 p4 p5 := by
  obtain ⟨j2, h2, e2⟩ := pk_andE p2 (m := 127) 7 (by decide)
  obtain ⟨j3, h3, e3⟩ := pk_andE p3 (m := 127) 7 (by decide)
  obtain ⟨p, hp, e4⟩ := pk_andE p4 (m := 15) 4 (by decide)
  obtain ⟨row, hr, e5⟩ := pk_andE p5 (m := 3) 2 (by decide)
  have e7 : (p2 &&& 127) - (p2 &&& 127) / 5 * 5 = nI (j2 % 5) := by
    rw [e2]
    exact pk_rem (d := 5) (by omega) (by omega) (by omega)
  have e8 : (p3 &&& 127) - (p3 &&& 127) / 16 * 16 = nI (j3 % 16) := by
    rw [e3]
    exact pk_rem (d := 16) (by omega) (by omega) (by omega)
  have e9 : 6 * (nI (j3 % 16) / 4) + (nI (j3 % 16) - nI (j3 % 16) / 4 * 4) = nI (6 * (j3 % 16 / 4) + j3 % 16 % 4) := by
    rw [show nI (j3 % 16) - nI (j3 % 16) / 4 * 4 = nI (j3 % 16 % 4) from pk_rem (d := 4) (by omega) (by omega) (by omega), show nI (j3 % 16) / 4 = nI (j3 % 16 / 4) from pk_div (d := 4) (by omega) (by omega) (by omega), rb_ix6]
  refine ⟨by omega, by omega, 11, 1142, by omega, by omega, rb_init (by omega) (by omega) (fun a2 a7 a8 h7 h8 => ⟨by decide, nm_r e7 ⟨by decide, nm_r e8 ⟨by decide, by decide, nm_r e9 (nm_r e4 (nm_r e5 ?_))⟩⟩⟩)⟩
  refine rb_l79 (fun r _ => rfl) (fun a1 a2 hB hW => ?_)
  refine rb_l151 (by omega) (by omega) (fun M hM => ?_)
  refine rb_l513 (by omega) hp hr (fun f hF => ?_)
  exact rb_l705 (fun L n hL => rb_fin (by omega) (by omega) hp hr hB hW h7 h8 hM hL hF Hp)
theorem rb_at {post : Int32 → Prop} {L : Nat} {xs : Nat → Int32} {i : Nat} (hi : i < 6) (hL : L ≤ 6) (H : ∀ x, post x) : wpL_cellAt post L xs () (nI i) :=
  pk_le L i (fun _ => H 0) (fun z => ⟨pk_in i L z, H _⟩)
theorem i_vc (xs : Nat → Int32) (L : Nat) (hL : L ≤ 6) : wpL_law (fun r => r = 1) L xs :=
  rb_at (i := 0) (by omega) hL (fun p0 => rb_at (i := 1) (by omega) hL (fun p1 => rb_at (i := 2) (by omega) hL (fun p2 => rb_at (i := 3) (by omega) hL (fun p3 => rb_at (i := 4) (by omega) hL (fun p4 => rb_at (i := 5) (by omega) hL (fun p5 => ⟨12, 1155, by omega, by omega, rb_lawOf p0 p1 p2 p3 p4 p5 rfl⟩))))))
end
