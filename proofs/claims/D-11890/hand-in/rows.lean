section
/-- place i of a packed array, w bits a place -/
def tq_g (w b i : Nat) : Nat := b >>> (w * i) % 2 ^ w
/-- the packed array with v put at place i -/
def tq_p (w b i v : Nat) : Nat := b ^^^ ((tq_g w b i ^^^ v) <<< (w * i))
theorem tq_g_lt (w b i : Nat) : tq_g w b i < 2 ^ w := Nat.mod_lt _ (Nat.two_pow_pos w)
theorem tq_g_tb (w b i t : Nat) : (tq_g w b i).testBit t = (decide (t < w) && b.testBit (w * i + t)) := by
  unfold tq_g
  rw [Nat.testBit_mod_two_pow, Nat.testBit_shiftRight]
theorem tq_p_tb (w b i v t : Nat) : (tq_p w b i v).testBit t = (b.testBit t ^^ (decide (w * i ≤ t) && ((tq_g w b i).testBit (t - w * i) ^^ v.testBit (t - w * i)))) := by
  unfold tq_p
  rw [Nat.testBit_xor, Nat.testBit_shiftLeft, Nat.testBit_xor]
theorem tq_gp_s {w b i v : Nat} (hv : v < 2 ^ w) : tq_g w (tq_p w b i v) i = v := by
  apply Nat.eq_of_testBit_eq
  intro t
  rw [tq_g_tb, tq_p_tb, tq_g_tb, Nat.add_sub_cancel_left]
  by_cases ht : t < w
  · have h1 : w * i ≤ w * i + t := Nat.le_add_right _ _
    simp only [ht, h1, decide_true, Bool.true_and]
    cases b.testBit (w * i + t) <;> cases v.testBit t <;> rfl
  · have h2 : v.testBit t = false := Nat.testBit_lt_two_pow (Nat.lt_of_lt_of_le hv (Nat.pow_le_pow_right (by decide) (by omega)))
    simp only [ht, h2, decide_false, Bool.false_and]
theorem tq_gp_n {w b i j v : Nat} (hv : v < 2 ^ w) (hj : j ≠ i) : tq_g w (tq_p w b i v) j = tq_g w b j := by
  apply Nat.eq_of_testBit_eq
  intro t
  rw [tq_g_tb, tq_p_tb, tq_g_tb w b j]
  by_cases ht : t < w
  · rcases Nat.lt_or_gt_of_ne hj with h | h
    · have h1 : w * (j + 1) ≤ w * i := Nat.mul_le_mul_left w h
      have h2 : ¬ w * i ≤ w * j + t := by rw [Nat.mul_add] at h1; omega
      simp only [h2, decide_false, Bool.false_and, Bool.xor_false]
    · have h1 : w * (i + 1) ≤ w * j := Nat.mul_le_mul_left w h
      have h2 : w ≤ w * j + t - w * i := by rw [Nat.mul_add] at h1; omega
      have h3 : ∀ x, x < 2 ^ w → x.testBit (w * j + t - w * i) = false := fun x hx => Nat.testBit_lt_two_pow (Nat.lt_of_lt_of_le hx (Nat.pow_le_pow_right (by decide) h2))
      rw [h3 _ (tq_g_lt w b i), h3 _ hv]
      simp only [Bool.xor_false, Bool.and_false]
  · simp only [ht, decide_false, Bool.false_and]
/-- bytes -/
def tq_gb (b i : Nat) : Nat := Nat.mod (Nat.shiftRight b (Nat.mul 8 i)) 256
def tq_sb (b i v : Nat) : Nat := Nat.xor b (Nat.shiftLeft (Nat.xor (tq_gb b i) v) (Nat.mul 8 i))
/-- data words -/
def tq_gd (b i : Nat) : Nat := Nat.mod (Nat.shiftRight b (Nat.mul 32 i)) 4294967296
def tq_sd (b i v : Nat) : Nat := Nat.xor b (Nat.shiftLeft (Nat.xor (tq_gd b i) v) (Nat.mul 32 i))
theorem tq_gb_e (b i : Nat) : tq_gb b i = tq_g 8 b i := rfl
theorem tq_sb_e (b i v : Nat) : tq_sb b i v = tq_p 8 b i v := rfl
theorem tq_gd_e (b i : Nat) : tq_gd b i = tq_g 32 b i := rfl
theorem tq_sd_e (b i v : Nat) : tq_sd b i v = tq_p 32 b i v := rfl
theorem tq_gb_lt (b i : Nat) : tq_gb b i < 256 := tq_g_lt 8 b i
theorem tq_gd_lt (b i : Nat) : tq_gd b i < 4294967296 := tq_g_lt 32 b i
theorem tq_gb_s {b i v : Nat} (hv : v < 256) : tq_gb (tq_sb b i v) i = v := tq_gp_s (w := 8) hv
theorem tq_gb_n {b i j v : Nat} (hv : v < 256) (hj : j ≠ i) : tq_gb (tq_sb b i v) j = tq_gb b j := tq_gp_n (w := 8) hv hj
theorem tq_gd_s {b i v : Nat} (hv : v < 4294967296) : tq_gd (tq_sd b i v) i = v := tq_gp_s (w := 32) hv
theorem tq_gd_n {b i j v : Nat} (hv : v < 4294967296) (hj : j ≠ i) : tq_gd (tq_sd b i v) j = tq_gd b j := tq_gp_n (w := 32) hv hj
/-- a source: 0 to 127 as it is, else -1 -/
def tq_sv (x : Nat) : Int32 := if x < 128 then nI x else -1
/-- a data word: c0 + ca * va + cb * vb + cc * vc, eight bits a coefficient -/
def tq_dv (va vb vc : Int32) (x : Nat) : Int32 := nI (x % 256) + nI (x / 256 % 256) * va + nI (x / 65536 % 256) * vb + nI (x / 16777216 % 256) * vc
def tq_ba (b : Nat) : Nat → Int32 := fun i => nI (tq_gb b i)
def tq_sa (b : Nat) : Nat → Int32 := fun i => tq_sv (tq_gb b i)
def tq_da (va vb vc : Int32) (b : Nat) : Nat → Int32 := fun i => tq_dv va vb vc (tq_gd b i)
theorem tq_sv_n {x : Nat} (h : x < 128) : tq_sv x = nI x := if_pos h
theorem tq_sv_m {x : Nat} (h : ¬ x < 128) : tq_sv x = -1 := if_neg h
theorem tq_bag {b i : Nat} (hi : i < 2 ^ 31 := by omega) : tq_ba b (nI i).toNatClampNeg = nI (tq_gb b i) := by
  rw [nI_clamp hi]; rfl
theorem tq_sag {b i : Nat} (hi : i < 2 ^ 31 := by omega) : tq_sa b (nI i).toNatClampNeg = tq_sv (tq_gb b i) := by
  rw [nI_clamp hi]; rfl
theorem tq_dag {va vb vc : Int32} {b i : Nat} (hi : i < 2 ^ 31 := by omega) : tq_da va vb vc b (nI i).toNatClampNeg = tq_dv va vb vc (tq_gd b i) := by
  rw [nI_clamp hi]; rfl
theorem tq_bau {b i v : Nat} {x : Int32} (hx : x = nI v) (hv : v < 256) (hi : i < 2 ^ 31) : upd (tq_ba b) (nI i).toNatClampNeg x = tq_ba (tq_sb b i v) := by
  rw [nI_clamp hi, hx]
  funext j
  by_cases h : j = i
  · rw [h, pk_us]; unfold tq_ba; rw [tq_gb_s hv]
  · rw [pk_un h]; unfold tq_ba; rw [tq_gb_n hv h]
theorem tq_sau {b i v : Nat} {x : Int32} (hx : x = tq_sv v) (hv : v < 256) (hi : i < 2 ^ 31) : upd (tq_sa b) (nI i).toNatClampNeg x = tq_sa (tq_sb b i v) := by
  rw [nI_clamp hi, hx]
  funext j
  by_cases h : j = i
  · rw [h, pk_us]; unfold tq_sa; rw [tq_gb_s hv]
  · rw [pk_un h]; unfold tq_sa; rw [tq_gb_n hv h]
theorem tq_dau {va vb vc : Int32} {b i v : Nat} {x : Int32} (hx : x = tq_dv va vb vc v) (hv : v < 4294967296) (hi : i < 2 ^ 31) : upd (tq_da va vb vc b) (nI i).toNatClampNeg x = tq_da va vb vc (tq_sd b i v) := by
  rw [nI_clamp hi, hx]
  funext j
  by_cases h : j = i
  · rw [h, pk_us]; unfold tq_da; rw [tq_gd_s hv]
  · rw [pk_un h]; unfold tq_da; rw [tq_gd_n hv h]
theorem tq_i8 : ∀ v, v < 128 → (nI v).toInt8.toInt32 = nI v := by decide +kernel
theorem tq_nb {v : Nat} (h : v < 128) : vp_nar .byte (nI v) = nI v := by rw [vp_nar_byte, tq_i8 v h]
theorem tq_n0 : vp_nar .boolean 0 = nI 0 := by rfl
theorem tq_n1 : vp_nar .boolean 1 = nI 1 := by rfl
theorem tq_m7 {h k : Nat} (hh : h < 2 ^ 31) (hk : k < 2 ^ 31) : (nI h + nI k) &&& 7 = nI (Nat.mod (Nat.add h k) 8) := by
  rw [nI_add]
  exact pk_andN (by omega) 3 (by decide)
theorem tq_a7 {h : Nat} (hh : h < 2 ^ 31) : nI h &&& 7 = nI (Nat.mod h 8) := pk_andN (by omega) 3 (by decide)
theorem tq_a15 {h k : Nat} (hh : h < 2 ^ 31) (hk : k < 2 ^ 31) : (nI h + nI k) &&& 15 = nI (Nat.mod (Nat.add h k) 16) := by
  rw [nI_add]
  exact pk_andN (by omega) 4 (by decide)
theorem tq_dv_c {va vb vc : Int32} {x : Nat} (h : x < 256) : tq_dv va vb vc x = nI x := by
  unfold tq_dv
  rw [show x % 256 = x by omega, show x / 256 % 256 = 0 by omega, show x / 65536 % 256 = 0 by omega, show x / 16777216 % 256 = 0 by omega, nI_0]
  grind
theorem tq_dv_0 {va vb vc : Int32} : tq_dv va vb vc 0 = 0 := tq_dv_c (by decide)
theorem tq_dv_a {va vb vc : Int32} : tq_dv va vb vc 256 = va := by
  show nI 0 + nI 1 * va + nI 0 * vb + nI 0 * vc = va
  rw [nI_0, show nI 1 = 1 from rfl]
  grind
theorem tq_dv_b {va vb vc : Int32} : tq_dv va vb vc 65536 = vb := by
  show nI 0 + nI 0 * va + nI 1 * vb + nI 0 * vc = vb
  rw [nI_0, show nI 1 = 1 from rfl]
  grind
theorem tq_dv_d {va vb vc : Int32} : tq_dv va vb vc 16777216 = vc := by
  show nI 0 + nI 0 * va + nI 0 * vb + nI 1 * vc = vc
  rw [nI_0, show nI 1 = 1 from rfl]
  grind
theorem tq_q1 {x y : Nat} (h : x % 256 + y % 256 < 256) : (x + y) / 256 = x / 256 + y / 256 := by omega
theorem tq_q2 {x y : Nat} (h : x % 256 + y % 256 < 256) : (x + y) % 256 = x % 256 + y % 256 := by omega
theorem tq_d2 (t : Nat) : t / 65536 = t / 256 / 256 := by rw [Nat.div_div_eq_div_mul]
theorem tq_d3 (t : Nat) : t / 16777216 = t / 65536 / 256 := by rw [Nat.div_div_eq_div_mul]
theorem tq_dv_add {va vb vc : Int32} {x y : Nat} (h0 : x % 256 + y % 256 < 256) (h1 : x / 256 % 256 + y / 256 % 256 < 256) (h2 : x / 65536 % 256 + y / 65536 % 256 < 256) (h3 : x / 16777216 % 256 + y / 16777216 % 256 < 256) : tq_dv va vb vc x + tq_dv va vb vc y = tq_dv va vb vc (x + y) := by
  have a1 : (x + y) / 256 = x / 256 + y / 256 := tq_q1 h0
  have a2 : (x + y) / 65536 = x / 65536 + y / 65536 := by
    rw [tq_d2 x, tq_d2 y] at h2 ⊢
    rw [tq_d2 (x + y), a1]
    exact tq_q1 h1
  have a3 : (x + y) / 16777216 = x / 16777216 + y / 16777216 := by
    rw [tq_d3 x, tq_d3 y, tq_d3 (x + y), a2]
    exact tq_q1 h2
  have m0 : (x + y) % 256 = x % 256 + y % 256 := tq_q2 h0
  have m1 : (x + y) / 256 % 256 = x / 256 % 256 + y / 256 % 256 := by rw [a1]; exact tq_q2 h1
  have m2 : (x + y) / 65536 % 256 = x / 65536 % 256 + y / 65536 % 256 := by rw [a2]; exact tq_q2 h2
  have m3 : (x + y) / 16777216 % 256 = x / 16777216 % 256 + y / 16777216 % 256 := by rw [a3]; exact tq_q2 h3
  clear a1 a2 a3 h0 h1 h2 h3
  unfold tq_dv
  rw [m0, m1, m2, m3, ← nI_add, ← nI_add, ← nI_add, ← nI_add]
  generalize x % 256 = x0, x / 256 % 256 = x1, x / 65536 % 256 = x2, x / 16777216 % 256 = x3, y % 256 = y0, y / 256 % 256 = y1, y / 65536 % 256 = y2, y / 16777216 % 256 = y3
  grind
theorem tq_dv_addc {va vb vc : Int32} {x z : Nat} (h0 : x % 256 + z < 256) : tq_dv va vb vc x + nI z = tq_dv va vb vc (x + z) := by
  have hz : z < 256 := by omega
  rw [← tq_dv_c (va := va) (vb := vb) (vc := vc) hz]
  refine tq_dv_add ?_ ?_ ?_ ?_
  · rw [Nat.mod_eq_of_lt hz]; exact h0
  · rw [Nat.div_eq_of_lt hz]; exact Nat.mod_lt _ (by decide)
  · rw [Nat.div_eq_of_lt (Nat.lt_trans hz (by decide))]; exact Nat.mod_lt _ (by decide)
  · rw [Nat.div_eq_of_lt (Nat.lt_trans hz (by decide))]; exact Nat.mod_lt _ (by decide)
theorem tq_dv_subc {va vb vc : Int32} {x : Nat} (h0 : 1 ≤ x % 256) : tq_dv va vb vc x + (-1) = tq_dv va vb vc (x - 1) := by
  have h : tq_dv va vb vc (x - 1) + nI 1 = tq_dv va vb vc (x - 1 + 1) := tq_dv_addc (by omega)
  rw [show x - 1 + 1 = x by omega] at h
  rw [← h, show nI 1 = 1 from rfl]
  grind
theorem tq_mw {x n : Nat} (h : 0 < n := by decide) : Nat.mod x n < n := Nat.mod_lt x h
end
section
noncomputable def tq_qi (c A B : Bool) : Bool := Bool.rec (motive := fun _ => Bool) B A c
/-- f x, x computed first -/
noncomputable def tq_fz (x : Nat) (f : Nat → Bool) : Bool := Nat.rec (motive := fun _ => Bool) (f 0) (fun n _ => f (Nat.succ n)) x
noncomputable def tq_le (x y : Nat) (A B : Bool) : Bool := tq_qi (Nat.ble x y) (tq_qi (Nat.ble y 2147483647) A false) (tq_qi (Nat.ble x 2147483647) B false)
noncomputable def tq_eq (x y : Nat) (A B : Bool) : Bool := tq_qi (Nat.beq x y) A (tq_qi (Nat.ble x 2147483647) (tq_qi (Nat.ble y 2147483647) B false) false)
noncomputable def tq_eqs (g e : Nat) (A B : Bool) : Bool := tq_qi (Nat.ble e 127) (tq_qi (Nat.beq g e) A B) false
noncomputable def tq_in (x n : Nat) (A : Bool) : Bool := tq_qi (Nat.ble n x) false A
theorem tq_qi_t {c A B : Bool} (h : tq_qi c A B = true) : (c = true ∧ A = true) ∨ (c = false ∧ B = true) := by
  cases c
  · exact Or.inr ⟨rfl, h⟩
  · exact Or.inl ⟨rfl, h⟩
theorem tq_qi_f {c A : Bool} (h : tq_qi c A false = true) : c = true ∧ A = true := by
  rcases tq_qi_t h with h | h
  · exact h
  · exact absurd h.2 Bool.false_ne_true
theorem tq_fz_t {x : Nat} {f : Nat → Bool} (h : tq_fz x f = true) : f x = true := by
  cases x
  · exact h
  · exact h
theorem tq_ble {x y : Nat} (h : Nat.ble x y = true) : x ≤ y := Nat.le_of_ble_eq_true h
theorem tq_nble {x y : Nat} (h : Nat.ble x y = false) : y < x := by
  rcases Nat.lt_or_ge y x with g | g
  · exact g
  · rw [Nat.ble_eq_true_of_le g] at h
    exact absurd h.symm Bool.false_ne_true
theorem tq_nbeq {x y : Nat} (h : Nat.beq x y = false) : x ≠ y := by
  intro e
  rw [e, Nat.beq_refl] at h
  exact absurd h.symm Bool.false_ne_true
theorem tq_le_t {x y : Nat} {A B : Bool} (h : tq_le x y A B = true) : (x ≤ y ∧ y < 2 ^ 31 ∧ A = true) ∨ (y < x ∧ x < 2 ^ 31 ∧ B = true) := by
  rcases tq_qi_t h with ⟨h1, h2⟩ | ⟨h1, h2⟩
  · obtain ⟨h3, h4⟩ := tq_qi_f h2
    have h5 := tq_ble h3
    exact Or.inl ⟨tq_ble h1, by omega, h4⟩
  · obtain ⟨h3, h4⟩ := tq_qi_f h2
    have h5 := tq_ble h3
    exact Or.inr ⟨tq_nble h1, by omega, h4⟩
theorem tq_le_s {a b : Int32} {x y : Nat} {A B : Bool} {P Q : Prop} (h : tq_le x y A B = true) (f : x ≤ y → y < 2 ^ 31 → A = true → P) (g : y < x → x < 2 ^ 31 → B = true → Q) (ha : a = nI x := by rfl) (hb : b = nI y := by rfl) : (a ≤ b → P) ∧ (¬ a ≤ b → Q) := by
  rw [ha, hb]
  rcases tq_le_t h with ⟨h1, h2, h3⟩ | ⟨h1, h2, h3⟩
  · exact br_t (nI_le h1 h2) (f h1 h2 h3)
  · exact br_f (nI_ge h1 h2) (g h1 h2 h3)
theorem tq_lt_s {a b : Int32} {x y : Nat} {A B : Bool} {P Q : Prop} (h : tq_le y x B A = true) (f : x < y → y < 2 ^ 31 → A = true → P) (g : y ≤ x → x < 2 ^ 31 → B = true → Q) (ha : a = nI x := by rfl) (hb : b = nI y := by rfl) : (a < b → P) ∧ (¬ a < b → Q) := by
  rw [ha, hb]
  rcases tq_le_t h with ⟨h1, h2, h3⟩ | ⟨h1, h2, h3⟩
  · exact br_f (nI_nlt h1 h2) (g h1 h2 h3)
  · exact br_t (nI_lt h1 h2) (f h1 h2 h3)
theorem tq_eq_s {a b : Int32} {x y : Nat} {A B : Bool} {P Q : Prop} (h : tq_eq x y A B = true) (f : x = y → A = true → P) (g : x ≠ y → B = true → Q) (ha : a = nI x := by rfl) (hb : b = nI y := by rfl) : (a = b → P) ∧ (¬ a = b → Q) := by
  rw [ha, hb]
  rcases tq_qi_t h with ⟨h1, h2⟩ | ⟨h1, h2⟩
  · have e : x = y := Nat.eq_of_beq_eq_true h1
    exact br_t (by rw [e]) (f e h2)
  · obtain ⟨h3, h4⟩ := tq_qi_f h2
    obtain ⟨h5, h6⟩ := tq_qi_f h4
    have h7 := tq_ble h3
    have h8 := tq_ble h5
    have e := tq_nbeq h1
    exact br_f (fun z => e ((nI_eq (by omega) (by omega)).mp z)) (g e h6)
theorem tq_m1 {e : Nat} (h : e < 2 ^ 31) : ¬ (-1 : Int32) = nI e := by
  intro z
  have t := congrArg Int32.toInt z
  rw [nI_toInt h, show (-1 : Int32).toInt = -1 from by decide] at t
  omega
theorem tq_eqs_s {a b : Int32} {g e : Nat} {A B : Bool} {P Q : Prop} (h : tq_eqs g e A B = true) (f : g = e → e < 128 → A = true → P) (k : g ≠ e → B = true → Q) (ha : a = tq_sv g := by rfl) (hb : b = nI e := by rfl) : (a = b → P) ∧ (¬ a = b → Q) := by
  rw [ha, hb]
  obtain ⟨h1, h2⟩ := tq_qi_f h
  have h3 := tq_ble h1
  rcases tq_qi_t h2 with ⟨h4, h5⟩ | ⟨h4, h5⟩
  · have q : g = e := Nat.eq_of_beq_eq_true h4
    exact br_t (by rw [q]; exact tq_sv_n (by omega)) (f q (by omega) h5)
  · have q := tq_nbeq h4
    refine br_f ?_ (k q h5)
    by_cases hg : g < 128
    · rw [tq_sv_n hg]
      exact fun z => q ((nI_eq (by omega) (by omega)).mp z)
    · rw [tq_sv_m hg]
      exact tq_m1 (by omega)
theorem tq_sge_s {a : Int32} {g : Nat} {A B : Bool} {P Q : Prop} (h : tq_qi (Nat.ble g 127) A B = true) (f : g < 128 → A = true → P) (k : ¬ g < 128 → B = true → Q) (ha : a = tq_sv g := by rfl) : (0 ≤ a → P) ∧ (¬ 0 ≤ a → Q) := by
  rw [ha]
  rcases tq_qi_t h with ⟨h4, h5⟩ | ⟨h4, h5⟩
  · have q := tq_ble h4
    exact br_t (by rw [tq_sv_n (by omega)]; exact nI_pos' (by omega)) (f (by omega) h5)
  · have q := tq_nble h4
    exact br_f (by rw [tq_sv_m (by omega)]; decide) (k (by omega) h5)
theorem tq_slt_s {a : Int32} {g : Nat} {A B : Bool} {P Q : Prop} (h : tq_qi (Nat.ble g 127) B A = true) (f : ¬ g < 128 → A = true → P) (k : g < 128 → B = true → Q) (ha : a = tq_sv g := by rfl) : (a < 0 → P) ∧ (¬ a < 0 → Q) := by
  rw [ha]
  rcases tq_qi_t h with ⟨h4, h5⟩ | ⟨h4, h5⟩
  · have q := tq_ble h4
    exact br_f (by rw [tq_sv_n (by omega)]; exact nI_pos (by omega)) (k (by omega) h5)
  · have q := tq_nble h4
    exact br_t (by rw [tq_sv_m (by omega)]; decide) (f (by omega) h5)
theorem tq_in_t {x n : Nat} {A : Bool} (h : tq_in x n A = true) : x < n ∧ A = true := by
  rcases tq_qi_t h with ⟨h4, h5⟩ | ⟨h4, h5⟩
  · exact absurd h5 Bool.false_ne_true
  · exact ⟨tq_nble h4, h5⟩
theorem tq_31 {e n : Nat} (h : e < n) (hn : n ≤ 2147483648 := by decide) : e < 2 ^ 31 := by omega
theorem tq_vi {e n : Nat} (h : e < n) (hn : n < 2147483648 := by decide) : vp_in (nI e) n := vp_in_nI h hn
theorem tq_fv {x : Nat} {f : Nat → Bool} (h : tq_fz x f = true) : ∃ w, w = x ∧ f w = true := ⟨x, rfl, tq_fz_t h⟩
theorem tq_nf {a : Int32} {x : Nat} {f : Nat → Bool} {P : Int32 → Prop} (h : tq_fz x f = true) (ha : a = nI x) (g : ∀ w, w = x → f w = true → P (nI w)) : ∀ y, y = a → P y := nm_r ha (g x rfl (tq_fz_t h))
theorem tq_fc {x : Nat} {f : Nat → Bool} {P : Prop} (h : tq_fz x f = true) (g : f x = true → P) : P := g (tq_fz_t h)
end
section
def tq_OP : Nat := 185117933823600887045
def tq_FX : Nat := 4345496322
def tq_FY : Nat := 2251804226291457
def tq_FZ : Nat := 2532179825528576
def tq_cO : Nat → Int32 := tq_ba tq_OP
def tq_cX : Nat → Int32 := tq_ba tq_FX
def tq_cY : Nat → Int32 := tq_ba tq_FY
def tq_cZ : Nat → Int32 := tq_sa tq_FZ

/-- squash's loop -/
noncomputable def tq_sq (K : Nat → Bool) (n : Nat) : Nat → Nat → Bool :=
  Nat.rec (motive := fun _ => Nat → Nat → Bool) (fun _ _ => false) (fun _ ih k b22 =>
    tq_le 8 k (K b22) (tq_fz (tq_sb b22 k 255) (fun b22 => ih (Nat.succ k) b22))) n
/-- mayLoad: K0 if not, K1 if so; ae is the load's address -/
noncomputable def tq_may (hd ae b12 b18 b19 b20 age : Nat) (K0 K1 : Bool) (n : Nat) : Nat → Bool :=
  Nat.rec (motive := fun _ => Nat → Bool) (fun _ => false) (fun _ ih k =>
    tq_le age k K1 (tq_fz (Nat.mod (Nat.add hd k) 8) (fun w =>
      tq_eq (tq_gb b12 w) 6
        (tq_eq (tq_gb b18 w) 0 K0
          (tq_eq (tq_gb b19 w) ae
            (tq_eq (tq_gb b20 w) 0 K0 (ih (Nat.succ k)))
            (ih (Nat.succ k))))
        (ih (Nat.succ k))))) n
noncomputable def tq_ldb (hd ae b12 b19 b21 age : Nat) (K : Nat → Bool) (n : Nat) : Nat → Nat → Bool :=
  Nat.rec (motive := fun _ => Nat → Nat → Bool) (fun _ _ => false) (fun _ ih v k =>
    tq_le age k (K v) (tq_fz (Nat.mod (Nat.add hd k) 8) (fun w =>
      tq_eq (tq_gb b12 w) 6
        (tq_eq (tq_gb b19 w) ae (tq_fz (tq_gd b21 w) (fun v => ih v (Nat.succ k))) (ih v (Nat.succ k)))
        (ih v (Nat.succ k))))) n
noncomputable def tq_a49 (ih : Nat → Nat → Nat → Nat → Nat → Bool) (e v k w b14 b15 b16 b17 : Nat) : Bool :=
  tq_eqs (tq_gb b16 w) e
    (tq_fz (tq_sb b16 w 255) (fun b16 => tq_fz (tq_sd b17 w v) (fun b17 => ih (Nat.succ k) b14 b15 b16 b17)))
    (ih (Nat.succ k) b14 b15 b16 b17)
/-- announce's loop; v is the result of e -/
noncomputable def tq_ann (hd en e v : Nat) (K : Nat → Nat → Nat → Nat → Bool) (n : Nat) : Nat → Nat → Nat → Nat → Nat → Bool :=
  Nat.rec (motive := fun _ => Nat → Nat → Nat → Nat → Nat → Bool) (fun _ _ _ _ _ => false) (fun _ ih k b14 b15 b16 b17 =>
    tq_le en k (K b14 b15 b16 b17) (tq_fz (Nat.mod (Nat.add hd k) 8) (fun w =>
      tq_eqs (tq_gb b14 w) e
        (tq_fz (tq_sb b14 w 255) (fun b14 => tq_fz (tq_sd b15 w v) (fun b15 => tq_a49 ih e v k w b14 b15 b16 b17)))
        (tq_a49 ih e v k w b14 b15 b16 b17)))) n
noncomputable def tq_x136 (hd en e v b14 b15 b16 b17 b18 b19 b20 b21 : Nat) (K : Nat → Nat → Nat → Nat → Nat → Nat → Nat → Nat → Nat → Bool) : Bool :=
  tq_fz (tq_sd b21 e v) (fun b21 => tq_fz (tq_sb b20 e 1) (fun b20 =>
    tq_ann hd en e v (fun b14 b15 b16 b17 => K 1 b14 b15 b16 b17 b18 b19 b20 b21) 9 0 b14 b15 b16 b17))
noncomputable def tq_x43 (hd en b6 b12 e k op z p b14 b15 b16 b17 b18 b19 b20 b21 : Nat) (K : Nat → Nat → Nat → Nat → Nat → Nat → Nat → Nat → Nat → Bool) : Bool :=
  tq_in p 256 (tq_in z 128 (tq_fz (Nat.mod (Nat.add p z) 16) (fun ad =>
    tq_fz (tq_sb b19 e ad) (fun b19 => tq_fz (tq_sb b18 e 1) (fun b18 =>
      tq_eq op 5
        (tq_may hd ad b12 b18 b19 b20 k (K 0 b14 b15 b16 b17 b18 b19 b20 b21)
          (tq_fz (tq_gd b6 ad) (fun v => tq_ldb hd ad b12 b19 b21 k (fun v => tq_x136 hd en e v b14 b15 b16 b17 b18 b19 b20 b21 K) 9 v 0)) 9 0)
        (tq_fz (tq_gd b17 e) (fun v => tq_x136 hd en e v b14 b15 b16 b17 b18 b19 b20 b21 K)))))))
/-- x + y, data words -/
noncomputable def tq_add (x y : Nat) (K : Nat → Bool) : Bool :=
  tq_in (Nat.add (Nat.mod x 256) (Nat.mod y 256)) 256 (tq_in (Nat.add (Nat.mod (Nat.div x 256) 256) (Nat.mod (Nat.div y 256) 256)) 256
    (tq_in (Nat.add (Nat.mod (Nat.div x 65536) 256) (Nat.mod (Nat.div y 65536) 256)) 256 (tq_in (Nat.add (Nat.mod (Nat.div x 16777216) 256) (Nat.mod (Nat.div y 16777216) 256)) 256
      (tq_fz (Nat.add x y) (fun v => tq_in v 4294967296 (K v))))))
/-- x and a constant: z below 128, or 255 for -1 -/
noncomputable def tq_adi (x z : Nat) (K : Nat → Bool) : Bool :=
  tq_qi (Nat.ble z 127) (tq_in (Nat.add (Nat.mod x 256) z) 256 (tq_fz (Nat.add x z) (fun v => tq_in v 4294967296 (K v))))
    (tq_in 0 (Nat.mod x 256) (tq_fz (Nat.pred x) (fun v => tq_in v 4294967296 (K v))))
noncomputable def tq_exec (hd en b6 b11 b12 e k b14 b15 b16 b17 b18 b19 b20 b21 : Nat) (K : Nat → Nat → Nat → Nat → Nat → Nat → Nat → Nat → Nat → Bool) : Bool :=
  tq_fz (tq_gb b12 e) (fun op => tq_fz (tq_gb b11 e) (fun pl => tq_in pl 24 (tq_fz (tq_gb tq_FZ pl) (fun z => tq_fz (tq_gd b15 e) (fun p =>
    tq_eq op 5 (tq_x43 hd en b6 b12 e k op z p b14 b15 b16 b17 b18 b19 b20 b21 K)
      (tq_eq op 6 (tq_x43 hd en b6 b12 e k op z p b14 b15 b16 b17 b18 b19 b20 b21 K)
        (tq_le op 4
          (tq_eq op 4 (tq_adi p z (fun v => tq_x136 hd en e v b14 b15 b16 b17 b18 b19 b20 b21 K))
            (tq_eq op 1 false (tq_eq op 2 false (tq_eq op 3 false (tq_add p (tq_gd b17 e) (fun v => tq_x136 hd en e v b14 b15 b16 b17 b18 b19 b20 b21 K))))))
          (tq_x136 hd en e p b14 b15 b16 b17 b18 b19 b20 b21 K))))))))
/-- executeSome's loop -/
noncomputable def tq_exs (hd en b6 b11 b12 : Nat) (K : Nat → Nat → Nat → Nat → Nat → Nat → Nat → Nat → Bool) (n : Nat) : Nat → Nat → Nat → Nat → Nat → Nat → Nat → Nat → Nat → Nat → Bool :=
  Nat.rec (motive := fun _ => Nat → Nat → Nat → Nat → Nat → Nat → Nat → Nat → Nat → Nat → Bool) (fun _ _ _ _ _ _ _ _ _ _ => false) (fun _ ih x k b14 b15 b16 b17 b18 b19 b20 b21 =>
    tq_le en k (K b14 b15 b16 b17 b18 b19 b20 b21) (tq_le 2 x (K b14 b15 b16 b17 b18 b19 b20 b21) (tq_fz (Nat.mod (Nat.add hd k) 8) (fun e =>
      tq_eq (tq_gb b20 e) 0
        (tq_qi (Nat.ble (tq_gb b14 e) 127) (ih x (Nat.succ k) b14 b15 b16 b17 b18 b19 b20 b21)
          (tq_qi (Nat.ble (tq_gb b16 e) 127) (ih x (Nat.succ k) b14 b15 b16 b17 b18 b19 b20 b21)
            (tq_exec hd en b6 b11 b12 e k b14 b15 b16 b17 b18 b19 b20 b21 (fun r b14 b15 b16 b17 b18 b19 b20 b21 => tq_eq r 0 (ih x (Nat.succ k) b14 b15 b16 b17 b18 b19 b20 b21) (ih (Nat.succ x) (Nat.succ k) b14 b15 b16 b17 b18 b19 b20 b21)))))
        (ih x (Nat.succ k) b14 b15 b16 b17 b18 b19 b20 b21))))) n
noncomputable def tq_k7 (z : Nat) (K : Nat → Bool) : Bool := tq_in z 128 (tq_fz z K)
noncomputable def tq_pred (b7 pl : Nat) (K : Nat → Bool) : Bool :=
  tq_in pl 9 (tq_fz (tq_gb tq_OP pl) (fun op =>
    tq_eq op 10 (K pl) (tq_eq op 9 (tq_k7 (tq_gb tq_FZ pl) K)
      (tq_eq op 7 (tq_le 2 (tq_gb b7 pl) (tq_k7 (tq_gb tq_FZ pl) K) (tq_fz (Nat.succ pl) K))
        (tq_eq op 8 false (tq_fz (Nat.succ pl) K))))))
/-- bindLeft and bindRight -/
noncomputable def tq_bind (b5 b20 b21 b22 e r bs bv : Nat) (K : Nat → Nat → Bool) : Bool :=
  tq_in r 8 (tq_fz (tq_gb b22 r) (fun g =>
    tq_qi (Nat.ble g 127)
      (tq_in g 8 (tq_eq (tq_gb b20 g) 0 (tq_fz (tq_sb bs e g) (fun bs => K bs bv)) (tq_fz (tq_sd bv e (tq_gd b21 g)) (fun bv => K bs bv))))
      (tq_fz (tq_sd bv e (tq_gd b5 r)) (fun bv => K bs bv))))
noncomputable def tq_e183 (pl e op b22 : Nat) (K : Nat → Bool) : Bool :=
  tq_le op 5 (tq_fz (tq_gb tq_FX pl) (fun r => tq_in r 8 (tq_fz (tq_sb b22 r e) K))) (K b22)
noncomputable def tq_e165 (b5 b20 b21 pl e op b16 b17 b22 : Nat) (K : Nat → Nat → Nat → Bool) : Bool :=
  tq_eq op 6 (tq_fz (tq_gb tq_FX pl) (fun r => tq_bind b5 b20 b21 b22 e r b16 b17 (fun b16 b17 => tq_e183 pl e op b22 (K b16 b17)))) (tq_e183 pl e op b22 (K b16 b17))
noncomputable def tq_e148 (b5 b20 b21 pl e op b16 b17 b22 : Nat) (K : Nat → Nat → Nat → Bool) : Bool :=
  tq_le op 3 (tq_fz (tq_gb tq_FZ pl) (fun r => tq_bind b5 b20 b21 b22 e r b16 b17 (fun b16 b17 => tq_e165 b5 b20 b21 pl e op b16 b17 b22 K))) (tq_e165 b5 b20 b21 pl e op b16 b17 b22 K)
noncomputable def tq_e86 (b5 b21 pl e op en b11 b12 b13 b14 b15 b16 b17 b18 b20 b22 : Nat) (K : Nat → Nat → Nat → Nat → Nat → Nat → Nat → Nat → Nat → Nat → Nat → Bool) : Bool :=
  tq_fz (tq_sb b18 e 0) (fun b18 => tq_fz (tq_sb b14 e 255) (fun b14 => tq_fz (tq_sb b16 e 255) (fun b16 =>
    tq_le 9 op (K en b11 b12 b13 b14 b15 b16 b17 b18 b20 b22)
      (tq_le op 6
        (tq_fz (tq_gb tq_FY pl) (fun r => tq_bind b5 b20 b21 b22 e r b14 b15 (fun b14 b15 => tq_e148 b5 b20 b21 pl e op b16 b17 b22 (fun b16 b17 b22 => K en b11 b12 b13 b14 b15 b16 b17 b18 b20 b22))))
        (tq_fz (tq_gb tq_FX pl) (fun r => tq_bind b5 b20 b21 b22 e r b14 b15 (fun b14 b15 => tq_e148 b5 b20 b21 pl e op b16 b17 b22 (fun b16 b17 b22 => K en b11 b12 b13 b14 b15 b16 b17 b18 b20 b22))))))))
noncomputable def tq_ent (hd b5 b21 pl af en b11 b12 b13 b14 b15 b16 b17 b18 b20 b22 : Nat) (K : Nat → Nat → Nat → Nat → Nat → Nat → Nat → Nat → Nat → Nat → Nat → Bool) : Bool :=
  tq_in pl 9 (tq_in af 128 (tq_fz (Nat.mod (Nat.add hd en) 8) (fun e => tq_fz (tq_gb tq_OP pl) (fun op => tq_fz (Nat.succ en) (fun en =>
    tq_fz (tq_sb b11 e pl) (fun b11 => tq_fz (tq_sb b12 e op) (fun b12 => tq_fz (tq_sb b13 e af) (fun b13 =>
      tq_le 9 op (tq_fz (tq_sb b20 e 1) (fun b20 => tq_e86 b5 b21 pl e op en b11 b12 b13 b14 b15 b16 b17 b18 b20 b22 K)) (tq_fz (tq_sb b20 e 0) (fun b20 => tq_e86 b5 b21 pl e op en b11 b12 b13 b14 b15 b16 b17 b18 b20 b22 K))))))))))
noncomputable def tq_agr (b7 b9 ln c : Nat) (K0 K1 : Bool) (n : Nat) : Nat → Bool :=
  Nat.rec (motive := fun _ => Nat → Bool) (fun _ => false) (fun _ ih k =>
    tq_le c (Nat.succ k) K1 (tq_in (Nat.succ (Nat.add (Nat.mul 3 ln) k)) 24 (tq_fz (tq_gb b9 (Nat.add (Nat.mul 3 ln) k)) (fun pl =>
      tq_pred b7 pl (fun r => tq_eq r (tq_gb b9 (Nat.succ (Nat.add (Nat.mul 3 ln) k))) (ih (Nat.succ k)) K0))))) n
/-- fetch's loop -/
noncomputable def tq_f63 (hd b5 b7 b21 wn : Nat) (K : Nat → Nat → Nat → Nat → Nat → Nat → Nat → Nat → Nat → Nat → Nat → Nat → Bool) (n : Nat) : Nat → Nat → Nat → Nat → Nat → Nat → Nat → Nat → Nat → Nat → Nat → Nat → Nat → Bool :=
  Nat.rec (motive := fun _ => Nat → Nat → Nat → Nat → Nat → Nat → Nat → Nat → Nat → Nat → Nat → Nat → Nat → Bool) (fun _ _ _ _ _ _ _ _ _ _ _ _ _ => false) (fun _ ih k fp en b11 b12 b13 b14 b15 b16 b17 b18 b20 b22 =>
    tq_le wn k (K fp en b11 b12 b13 b14 b15 b16 b17 b18 b20 b22) (tq_le 8 en (K fp en b11 b12 b13 b14 b15 b16 b17 b18 b20 b22)
      (tq_pred b7 fp (fun r => tq_ent hd b5 b21 fp r en b11 b12 b13 b14 b15 b16 b17 b18 b20 b22 (fun en b11 b12 b13 b14 b15 b16 b17 b18 b20 b22 => ih (Nat.succ k) r en b11 b12 b13 b14 b15 b16 b17 b18 b20 b22))))) n
noncomputable def tq_ftc (hd b5 b7 b8 b9 b21 fp en b11 b12 b13 b14 b15 b16 b17 b18 b20 b22 : Nat) (K : Nat → Nat → Nat → Nat → Nat → Nat → Nat → Nat → Nat → Nat → Nat → Nat → Bool) : Bool :=
  tq_in fp 128 (tq_fz (Nat.mod fp 8) (fun ln => tq_fz (tq_gb b8 ln) (fun c =>
    tq_le c 0 (tq_f63 hd b5 b7 b21 1 K 9 0 fp en b11 b12 b13 b14 b15 b16 b17 b18 b20 b22)
      (tq_eq (tq_gb b9 (Nat.mul 3 ln)) fp
        (tq_agr b7 b9 ln c (tq_f63 hd b5 b7 b21 1 K 9 0 fp en b11 b12 b13 b14 b15 b16 b17 b18 b20 b22) (tq_f63 hd b5 b7 b21 c K 9 0 fp en b11 b12 b13 b14 b15 b16 b17 b18 b20 b22) 9 0)
        (tq_f63 hd b5 b7 b21 1 K 9 0 fp en b11 b12 b13 b14 b15 b16 b17 b18 b20 b22)))))
noncomputable def tq_plc (b7 b11 b12 b21 e : Nat) (K : Nat → Nat → Bool) : Bool :=
  tq_fz (tq_gb b12 e) (fun op => tq_fz (tq_gb b11 e) (fun pl => tq_in pl 24
    (tq_eq op 9 (tq_k7 (tq_gb tq_FZ pl) (fun r => K r b7))
      (tq_eq op 7
        (tq_fz (tq_gd b21 e) (fun v => tq_in v 256 (tq_fz (tq_gb b7 pl) (fun c => tq_in c 127 (tq_eq v 0
          (tq_le 3 c (tq_k7 (tq_gb tq_FZ pl) (fun r => K r b7)) (tq_fz (tq_sb b7 pl (Nat.succ c)) (fun b7 => tq_k7 (tq_gb tq_FZ pl) (fun r => K r b7))))
          (tq_le c 0 (tq_fz (Nat.succ pl) (fun r => K r b7)) (tq_fz (tq_sb b7 pl (Nat.pred c)) (fun b7 => tq_fz (Nat.succ pl) (fun r => K r b7)))))))))
        (tq_eq op 8 false (tq_fz (Nat.succ pl) (fun r => K r b7)))))))
noncomputable def tq_f42 (ln b10 : Nat) (K : Nat → Bool) (n : Nat) : Nat → Nat → Bool :=
  Nat.rec (motive := fun _ => Nat → Nat → Bool) (fun _ _ => false) (fun _ ih k b9 =>
    tq_le 3 k (K b9) (tq_fz (tq_gb b10 k) (fun v => tq_in v 128 (tq_fz (tq_sb b9 (Nat.add (Nat.mul 3 ln) k) v) (fun b9 => ih (Nat.succ k) b9))))) n
noncomputable def tq_fil (fl b8 b9 b10 pl : Nat) (K : Nat → Nat → Nat → Nat → Bool) : Bool :=
  tq_in fl 3 (tq_in pl 128 (tq_fz (tq_sb b10 fl pl) (fun b10 => tq_le 3 (Nat.succ fl)
    (tq_fz (Nat.mod (tq_gb b10 0) 8) (fun ln => tq_f42 ln b10 (fun b9 => tq_fz (tq_sb b8 ln 3) (fun b8 => K 0 b8 b9 b10)) 5 0 b9))
    (tq_fz (Nat.succ fl) (fun fl => K fl b8 b9 b10)))))
noncomputable def tq_r148 (e pl : Nat) (pc st fl hd en fp rt b5 b6 b7 b8 b9 b10 b11 b12 b13 b14 b15 b16 b17 b18 b19 b20 b21 b22 : Nat) (K : Nat → Nat → Nat → Nat → Nat → Nat → Nat → Nat → Nat → Nat → Nat → Nat → Nat → Nat → Nat → Nat → Nat → Nat → Nat → Nat → Nat → Nat → Nat → Nat → Nat → Bool) : Bool :=
  tq_plc b7 b11 b12 b21 e (fun pc b7 => tq_fil fl b8 b9 b10 pl (fun fl b8 b9 b10 =>
    tq_eq pc (tq_gb b13 e) (K pc st fl hd en fp rt b5 b6 b7 b8 b9 b10 b11 b12 b13 b14 b15 b16 b17 b18 b19 b20 b21 b22) (tq_sq (fun b22 => K pc st fl hd 0 pc rt b5 b6 b7 b8 b9 b10 b11 b12 b13 b14 b15 b16 b17 b18 b19 b20 b21 b22) 9 0 b22)))
noncomputable def tq_r125 (e op pl : Nat) (pc st fl hd en fp rt b5 b6 b7 b8 b9 b10 b11 b12 b13 b14 b15 b16 b17 b18 b19 b20 b21 b22 : Nat) (K : Nat → Nat → Nat → Nat → Nat → Nat → Nat → Nat → Nat → Nat → Nat → Nat → Nat → Nat → Nat → Nat → Nat → Nat → Nat → Nat → Nat → Nat → Nat → Nat → Nat → Bool) : Bool :=
  tq_eq op 6 (tq_fz (tq_gb b19 e) (fun ad => tq_in ad 16 (tq_fz (tq_sd b6 ad (tq_gd b21 e)) (fun b6 => tq_r148 e pl pc st fl hd en fp rt b5 b6 b7 b8 b9 b10 b11 b12 b13 b14 b15 b16 b17 b18 b19 b20 b21 b22 K)))) (tq_r148 e pl pc st fl hd en fp rt b5 b6 b7 b8 b9 b10 b11 b12 b13 b14 b15 b16 b17 b18 b19 b20 b21 b22 K)
noncomputable def tq_ret (pc st fl hd en fp rt b5 b6 b7 b8 b9 b10 b11 b12 b13 b14 b15 b16 b17 b18 b19 b20 b21 b22 : Nat) (K : Nat → Nat → Nat → Nat → Nat → Nat → Nat → Nat → Nat → Nat → Nat → Nat → Nat → Nat → Nat → Nat → Nat → Nat → Nat → Nat → Nat → Nat → Nat → Nat → Nat → Bool) : Bool :=
  tq_in hd 8 (tq_fz (tq_gb b12 hd) (fun op => tq_fz (tq_gb b11 hd) (fun pl => tq_eq op 11 false (tq_in 0 en (tq_fz (Nat.succ rt) (fun rt =>
    tq_fz (Nat.mod (Nat.succ hd) 8) (fun h2 => tq_fz (Nat.pred en) (fun en =>
      tq_eq op 10 (K pc 1 fl h2 en fp rt b5 b6 b7 b8 b9 b10 b11 b12 b13 b14 b15 b16 b17 b18 b19 b20 b21 b22)
        (tq_le op 5
          (tq_in pl 24 (tq_fz (tq_gb tq_FX pl) (fun r => tq_in r 8 (tq_fz (tq_sd b5 r (tq_gd b21 hd)) (fun b5 =>
            tq_eqs (tq_gb b22 r) hd (tq_fz (tq_sb b22 r 255) (fun b22 => tq_r125 hd op pl pc st fl h2 en fp rt b5 b6 b7 b8 b9 b10 b11 b12 b13 b14 b15 b16 b17 b18 b19 b20 b21 b22 K)) (tq_r125 hd op pl pc st fl h2 en fp rt b5 b6 b7 b8 b9 b10 b11 b12 b13 b14 b15 b16 b17 b18 b19 b20 b21 b22 K))))))
          (tq_r125 hd op pl pc st fl h2 en fp rt b5 b6 b7 b8 b9 b10 b11 b12 b13 b14 b15 b16 b17 b18 b19 b20 b21 b22 K))))))))))
noncomputable def tq_r110 (J : Nat → Nat → Nat → Nat → Nat → Nat → Nat → Nat → Nat → Nat → Nat → Nat → Nat → Nat → Nat → Nat → Nat → Nat → Nat → Nat → Nat → Nat → Nat → Nat → Nat → Nat → Nat → Bool) (x3 x4 : Nat) (pc st fl hd en fp rt b5 b6 b7 b8 b9 b10 b11 b12 b13 b14 b15 b16 b17 b18 b19 b20 b21 b22 : Nat) : Bool :=
  tq_in hd 8 (tq_exs hd en b6 b11 b12 (fun b14 b15 b16 b17 b18 b19 b20 b21 => tq_ftc hd b5 b7 b8 b9 b21 fp en b11 b12 b13 b14 b15 b16 b17 b18 b20 b22 (fun fp en b11 b12 b13 b14 b15 b16 b17 b18 b20 b22 => tq_fz (Nat.succ x4) (fun x4 => J x3 x4 pc st fl hd en fp rt b5 b6 b7 b8 b9 b10 b11 b12 b13 b14 b15 b16 b17 b18 b19 b20 b21 b22))) 9 0 0 b14 b15 b16 b17 b18 b19 b20 b21)
/-- wanted is below or at tries: wanted is between lo and hi -/
noncomputable def tq_wn (lo hi x3 : Nat) (A B : Bool) : Bool :=
  tq_in hi 2147483648 (tq_in x3 2147483648 (tq_qi (Nat.ble hi x3) A (tq_qi (Nat.ble lo x3) (tq_qi A B false) B)))
noncomputable def tq_r60 (lo hi : Nat) (J : Nat → Nat → Nat → Nat → Nat → Nat → Nat → Nat → Nat → Nat → Nat → Nat → Nat → Nat → Nat → Nat → Nat → Nat → Nat → Nat → Nat → Nat → Nat → Nat → Nat → Nat → Nat → Bool) (x4 : Nat) (n : Nat) : Nat → Nat → Nat → Nat → Nat → Nat → Nat → Nat → Nat → Nat → Nat → Nat → Nat → Nat → Nat → Nat → Nat → Nat → Nat → Nat → Nat → Nat → Nat → Nat → Nat → Nat → Nat → Bool :=
  Nat.rec (motive := fun _ => Nat → Nat → Nat → Nat → Nat → Nat → Nat → Nat → Nat → Nat → Nat → Nat → Nat → Nat → Nat → Nat → Nat → Nat → Nat → Nat → Nat → Nat → Nat → Nat → Nat → Nat → Nat → Bool) (fun _ _ _ _ _ _ _ _ _ _ _ _ _ _ _ _ _ _ _ _ _ _ _ _ _ _ _ => false) (fun _ ih x3 x5 pc st fl hd en fp rt b5 b6 b7 b8 b9 b10 b11 b12 b13 b14 b15 b16 b17 b18 b19 b20 b21 b22 =>
    tq_le 2 x5 (tq_r110 J x3 x4 pc st fl hd en fp rt b5 b6 b7 b8 b9 b10 b11 b12 b13 b14 b15 b16 b17 b18 b19 b20 b21 b22) (tq_wn lo hi x3 (tq_r110 J x3 x4 pc st fl hd en fp rt b5 b6 b7 b8 b9 b10 b11 b12 b13 b14 b15 b16 b17 b18 b19 b20 b21 b22)
      (tq_eq st 0
        (tq_le en 0 (ih x3 (Nat.succ x5) pc st fl hd en fp rt b5 b6 b7 b8 b9 b10 b11 b12 b13 b14 b15 b16 b17 b18 b19 b20 b21 b22)
          (tq_in hd 8 (tq_eq (tq_gb b20 hd) 0 (ih x3 (Nat.succ x5) pc st fl hd en fp rt b5 b6 b7 b8 b9 b10 b11 b12 b13 b14 b15 b16 b17 b18 b19 b20 b21 b22) (tq_ret pc st fl hd en fp rt b5 b6 b7 b8 b9 b10 b11 b12 b13 b14 b15 b16 b17 b18 b19 b20 b21 b22 (fun pc st fl hd en fp rt b5 b6 b7 b8 b9 b10 b11 b12 b13 b14 b15 b16 b17 b18 b19 b20 b21 b22 => tq_fz (Nat.succ x3) (fun x3 => ih x3 (Nat.succ x5) pc st fl hd en fp rt b5 b6 b7 b8 b9 b10 b11 b12 b13 b14 b15 b16 b17 b18 b19 b20 b21 b22))))))
        (tq_r110 J x3 x4 pc st fl hd en fp rt b5 b6 b7 b8 b9 b10 b11 b12 b13 b14 b15 b16 b17 b18 b19 b20 b21 b22)))) n
noncomputable def tq_r37 (lo hi : Nat) (K : Nat → Nat → Nat → Nat → Nat → Nat → Nat → Nat → Nat → Nat → Nat → Nat → Nat → Nat → Nat → Nat → Nat → Nat → Nat → Nat → Nat → Nat → Nat → Nat → Nat → Bool) (n : Nat) : Nat → Nat → Nat → Nat → Nat → Nat → Nat → Nat → Nat → Nat → Nat → Nat → Nat → Nat → Nat → Nat → Nat → Nat → Nat → Nat → Nat → Nat → Nat → Nat → Nat → Nat → Nat → Bool :=
  Nat.rec (motive := fun _ => Nat → Nat → Nat → Nat → Nat → Nat → Nat → Nat → Nat → Nat → Nat → Nat → Nat → Nat → Nat → Nat → Nat → Nat → Nat → Nat → Nat → Nat → Nat → Nat → Nat → Nat → Nat → Bool) (fun _ _ _ _ _ _ _ _ _ _ _ _ _ _ _ _ _ _ _ _ _ _ _ _ _ _ _ => false) (fun _ ih x3 x4 pc st fl hd en fp rt b5 b6 b7 b8 b9 b10 b11 b12 b13 b14 b15 b16 b17 b18 b19 b20 b21 b22 =>
    tq_le 2000 x4 (K pc st fl hd en fp rt b5 b6 b7 b8 b9 b10 b11 b12 b13 b14 b15 b16 b17 b18 b19 b20 b21 b22) (tq_wn lo hi x3 (K pc st fl hd en fp rt b5 b6 b7 b8 b9 b10 b11 b12 b13 b14 b15 b16 b17 b18 b19 b20 b21 b22) (tq_eq st 0 (tq_r60 lo hi ih x4 4 x3 0 pc st fl hd en fp rt b5 b6 b7 b8 b9 b10 b11 b12 b13 b14 b15 b16 b17 b18 b19 b20 b21 b22) (K pc st fl hd en fp rt b5 b6 b7 b8 b9 b10 b11 b12 b13 b14 b15 b16 b17 b18 b19 b20 b21 b22)))) n
noncomputable def tq_r22 (lo hi : Nat) (pc st fl hd en fp rt b5 b6 b7 b8 b9 b10 b11 b12 b13 b14 b15 b16 b17 b18 b19 b20 b21 b22 : Nat) (K : Nat → Nat → Nat → Nat → Nat → Nat → Nat → Nat → Nat → Nat → Nat → Nat → Nat → Nat → Nat → Nat → Nat → Nat → Nat → Nat → Nat → Nat → Nat → Nat → Nat → Bool) : Bool :=
  tq_sq (fun b22 => tq_r37 lo hi K 2001 0 0 pc st fl hd 0 pc 0 b5 b6 b7 b8 b9 b10 b11 b12 b13 b14 b15 b16 b17 b18 b19 b20 b21 b22) 9 0 b22
/-! the law behind the first run -/
noncomputable def tq_bq (x y : Nat) (A : Bool) : Bool := tq_qi (Nat.beq x y) A false
noncomputable def tq_at (i : Nat) (K : Nat → Bool) : Bool := tq_eq i 0 (K 256) (tq_eq i 1 (K 65536) (tq_eq i 2 (K 16777216) (K 0)))
noncomputable def tq_l409 (sr k : Nat) (K : Nat → Bool) (n : Nat) : Nat → Nat → Bool :=
  Nat.rec (motive := fun _ => Nat → Nat → Bool) (fun _ _ => false) (fun _ ih x i =>
    tq_le 8 i (K x) (tq_le sr i (tq_le k i (ih x (Nat.succ i)) (tq_at i (fun f => tq_add x f (fun s => ih s (Nat.succ i))))) (ih x (Nat.succ i)))) n
noncomputable def tq_l295 (sr : Nat) (K : Nat → Bool) (n : Nat) : Nat → Nat → Bool :=
  Nat.rec (motive := fun _ => Nat → Nat → Bool) (fun _ _ => false) (fun _ ih x i =>
    tq_le 8 i (K x) (tq_le sr i (ih x (Nat.succ i)) (tq_at i (fun f => tq_add x f (fun s => ih s (Nat.succ i)))))) n
noncomputable def tq_end (k x pc b5 b6 : Nat) : Bool := tq_bq (tq_gd b6 15) x (tq_bq (tq_gd b5 0) 0 (tq_bq (tq_gd b5 1) k (tq_bq pc 8 true)))
noncomputable def tq_l365 (k dn sr x : Nat) (pc st fl hd en fp rt b5 b6 b7 b8 b9 b10 b11 b12 b13 b14 b15 b16 b17 b18 b19 b20 b21 b22 : Nat) : Bool :=
  tq_r22 150 150 pc st fl hd en fp rt b5 b6 b7 b8 b9 b10 b11 b12 b13 b14 b15 b16 b17 b18 b19 b20 b21 b22 (fun pc st fl hd en fp rt b5 b6 b7 b8 b9 b10 b11 b12 b13 b14 b15 b16 b17 b18 b19 b20 b21 b22 => tq_bq rt (Nat.sub (Nat.mul 8 k) dn) (tq_bq st 1 (tq_r22 5 5 pc st fl hd en fp rt b5 b6 b7 b8 b9 b10 b11 b12 b13 b14 b15 b16 b17 b18 b19 b20 b21 b22 (fun pc st fl hd en fp rt b5 b6 b7 b8 b9 b10 b11 b12 b13 b14 b15 b16 b17 b18 b19 b20 b21 b22 => tq_bq rt 0 (tq_l409 sr k (fun x => tq_end k x pc b5 b6) 9 x 0)))))
noncomputable def tq_l295e (k dn sr ld x : Nat) (pc st fl hd en fp rt b5 b6 b7 b8 b9 b10 b11 b12 b13 b14 b15 b16 b17 b18 b19 b20 b21 b22 : Nat) : Bool :=
  tq_bq (tq_gd b6 15) x (tq_eq ld 0 (tq_bq (tq_gd b5 2) 0 (tq_l365 k dn sr x pc st fl hd en fp rt b5 b6 b7 b8 b9 b10 b11 b12 b13 b14 b15 b16 b17 b18 b19 b20 b21 b22)) (tq_at (Nat.pred ld) (fun f => tq_bq (tq_gd b5 2) f (tq_l365 k dn sr x pc st fl hd en fp rt b5 b6 b7 b8 b9 b10 b11 b12 b13 b14 b15 b16 b17 b18 b19 b20 b21 b22))))
noncomputable def tq_l265 (k dn : Nat) (pc st fl hd en fp rt b5 b6 b7 b8 b9 b10 b11 b12 b13 b14 b15 b16 b17 b18 b19 b20 b21 b22 : Nat) : Bool :=
  tq_fz (Nat.div (Nat.add dn 4) 8) (fun sr => tq_fz (Nat.div (Nat.add dn 7) 8) (fun ld => tq_l295 sr (fun x => tq_l295e k dn sr ld x pc st fl hd en fp rt b5 b6 b7 b8 b9 b10 b11 b12 b13 b14 b15 b16 b17 b18 b19 b20 b21 b22) 9 0 0))
noncomputable def tq_l203 (k lo hi dn sv pv : Nat) (pc st fl hd en fp rt b5 b6 b7 b8 b9 b10 b11 b12 b13 b14 b15 b16 b17 b18 b19 b20 b21 b22 : Nat) : Bool :=
  tq_r22 lo hi pc st fl hd en fp rt b5 b6 b7 b8 b9 b10 b11 b12 b13 b14 b15 b16 b17 b18 b19 b20 b21 b22 (fun pc st fl hd en fp rt b5 b6 b7 b8 b9 b10 b11 b12 b13 b14 b15 b16 b17 b18 b19 b20 b21 b22 => tq_bq rt dn (tq_bq st sv (tq_bq pc pv (tq_l265 k dn pc st fl hd en fp rt b5 b6 b7 b8 b9 b10 b11 b12 b13 b14 b15 b16 b17 b18 b19 b20 b21 b22))))
/-! the runs, computed -/
noncomputable def tq_go (k lo hi dn sv pv : Nat) : Bool := tq_l203 k lo hi dn sv pv 0 0 0 0 0 0 0 k 309485009821626543701491968 18519084246547628289 0 0 0 0 0 0 0 0 0 0 0 0 0 0 18446744073709551615
noncomputable def tq_pv (k n : Nat) : Nat := Bool.rec (motive := fun _ => Nat) (Nat.mod n 8) 8 (Nat.ble (Nat.sub (Nat.mul 8 k) 1) n)
noncomputable def tq_lt1 (k n : Nat) : Bool := tq_go k n n n 0 (tq_pv k n)
noncomputable def tq_ge1 (k : Nat) : Bool := tq_go k (Nat.mul 8 k) 150 (Nat.mul 8 k) 1 8
noncomputable def tq_all (k m : Nat) : Bool := Nat.rec (motive := fun _ => Bool) (tq_ge1 k) (fun n ih => tq_qi (tq_lt1 k n) ih false) m
end
section
/-! the runs, computed: k, and every limit below 8 k, and one for all limits from 8 k on -/
theorem tq_ok1 : tq_all 1 8 = true := by decide +kernel
theorem tq_ok2 : tq_all 2 16 = true := by decide +kernel
theorem tq_ok3 : tq_all 3 24 = true := by decide +kernel
theorem tq_ok4 : tq_all 4 32 = true := by decide +kernel
theorem tq_ok5 : tq_all 5 40 = true := by decide +kernel
theorem tq_ok6 : tq_all 6 48 = true := by decide +kernel
theorem tq_ok7 : tq_all 7 56 = true := by decide +kernel
theorem tq_ok8 : tq_all 8 64 = true := by decide +kernel
end
section
/-! squash, and what executeSome reaches -/
theorem tq_sq_s {post : St2 → Prop} {va vb vc : Int32} {pc st fl hd en fp rt b5 b6 b7 b8 b9 b10 b11 b12 b13 b14 b15 b16 b17 b18 b19 b20 b21 : Nat} {K : Nat → Bool} (hK : ∀ b22, K b22 = true → post (nI 9, nI pc, nI st, nI fl, nI hd, nI en, nI fp, nI rt, tq_cO, tq_cX, tq_cY, tq_cZ, tq_da va vb vc b5, tq_da va vb vc b6, tq_ba b7, tq_ba b8, tq_ba b9, tq_ba b10, tq_ba b11, tq_ba b12, tq_ba b13, tq_sa b14, tq_da va vb vc b15, tq_sa b16, tq_da va vb vc b17, tq_ba b18, tq_ba b19, tq_ba b20, tq_da va vb vc b21, tq_sa b22)) : ∀ n k b22, tq_sq K n k b22 = true → wX_squash_15 post (nI 9) (nI pc) (nI st) (nI fl) (nI hd) (nI en) (nI fp) (nI rt) n (nI k) tq_cO tq_cX tq_cY tq_cZ (tq_da va vb vc b5) (tq_da va vb vc b6) (tq_ba b7) (tq_ba b8) (tq_ba b9) (tq_ba b10) (tq_ba b11) (tq_ba b12) (tq_ba b13) (tq_sa b14) (tq_da va vb vc b15) (tq_sa b16) (tq_da va vb vc b17) (tq_ba b18) (tq_ba b19) (tq_ba b20) (tq_da va vb vc b21) (tq_sa b22) := by
  intro n
  induction n with
  | zero => intro k b22 h; exact absurd h Bool.false_ne_true
  | succ n ih =>
    intro k b22 h
    exact tq_le_s (x := 8) (y := k) h (fun _ _ h => hK _ h) (fun l _ h => ⟨tq_vi l, nm_r (tq_sau (v := 255) rfl (by decide) (tq_31 l)) (nm_r (nI_1 k) (tq_fc h (fun h => ih _ _ h)))⟩)
theorem tq_squash_s {post : St2 → Prop} {va vb vc : Int32} {pc st fl hd en fp rt b5 b6 b7 b8 b9 b10 b11 b12 b13 b14 b15 b16 b17 b18 b19 b20 b21 b22 : Nat} {K : Nat → Bool} (hK : ∀ b22, K b22 = true → post (nI 9, nI pc, nI st, nI fl, nI hd, nI 0, nI pc, nI rt, tq_cO, tq_cX, tq_cY, tq_cZ, tq_da va vb vc b5, tq_da va vb vc b6, tq_ba b7, tq_ba b8, tq_ba b9, tq_ba b10, tq_ba b11, tq_ba b12, tq_ba b13, tq_sa b14, tq_da va vb vc b15, tq_sa b16, tq_da va vb vc b17, tq_ba b18, tq_ba b19, tq_ba b20, tq_da va vb vc b21, tq_sa b22)) (h : tq_sq K 9 0 b22 = true) : wpX_squash post (nI 9, nI pc, nI st, nI fl, nI hd, nI en, nI fp, nI rt, tq_cO, tq_cX, tq_cY, tq_cZ, tq_da va vb vc b5, tq_da va vb vc b6, tq_ba b7, tq_ba b8, tq_ba b9, tq_ba b10, tq_ba b11, tq_ba b12, tq_ba b13, tq_sa b14, tq_da va vb vc b15, tq_sa b16, tq_da va vb vc b17, tq_ba b18, tq_ba b19, tq_ba b20, tq_da va vb vc b21, tq_sa b22) :=
  ⟨9, tq_sq_s hK 9 0 b22 h⟩
theorem tq_may_s {post : Int32 → Prop} {va vb vc : Int32} {pc st fl hd en fp rt b5 b6 b7 b8 b9 b10 b11 b12 b13 b14 b15 b16 b17 b18 b19 b20 b21 b22 : Nat} {e age ae : Nat} {K0 K1 : Bool} (he : e < 8) (hh : hd < 8) (hae : tq_gb b19 e = ae) (h0 : K0 = true → post 0) (h1 : K1 = true → post 1) : ∀ n k, tq_may hd ae b12 b18 b19 b20 age K0 K1 n k = true → wX_mayLoad_2 post (nI e) (nI age) (nI 9) (nI pc) (nI st) (nI fl) (nI hd) (nI en) (nI fp) (nI rt) tq_cO tq_cX tq_cY tq_cZ (tq_da va vb vc b5) (tq_da va vb vc b6) (tq_ba b7) (tq_ba b8) (tq_ba b9) (tq_ba b10) (tq_ba b11) (tq_ba b12) (tq_ba b13) (tq_sa b14) (tq_da va vb vc b15) (tq_sa b16) (tq_da va vb vc b17) (tq_ba b18) (tq_ba b19) (tq_ba b20) (tq_da va vb vc b21) (tq_sa b22) n (nI k) := by
  have hb : tq_ba b19 (nI e).toNatClampNeg = nI ae := by rw [tq_bag (tq_31 he), hae]
  intro n
  induction n with
  | zero => intro k h; exact absurd h Bool.false_ne_true
  | succ n ih =>
    intro k h
    refine tq_le_s (x := age) (y := k) h (fun _ _ h => h1 h) (fun l l2 h => tq_nf h (tq_m7 (tq_31 hh) (Nat.lt_trans l l2)) (fun w hw h => ?_))
    have hw8 : w < 8 := by rw [hw]; exact tq_mw
    have hwi := tq_31 hw8
    exact ⟨tq_vi hw8, tq_eq_s h (fun _ h => ⟨tq_vi hw8, tq_eq_s h (fun _ h => h0 h) (fun _ h => ⟨tq_vi hw8, tq_vi he, tq_eq_s h (fun _ h => ⟨tq_vi hw8, tq_eq_s h (fun _ h => h0 h) (fun _ h => nm_r (nI_1 k) (ih _ h)) (tq_bag hwi)⟩) (fun _ h => nm_r (nI_1 k) (ih _ h)) (tq_bag hwi) hb⟩) (tq_bag hwi)⟩) (fun _ h => nm_r (nI_1 k) (ih _ h)) (tq_bag hwi)⟩
theorem tq_mayLoad_s {post : Int32 → Prop} {va vb vc : Int32} {pc st fl hd en fp rt b5 b6 b7 b8 b9 b10 b11 b12 b13 b14 b15 b16 b17 b18 b19 b20 b21 b22 : Nat} {e age ae : Nat} {K0 K1 : Bool} (he : e < 8) (hh : hd < 8) (hae : tq_gb b19 e = ae) (h0 : K0 = true → post 0) (h1 : K1 = true → post 1) (h : tq_may hd ae b12 b18 b19 b20 age K0 K1 9 0 = true) : wpX_mayLoad post (nI 9, nI pc, nI st, nI fl, nI hd, nI en, nI fp, nI rt, tq_cO, tq_cX, tq_cY, tq_cZ, tq_da va vb vc b5, tq_da va vb vc b6, tq_ba b7, tq_ba b8, tq_ba b9, tq_ba b10, tq_ba b11, tq_ba b12, tq_ba b13, tq_sa b14, tq_da va vb vc b15, tq_sa b16, tq_da va vb vc b17, tq_ba b18, tq_ba b19, tq_ba b20, tq_da va vb vc b21, tq_sa b22) (nI e) (nI age) :=
  ⟨9, tq_may_s he hh hae h0 h1 9 0 h⟩
theorem tq_ldb_s {post : Int32 → Prop} {va vb vc : Int32} {pc st fl hd en fp rt b5 b6 b7 b8 b9 b10 b11 b12 b13 b14 b15 b16 b17 b18 b19 b20 b21 b22 : Nat} {e age ae : Nat} {K : Nat → Bool} (he : e < 8) (hh : hd < 8) (hae : tq_gb b19 e = ae) (hK : ∀ v, v < 4294967296 → K v = true → post (tq_dv va vb vc v)) : ∀ n v k, v < 4294967296 → tq_ldb hd ae b12 b19 b21 age K n v k = true → wX_loadedBy_15 post (nI e) (nI age) (nI 9) (nI pc) (nI st) (nI fl) (nI hd) (nI en) (nI fp) (nI rt) tq_cO tq_cX tq_cY tq_cZ (tq_da va vb vc b5) (tq_da va vb vc b6) (tq_ba b7) (tq_ba b8) (tq_ba b9) (tq_ba b10) (tq_ba b11) (tq_ba b12) (tq_ba b13) (tq_sa b14) (tq_da va vb vc b15) (tq_sa b16) (tq_da va vb vc b17) (tq_ba b18) (tq_ba b19) (tq_ba b20) (tq_da va vb vc b21) (tq_sa b22) n (tq_dv va vb vc v) (nI k) := by
  have hb : tq_ba b19 (nI e).toNatClampNeg = nI ae := by rw [tq_bag (tq_31 he), hae]
  intro n
  induction n with
  | zero => intro v k hv h; exact absurd h Bool.false_ne_true
  | succ n ih =>
    intro v k hv h
    refine tq_le_s (x := age) (y := k) h (fun _ _ h => hK _ hv h) (fun l l2 h => tq_nf h (tq_m7 (tq_31 hh) (Nat.lt_trans l l2)) (fun w hw h => ?_))
    have hw8 : w < 8 := by rw [hw]; exact tq_mw
    have hwi := tq_31 hw8
    exact ⟨tq_vi hw8, tq_eq_s h (fun _ h => ⟨tq_vi hw8, tq_vi he, tq_eq_s h (fun _ h => ⟨tq_vi hw8, nm_r (tq_dag hwi) (nm_r (nI_1 k) (tq_fc h (fun h => ih _ _ (tq_gd_lt _ _) h)))⟩) (fun _ h => nm_r (nI_1 k) (ih _ _ hv h)) (tq_bag hwi) hb⟩) (fun _ h => nm_r (nI_1 k) (ih _ _ hv h)) (tq_bag hwi)⟩
theorem tq_loadedBy_s {post : Int32 → Prop} {va vb vc : Int32} {pc st fl hd en fp rt b5 b6 b7 b8 b9 b10 b11 b12 b13 b14 b15 b16 b17 b18 b19 b20 b21 b22 : Nat} {e age ae : Nat} {K : Nat → Bool} (he : e < 8) (hh : hd < 8) (hae : tq_gb b19 e = ae) (ha : ae < 16) (hK : ∀ v, v < 4294967296 → K v = true → post (tq_dv va vb vc v)) (h : tq_ldb hd ae b12 b19 b21 age K 9 (tq_gd b6 ae) 0 = true) : wpX_loadedBy post (nI 9, nI pc, nI st, nI fl, nI hd, nI en, nI fp, nI rt, tq_cO, tq_cX, tq_cY, tq_cZ, tq_da va vb vc b5, tq_da va vb vc b6, tq_ba b7, tq_ba b8, tq_ba b9, tq_ba b10, tq_ba b11, tq_ba b12, tq_ba b13, tq_sa b14, tq_da va vb vc b15, tq_sa b16, tq_da va vb vc b17, tq_ba b18, tq_ba b19, tq_ba b20, tq_da va vb vc b21, tq_sa b22) (nI e) (nI age) := by
  have hb : tq_ba b19 (nI e).toNatClampNeg = nI ae := by rw [tq_bag (tq_31 he), hae]
  exact ⟨tq_vi he, by rw [hb]; exact tq_vi ha, nm_r (by rw [hb]; exact tq_dag (tq_31 ha)) ⟨9, tq_ldb_s he hh hae hK 9 _ 0 (tq_gd_lt _ _) h⟩⟩
theorem tq_a49_s {post : St2 → Prop} {va vb vc : Int32} {pc st fl hd en fp rt b5 b6 b7 b8 b9 b10 b11 b12 b13 b14 b15 b16 b17 b18 b19 b20 b21 b22 : Nat} {J : Int32 → (Nat → Int32) → (Nat → Int32) → (Nat → Int32) → (Nat → Int32) → (Nat → Int32) → (Nat → Int32) → (Nat → Int32) → (Nat → Int32) → (Nat → Int32) → (Nat → Int32) → (Nat → Int32) → (Nat → Int32) → (Nat → Int32) → (Nat → Int32) → (Nat → Int32) → (Nat → Int32) → (Nat → Int32) → (Nat → Int32) → (Nat → Int32) → (Nat → Int32) → (Nat → Int32) → (Nat → Int32) → Prop} {ih : Nat → Nat → Nat → Nat → Nat → Bool} {e v k w : Nat} (he : e < 8) (hw : w < 8) (hv : tq_gd b21 e = v) (hJ : ∀ k b14 b15 b16 b17, ih k b14 b15 b16 b17 = true → J (nI k) tq_cO tq_cX tq_cY tq_cZ (tq_da va vb vc b5) (tq_da va vb vc b6) (tq_ba b7) (tq_ba b8) (tq_ba b9) (tq_ba b10) (tq_ba b11) (tq_ba b12) (tq_ba b13) (tq_sa b14) (tq_da va vb vc b15) (tq_sa b16) (tq_da va vb vc b17) (tq_ba b18) (tq_ba b19) (tq_ba b20) (tq_da va vb vc b21) (tq_sa b22)) (h : tq_a49 ih e v k w b14 b15 b16 b17 = true) : wX_announce_49 post J (nI e) (nI k) (nI w) (nI 9) (nI pc) (nI st) (nI fl) (nI hd) (nI en) (nI fp) (nI rt) tq_cO tq_cX tq_cY tq_cZ (tq_da va vb vc b5) (tq_da va vb vc b6) (tq_ba b7) (tq_ba b8) (tq_ba b9) (tq_ba b10) (tq_ba b11) (tq_ba b12) (tq_ba b13) (tq_sa b14) (tq_da va vb vc b15) (tq_sa b16) (tq_da va vb vc b17) (tq_ba b18) (tq_ba b19) (tq_ba b20) (tq_da va vb vc b21) (tq_sa b22) := by
  have hwi := tq_31 hw
  have hvl : v < 4294967296 := by rw [← hv]; exact tq_gd_lt _ _
  exact ⟨tq_vi hw, tq_eqs_s h (fun _ _ h => ⟨tq_vi hw, nm_r (tq_sau (v := 255) rfl (by decide) hwi) ⟨tq_vi he, tq_vi hw, nm_r (tq_dau (by rw [tq_dag (tq_31 he), hv]) hvl hwi) (have h := tq_fz_t h; have h := tq_fz_t h; nm_r (nI_1 k) (hJ _ _ _ _ _ h))⟩⟩) (fun _ h => nm_r (nI_1 k) (hJ _ _ _ _ _ h)) (tq_sag hwi)⟩
theorem tq_ann_s {post : St2 → Prop} {va vb vc : Int32} {pc st fl hd en fp rt b5 b6 b7 b8 b9 b10 b11 b12 b13 b18 b19 b20 b21 b22 : Nat} {K : Nat → Nat → Nat → Nat → Bool} {e v : Nat} (he : e < 8) (hh : hd < 8) (hv : tq_gd b21 e = v) (hK : ∀ b14 b15 b16 b17, K b14 b15 b16 b17 = true → post (nI 9, nI pc, nI st, nI fl, nI hd, nI en, nI fp, nI rt, tq_cO, tq_cX, tq_cY, tq_cZ, tq_da va vb vc b5, tq_da va vb vc b6, tq_ba b7, tq_ba b8, tq_ba b9, tq_ba b10, tq_ba b11, tq_ba b12, tq_ba b13, tq_sa b14, tq_da va vb vc b15, tq_sa b16, tq_da va vb vc b17, tq_ba b18, tq_ba b19, tq_ba b20, tq_da va vb vc b21, tq_sa b22)) : ∀ n k b14 b15 b16 b17, tq_ann hd en e v K n k b14 b15 b16 b17 = true → wX_announce_2 post (nI e) (nI 9) (nI pc) (nI st) (nI fl) (nI hd) (nI en) (nI fp) (nI rt) n (nI k) tq_cO tq_cX tq_cY tq_cZ (tq_da va vb vc b5) (tq_da va vb vc b6) (tq_ba b7) (tq_ba b8) (tq_ba b9) (tq_ba b10) (tq_ba b11) (tq_ba b12) (tq_ba b13) (tq_sa b14) (tq_da va vb vc b15) (tq_sa b16) (tq_da va vb vc b17) (tq_ba b18) (tq_ba b19) (tq_ba b20) (tq_da va vb vc b21) (tq_sa b22) := by
  have hvl : v < 4294967296 := by rw [← hv]; exact tq_gd_lt _ _
  intro n
  induction n with
  | zero => intro k b14 b15 b16 b17 h; exact absurd h Bool.false_ne_true
  | succ n ih =>
    intro k b14 b15 b16 b17 h
    refine tq_le_s (x := en) (y := k) h (fun _ _ h => hK _ _ _ _ h) (fun l l2 h => tq_nf h (tq_m7 (tq_31 hh) (Nat.lt_trans l l2)) (fun w hw h => ?_))
    have hw8 : w < 8 := by rw [hw]; exact tq_mw
    have hwi := tq_31 hw8
    exact ⟨tq_vi hw8, tq_eqs_s h (fun _ _ h => ⟨tq_vi hw8, nm_r (tq_sau (v := 255) rfl (by decide) hwi) ⟨tq_vi he, tq_vi hw8, nm_r (tq_dau (by rw [tq_dag (tq_31 he), hv]) hvl hwi) (have h := tq_fz_t h; have h := tq_fz_t h; tq_a49_s he hw8 hv ih h)⟩⟩) (fun _ h => tq_a49_s he hw8 hv ih h) (tq_sag hwi)⟩
theorem tq_announce_s {post : St2 → Prop} {va vb vc : Int32} {pc st fl hd en fp rt b5 b6 b7 b8 b9 b10 b11 b12 b13 b14 b15 b16 b17 b18 b19 b20 b21 b22 : Nat} {K : Nat → Nat → Nat → Nat → Bool} {e v : Nat} (he : e < 8) (hh : hd < 8) (hv : tq_gd b21 e = v) (hK : ∀ b14 b15 b16 b17, K b14 b15 b16 b17 = true → post (nI 9, nI pc, nI st, nI fl, nI hd, nI en, nI fp, nI rt, tq_cO, tq_cX, tq_cY, tq_cZ, tq_da va vb vc b5, tq_da va vb vc b6, tq_ba b7, tq_ba b8, tq_ba b9, tq_ba b10, tq_ba b11, tq_ba b12, tq_ba b13, tq_sa b14, tq_da va vb vc b15, tq_sa b16, tq_da va vb vc b17, tq_ba b18, tq_ba b19, tq_ba b20, tq_da va vb vc b21, tq_sa b22)) (h : tq_ann hd en e v K 9 0 b14 b15 b16 b17 = true) : wpX_announce post (nI 9, nI pc, nI st, nI fl, nI hd, nI en, nI fp, nI rt, tq_cO, tq_cX, tq_cY, tq_cZ, tq_da va vb vc b5, tq_da va vb vc b6, tq_ba b7, tq_ba b8, tq_ba b9, tq_ba b10, tq_ba b11, tq_ba b12, tq_ba b13, tq_sa b14, tq_da va vb vc b15, tq_sa b16, tq_da va vb vc b17, tq_ba b18, tq_ba b19, tq_ba b20, tq_da va vb vc b21, tq_sa b22) (nI e) :=
  ⟨9, tq_ann_s he hh hv hK 9 0 _ _ _ _ h⟩
theorem tq_x136_s {post : Int32 → St2 → Prop} {va vb vc : Int32} {pc st fl hd en fp rt b5 b6 b7 b8 b9 b10 b11 b12 b13 b14 b15 b16 b17 b18 b19 b20 b21 b22 : Nat} {K : Nat → Nat → Nat → Nat → Nat → Nat → Nat → Nat → Nat → Bool} {e v : Nat} (he : e < 8) (hh : hd < 8) (hv : v < 4294967296) (hK : ∀ r b14 b15 b16 b17 b18 b19 b20 b21, K r b14 b15 b16 b17 b18 b19 b20 b21 = true → post (nI r) (nI 9, nI pc, nI st, nI fl, nI hd, nI en, nI fp, nI rt, tq_cO, tq_cX, tq_cY, tq_cZ, tq_da va vb vc b5, tq_da va vb vc b6, tq_ba b7, tq_ba b8, tq_ba b9, tq_ba b10, tq_ba b11, tq_ba b12, tq_ba b13, tq_sa b14, tq_da va vb vc b15, tq_sa b16, tq_da va vb vc b17, tq_ba b18, tq_ba b19, tq_ba b20, tq_da va vb vc b21, tq_sa b22)) (h : tq_x136 hd en e v b14 b15 b16 b17 b18 b19 b20 b21 K = true) : wX_execute_136 post (nI e) (tq_dv va vb vc v) (nI 9) (nI pc) (nI st) (nI fl) (nI hd) (nI en) (nI fp) (nI rt) tq_cO tq_cX tq_cY tq_cZ (tq_da va vb vc b5) (tq_da va vb vc b6) (tq_ba b7) (tq_ba b8) (tq_ba b9) (tq_ba b10) (tq_ba b11) (tq_ba b12) (tq_ba b13) (tq_sa b14) (tq_da va vb vc b15) (tq_sa b16) (tq_da va vb vc b17) (tq_ba b18) (tq_ba b19) (tq_ba b20) (tq_da va vb vc b21) (tq_sa b22) := by
  have h2 := tq_fz_t h
  have h2 := tq_fz_t h2
  exact ⟨tq_vi he, nm_r (tq_dau rfl hv (tq_31 he)) ⟨tq_vi he, nm_r (tq_bau (v := 1) rfl (by decide) (tq_31 he)) (tq_announce_s he hh (tq_gd_s hv) (fun b14 b15 b16 b17 h => hK 1 b14 b15 b16 b17 _ _ _ _ h) h2)⟩⟩
theorem tq_x81a_s {post : Int32 → St2 → Prop} {va vb vc : Int32} {pc st fl hd en fp rt b5 b6 b7 b8 b9 b10 b11 b12 b13 b14 b15 b16 b17 b18 b19 b20 b21 b22 : Nat} {K : Nat → Nat → Nat → Nat → Nat → Nat → Nat → Nat → Nat → Bool} {e k ad : Nat} (he : e < 8) (hh : hd < 8) (hae : tq_gb b19 e = ad) (ha : ad < 16) (hK : ∀ r b14 b15 b16 b17 b18 b19 b20 b21, K r b14 b15 b16 b17 b18 b19 b20 b21 = true → post (nI r) (nI 9, nI pc, nI st, nI fl, nI hd, nI en, nI fp, nI rt, tq_cO, tq_cX, tq_cY, tq_cZ, tq_da va vb vc b5, tq_da va vb vc b6, tq_ba b7, tq_ba b8, tq_ba b9, tq_ba b10, tq_ba b11, tq_ba b12, tq_ba b13, tq_sa b14, tq_da va vb vc b15, tq_sa b16, tq_da va vb vc b17, tq_ba b18, tq_ba b19, tq_ba b20, tq_da va vb vc b21, tq_sa b22)) (h : tq_ldb hd ad b12 b19 b21 k (fun v => tq_x136 hd en e v b14 b15 b16 b17 b18 b19 b20 b21 K) 9 (tq_gd b6 ad) 0 = true) : wX_execute_81 post (nI e) (nI k) 5 (nI 9) (nI pc) (nI st) (nI fl) (nI hd) (nI en) (nI fp) (nI rt) tq_cO tq_cX tq_cY tq_cZ (tq_da va vb vc b5) (tq_da va vb vc b6) (tq_ba b7) (tq_ba b8) (tq_ba b9) (tq_ba b10) (tq_ba b11) (tq_ba b12) (tq_ba b13) (tq_sa b14) (tq_da va vb vc b15) (tq_sa b16) (tq_da va vb vc b17) (tq_ba b18) (tq_ba b19) (tq_ba b20) (tq_da va vb vc b21) (tq_sa b22) :=
  br_t rfl (tq_loadedBy_s he hh hae ha (fun v hv h => tq_x136_s he hh hv hK h) h)
theorem tq_x43_s {post : Int32 → St2 → Prop} {va vb vc : Int32} {pc st fl hd en fp rt b5 b6 b7 b8 b9 b10 b11 b12 b13 b14 b15 b16 b17 b18 b19 b20 b21 b22 : Nat} {K : Nat → Nat → Nat → Nat → Nat → Nat → Nat → Nat → Nat → Bool} {e k op z p : Nat} (he : e < 8) (hh : hd < 8) (hop : op < 256) (hK : ∀ r b14 b15 b16 b17 b18 b19 b20 b21, K r b14 b15 b16 b17 b18 b19 b20 b21 = true → post (nI r) (nI 9, nI pc, nI st, nI fl, nI hd, nI en, nI fp, nI rt, tq_cO, tq_cX, tq_cY, tq_cZ, tq_da va vb vc b5, tq_da va vb vc b6, tq_ba b7, tq_ba b8, tq_ba b9, tq_ba b10, tq_ba b11, tq_ba b12, tq_ba b13, tq_sa b14, tq_da va vb vc b15, tq_sa b16, tq_da va vb vc b17, tq_ba b18, tq_ba b19, tq_ba b20, tq_da va vb vc b21, tq_sa b22)) (h : tq_x43 hd en b6 b12 e k op z p b14 b15 b16 b17 b18 b19 b20 b21 K = true) : wX_execute_43 post (nI e) (nI k) (nI op) (tq_sv z) (tq_dv va vb vc p) (nI 9) (nI pc) (nI st) (nI fl) (nI hd) (nI en) (nI fp) (nI rt) tq_cO tq_cX tq_cY tq_cZ (tq_da va vb vc b5) (tq_da va vb vc b6) (tq_ba b7) (tq_ba b8) (tq_ba b9) (tq_ba b10) (tq_ba b11) (tq_ba b12) (tq_ba b13) (tq_sa b14) (tq_da va vb vc b15) (tq_sa b16) (tq_da va vb vc b17) (tq_ba b18) (tq_ba b19) (tq_ba b20) (tq_da va vb vc b21) (tq_sa b22) := by
  obtain ⟨hp, h⟩ := tq_in_t h
  obtain ⟨hz, h⟩ := tq_in_t h
  obtain ⟨ad, had, h⟩ := tq_fv h
  have h16 : ad < 16 := by rw [had]; exact tq_mw
  have hx : ((tq_dv va vb vc p + tq_sv z) &&& 15).toInt8.toInt32 = nI ad := by
    rw [tq_dv_c hp, tq_sv_n hz, tq_a15 (tq_31 hp) (tq_31 hz), ← had]
    exact tq_i8 ad (by omega)
  have hei := tq_31 he
  have hs : tq_gb (tq_sb b19 e ad) e = ad := tq_gb_s (by omega)
  have h2 := tq_fz_t h
  have h2 := tq_fz_t h2
  refine ⟨tq_vi he, nm_r (tq_bau hx (by omega) hei) ⟨tq_vi he, nm_r (tq_bau (v := 1) rfl (by decide) hei) (tq_eq_s h2 (fun e5 h3 => ?_) (fun e5 h3 => br_f (fun zz => e5 ((nI_eq (by omega) (by decide)).mp zz)) ⟨tq_vi he, ?_⟩))⟩⟩
  · rw [e5]
    refine tq_mayLoad_s he hh hs ?_ ?_ h3
    · exact fun h => br_t rfl (hK 0 _ _ _ _ _ _ _ _ h)
    · exact fun h => br_f (by decide) (tq_fc h (fun h => tq_x81a_s he hh hs h16 hK h))
  · have h4 := tq_fz_t h3
    rw [tq_dag hei]
    exact tq_x136_s he hh (tq_gd_lt _ _) hK h4
theorem tq_add_t {va vb vc : Int32} {x y : Nat} {K : Nat → Bool} (h : tq_add x y K = true) : ∃ v, v < 4294967296 ∧ tq_dv va vb vc x + tq_dv va vb vc y = tq_dv va vb vc v ∧ K v = true := by
  obtain ⟨h0, h⟩ := tq_in_t h
  obtain ⟨h1, h⟩ := tq_in_t h
  obtain ⟨h2, h⟩ := tq_in_t h
  obtain ⟨h3, h⟩ := tq_in_t h
  obtain ⟨h4, h⟩ := tq_in_t (tq_fz_t h)
  exact ⟨_, h4, tq_dv_add h0 h1 h2 h3, h⟩
theorem tq_adi_t {va vb vc : Int32} {x z : Nat} {K : Nat → Bool} (h : tq_adi x z K = true) : ∃ v, v < 4294967296 ∧ tq_dv va vb vc x + tq_sv z = tq_dv va vb vc v ∧ K v = true := by
  rcases tq_qi_t h with ⟨hz, h⟩ | ⟨hz, h⟩
  · have hz := tq_ble hz
    obtain ⟨h0, h⟩ := tq_in_t h
    obtain ⟨h4, h⟩ := tq_in_t (tq_fz_t h)
    exact ⟨_, h4, by rw [tq_sv_n (by omega)]; exact tq_dv_addc h0, h⟩
  · have hz := tq_nble hz
    obtain ⟨h0, h⟩ := tq_in_t h
    obtain ⟨h4, h⟩ := tq_in_t (tq_fz_t h)
    exact ⟨_, h4, by rw [tq_sv_m (by omega)]; exact tq_dv_subc h0, h⟩
theorem tq_exec_s {post : Int32 → St2 → Prop} {va vb vc : Int32} {pc st fl hd en fp rt b5 b6 b7 b8 b9 b10 b11 b12 b13 b14 b15 b16 b17 b18 b19 b20 b21 b22 : Nat} {K : Nat → Nat → Nat → Nat → Nat → Nat → Nat → Nat → Nat → Bool} {e k : Nat} (he : e < 8) (hh : hd < 8) (hK : ∀ r b14 b15 b16 b17 b18 b19 b20 b21, K r b14 b15 b16 b17 b18 b19 b20 b21 = true → post (nI r) (nI 9, nI pc, nI st, nI fl, nI hd, nI en, nI fp, nI rt, tq_cO, tq_cX, tq_cY, tq_cZ, tq_da va vb vc b5, tq_da va vb vc b6, tq_ba b7, tq_ba b8, tq_ba b9, tq_ba b10, tq_ba b11, tq_ba b12, tq_ba b13, tq_sa b14, tq_da va vb vc b15, tq_sa b16, tq_da va vb vc b17, tq_ba b18, tq_ba b19, tq_ba b20, tq_da va vb vc b21, tq_sa b22)) (h : tq_exec hd en b6 b11 b12 e k b14 b15 b16 b17 b18 b19 b20 b21 K = true) : wpX_execute post (nI 9, nI pc, nI st, nI fl, nI hd, nI en, nI fp, nI rt, tq_cO, tq_cX, tq_cY, tq_cZ, tq_da va vb vc b5, tq_da va vb vc b6, tq_ba b7, tq_ba b8, tq_ba b9, tq_ba b10, tq_ba b11, tq_ba b12, tq_ba b13, tq_sa b14, tq_da va vb vc b15, tq_sa b16, tq_da va vb vc b17, tq_ba b18, tq_ba b19, tq_ba b20, tq_da va vb vc b21, tq_sa b22) (nI e) (nI k) := by
  have hei := tq_31 he
  obtain ⟨op, hop, h⟩ := tq_fv h
  obtain ⟨pl, hpl, h⟩ := tq_fv h
  obtain ⟨hp24, h⟩ := tq_in_t h
  obtain ⟨z, hz, h⟩ := tq_fv h
  obtain ⟨p, hp, h⟩ := tq_fv h
  have hpl' : p < 4294967296 := by rw [hp]; exact tq_gd_lt _ _
  have hop' : op < 256 := by rw [hop]; exact tq_gb_lt _ _
  have e11 : tq_ba b11 (nI e).toNatClampNeg = nI pl := by rw [tq_bag hei, hpl]
  refine ⟨tq_vi he, nm_r (e' := nI op) (by rw [tq_bag hei, hop]) ⟨tq_vi he, by rw [e11]; exact tq_vi hp24, nm_r (e' := tq_sv z) (by rw [e11, hz]; exact tq_sag (tq_31 hp24)) ⟨tq_vi he, nm_r (e' := tq_dv va vb vc p) (by rw [tq_dag hei, hp]) ?_⟩⟩⟩
  refine tq_eq_s h (fun _ h => tq_x43_s he hh hop' hK h) (fun _ h => tq_eq_s h (fun _ h => tq_x43_s he hh hop' hK h) (fun _ h => tq_lt_s h (fun _ _ h => tq_x136_s he hh hpl' hK h) (fun _ _ h => tq_eq_s h (fun e4 h5 => ?_) (fun _ h5 => ⟨tq_vi he, ?_⟩))))
  · obtain ⟨v, hv, hs, h6⟩ := tq_adi_t (va := va) (vb := vb) (vc := vc) h5
    rw [e4]
    exact br_f (by decide) (br_f (by decide) (br_f (by decide) (by rw [hs]; exact tq_x136_s he hh hv hK h6)))
  · refine tq_eq_s h5 (fun _ h => absurd h Bool.false_ne_true) (fun _ h => tq_eq_s h (fun _ h => absurd h Bool.false_ne_true) (fun _ h => tq_eq_s h (fun _ h => absurd h Bool.false_ne_true) (fun _ h => ?_)))
    obtain ⟨v, hv, hs, h⟩ := tq_add_t (va := va) (vb := vb) (vc := vc) h
    rw [tq_dag hei, hs]
    exact tq_x136_s he hh hv hK h
theorem tq_exs_s {post : St2 → Prop} {va vb vc : Int32} {pc st fl hd en fp rt b5 b6 b7 b8 b9 b10 b11 b12 b13 b22 : Nat} {K : Nat → Nat → Nat → Nat → Nat → Nat → Nat → Nat → Bool} (hh : hd < 8) (hK : ∀ b14 b15 b16 b17 b18 b19 b20 b21, K b14 b15 b16 b17 b18 b19 b20 b21 = true → post (nI 9, nI pc, nI st, nI fl, nI hd, nI en, nI fp, nI rt, tq_cO, tq_cX, tq_cY, tq_cZ, tq_da va vb vc b5, tq_da va vb vc b6, tq_ba b7, tq_ba b8, tq_ba b9, tq_ba b10, tq_ba b11, tq_ba b12, tq_ba b13, tq_sa b14, tq_da va vb vc b15, tq_sa b16, tq_da va vb vc b17, tq_ba b18, tq_ba b19, tq_ba b20, tq_da va vb vc b21, tq_sa b22)) : ∀ n x k b14 b15 b16 b17 b18 b19 b20 b21, tq_exs hd en b6 b11 b12 K n x k b14 b15 b16 b17 b18 b19 b20 b21 = true → wX_executeSome_4 post n (nI x) (nI k) (nI 9) (nI pc) (nI st) (nI fl) (nI hd) (nI en) (nI fp) (nI rt) tq_cO tq_cX tq_cY tq_cZ (tq_da va vb vc b5) (tq_da va vb vc b6) (tq_ba b7) (tq_ba b8) (tq_ba b9) (tq_ba b10) (tq_ba b11) (tq_ba b12) (tq_ba b13) (tq_sa b14) (tq_da va vb vc b15) (tq_sa b16) (tq_da va vb vc b17) (tq_ba b18) (tq_ba b19) (tq_ba b20) (tq_da va vb vc b21) (tq_sa b22) := by
  intro n
  induction n with
  | zero => intro x k b14 b15 b16 b17 b18 b19 b20 b21 h; exact absurd h Bool.false_ne_true
  | succ n ih =>
    intro x k b14 b15 b16 b17 b18 b19 b20 b21 h
    refine tq_le_s (x := en) (y := k) h (fun _ _ h => hK _ _ _ _ _ _ _ _ h) (fun l l2 h => tq_le_s (x := 2) (y := x) h (fun _ _ h => hK _ _ _ _ _ _ _ _ h) (fun _ _ h => tq_nf h (tq_m7 (tq_31 hh) (Nat.lt_trans l l2)) (fun e hw h => ?_)))
    have he : e < 8 := by rw [hw]; exact tq_mw
    have hei := tq_31 he
    refine ⟨tq_vi he, tq_eq_s h (fun _ h => ⟨tq_vi he, tq_sge_s h (fun _ h => nm_r (nI_1 k) (ih _ _ _ _ _ _ _ _ _ _ h)) (fun _ h => ⟨tq_vi he, tq_slt_s h (fun _ h => ?_) (fun _ h => nm_r (nI_1 k) (ih _ _ _ _ _ _ _ _ _ _ h)) (tq_sag hei)⟩) (tq_sag hei)⟩) (fun _ h => nm_r (nI_1 k) (ih _ _ _ _ _ _ _ _ _ _ h)) (tq_bag hei)⟩
    exact tq_exec_s he hh (fun r b14 b15 b16 b17 b18 b19 b20 b21 h => tq_eq_s h (fun _ h => nm_r (nI_1 k) (ih _ _ _ _ _ _ _ _ _ _ h)) (fun _ h => nm_r (nI_1 x) (nm_r (nI_1 k) (ih _ _ _ _ _ _ _ _ _ _ h)))) h
theorem tq_executeSome_s {post : St2 → Prop} {va vb vc : Int32} {pc st fl hd en fp rt b5 b6 b7 b8 b9 b10 b11 b12 b13 b14 b15 b16 b17 b18 b19 b20 b21 b22 : Nat} {K : Nat → Nat → Nat → Nat → Nat → Nat → Nat → Nat → Bool} (hh : hd < 8) (hK : ∀ b14 b15 b16 b17 b18 b19 b20 b21, K b14 b15 b16 b17 b18 b19 b20 b21 = true → post (nI 9, nI pc, nI st, nI fl, nI hd, nI en, nI fp, nI rt, tq_cO, tq_cX, tq_cY, tq_cZ, tq_da va vb vc b5, tq_da va vb vc b6, tq_ba b7, tq_ba b8, tq_ba b9, tq_ba b10, tq_ba b11, tq_ba b12, tq_ba b13, tq_sa b14, tq_da va vb vc b15, tq_sa b16, tq_da va vb vc b17, tq_ba b18, tq_ba b19, tq_ba b20, tq_da va vb vc b21, tq_sa b22)) (h : tq_exs hd en b6 b11 b12 K 9 0 0 b14 b15 b16 b17 b18 b19 b20 b21 = true) : wpX_executeSome post (nI 9, nI pc, nI st, nI fl, nI hd, nI en, nI fp, nI rt, tq_cO, tq_cX, tq_cY, tq_cZ, tq_da va vb vc b5, tq_da va vb vc b6, tq_ba b7, tq_ba b8, tq_ba b9, tq_ba b10, tq_ba b11, tq_ba b12, tq_ba b13, tq_sa b14, tq_da va vb vc b15, tq_sa b16, tq_da va vb vc b17, tq_ba b18, tq_ba b19, tq_ba b20, tq_da va vb vc b21, tq_sa b22) :=
  ⟨9, tq_exs_s hh hK 9 0 0 _ _ _ _ _ _ _ _ h⟩
end
section
/-! what fetch reaches -/
theorem tq_cOg {i : Nat} (hi : i < 2 ^ 31) : tq_cO (nI i).toNatClampNeg = nI (tq_gb tq_OP i) := tq_bag hi
theorem tq_cXg {i : Nat} (hi : i < 2 ^ 31) : tq_cX (nI i).toNatClampNeg = nI (tq_gb tq_FX i) := tq_bag hi
theorem tq_cYg {i : Nat} (hi : i < 2 ^ 31) : tq_cY (nI i).toNatClampNeg = nI (tq_gb tq_FY i) := tq_bag hi
theorem tq_cZg {i : Nat} (hi : i < 2 ^ 31) : tq_cZ (nI i).toNatClampNeg = tq_sv (tq_gb tq_FZ i) := tq_sag hi
theorem tq_k7_t {z : Nat} {K : Nat → Bool} (h : tq_k7 z K = true) : z < 128 ∧ K z = true :=
  ⟨(tq_in_t h).1, tq_fz_t (tq_in_t h).2⟩
theorem tq_pred_s {post : Int32 → Prop} {va vb vc : Int32} {pc st fl hd en fp rt b5 b6 b7 b8 b9 b10 b11 b12 b13 b14 b15 b16 b17 b18 b19 b20 b21 b22 : Nat} {K : Nat → Bool} {pl : Nat} (hK : ∀ r, K r = true → post (nI r)) (h : tq_pred b7 pl K = true) : wpX_predictedAfter post (nI 9, nI pc, nI st, nI fl, nI hd, nI en, nI fp, nI rt, tq_cO, tq_cX, tq_cY, tq_cZ, tq_da va vb vc b5, tq_da va vb vc b6, tq_ba b7, tq_ba b8, tq_ba b9, tq_ba b10, tq_ba b11, tq_ba b12, tq_ba b13, tq_sa b14, tq_da va vb vc b15, tq_sa b16, tq_da va vb vc b17, tq_ba b18, tq_ba b19, tq_ba b20, tq_da va vb vc b21, tq_sa b22) (nI pl) := by
  obtain ⟨h9, h⟩ := tq_in_t h
  obtain ⟨op, hop, h⟩ := tq_fv h
  have hi := tq_31 h9
  have h24 : pl < 24 := by omega
  have hz : ∀ {K : Nat → Bool}, tq_k7 (tq_gb tq_FZ pl) K = true → ∃ r, tq_cZ (nI pl).toNatClampNeg = nI r ∧ K r = true := fun h => ⟨_, by rw [tq_cZg hi]; exact tq_sv_n (tq_k7_t h).1, (tq_k7_t h).2⟩
  have hn : tq_fz (Nat.succ pl) K = true → post (nI pl + 1) := fun h => by rw [nI_1]; exact tq_fc h (fun h => hK _ h)
  have hj : tq_k7 (tq_gb tq_FZ pl) K = true → post (tq_cZ (nI pl).toNatClampNeg) := fun h => by
    obtain ⟨r, e, h⟩ := hz h
    rw [e]; exact hK r h
  refine br_t (nI_lt h9 (by decide)) ⟨tq_vi h24, nm_r (e' := nI op) (by rw [tq_cOg hi, hop]) (tq_eq_s h (fun _ h => hK _ h) (fun _ h => tq_eq_s h (fun _ h => ⟨tq_vi h24, hj h⟩) (fun _ h => tq_eq_s h (fun _ h => ⟨tq_vi h24, tq_lt_s h (fun _ _ h => ?_) (fun _ _ h => ?_) (tq_bag hi)⟩) (fun _ h => tq_eq_s h (fun _ h => absurd h Bool.false_ne_true) (fun _ h => ?_)))))⟩
  · exact br_t rfl (hn h)
  · exact br_f (by decide) ⟨tq_vi h24, hj h⟩
  · exact br_t rfl (hn h)
theorem tq_bindLeft_s {post : St2 → Prop} {va vb vc : Int32} {pc st fl hd en fp rt b5 b6 b7 b8 b9 b10 b11 b12 b13 b14 b15 b16 b17 b18 b19 b20 b21 b22 : Nat} {K : Nat → Nat → Bool} {e r : Nat} {y : Int32} (hy : y = nI r) (he : e < 8) (hK : ∀ b14 b15, K b14 b15 = true → post (nI 9, nI pc, nI st, nI fl, nI hd, nI en, nI fp, nI rt, tq_cO, tq_cX, tq_cY, tq_cZ, tq_da va vb vc b5, tq_da va vb vc b6, tq_ba b7, tq_ba b8, tq_ba b9, tq_ba b10, tq_ba b11, tq_ba b12, tq_ba b13, tq_sa b14, tq_da va vb vc b15, tq_sa b16, tq_da va vb vc b17, tq_ba b18, tq_ba b19, tq_ba b20, tq_da va vb vc b21, tq_sa b22)) (h : tq_bind b5 b20 b21 b22 e r b14 b15 K = true) : wpX_bindLeft post (nI 9, nI pc, nI st, nI fl, nI hd, nI en, nI fp, nI rt, tq_cO, tq_cX, tq_cY, tq_cZ, tq_da va vb vc b5, tq_da va vb vc b6, tq_ba b7, tq_ba b8, tq_ba b9, tq_ba b10, tq_ba b11, tq_ba b12, tq_ba b13, tq_sa b14, tq_da va vb vc b15, tq_sa b16, tq_da va vb vc b17, tq_ba b18, tq_ba b19, tq_ba b20, tq_da va vb vc b21, tq_sa b22) (nI e) y := by
  subst hy
  obtain ⟨hr, h⟩ := tq_in_t h
  obtain ⟨g, hg, h⟩ := tq_fv h
  have hei := tq_31 he
  have hri := tq_31 hr
  refine ⟨tq_vi hr, nm_r (e' := tq_sv g) (by rw [tq_sag hri, hg]) (tq_slt_s h (fun n h => ?_) (fun p h => ?_))⟩
  · rw [tq_sv_m n]
    exact br_t (by decide) ⟨tq_vi hr, tq_vi he, nm_r (tq_dau (tq_dag hri) (tq_gd_lt _ _) hei) (tq_fc h (fun h => hK _ _ h))⟩
  · obtain ⟨g8, h⟩ := tq_in_t h
    have hgi := tq_31 g8
    rw [tq_sv_n p]
    refine ⟨tq_vi g8, tq_eq_s h (fun _ h => ⟨tq_vi he, nm_r (tq_sau (v := g) (by rw [tq_i8 g p, tq_sv_n p]) (by omega) hei) (tq_fc h (fun h => hK _ _ h))⟩) (fun _ h => ?_) (tq_bag hgi)⟩
    exact br_f (nI_pos hgi) ⟨tq_vi g8, tq_vi he, nm_r (tq_dau (tq_dag hgi) (tq_gd_lt _ _) hei) (tq_fc h (fun h => hK _ _ h))⟩
theorem tq_bindRight_s {post : St2 → Prop} {va vb vc : Int32} {pc st fl hd en fp rt b5 b6 b7 b8 b9 b10 b11 b12 b13 b14 b15 b16 b17 b18 b19 b20 b21 b22 : Nat} {K : Nat → Nat → Bool} {e r : Nat} {y : Int32} (hy : y = nI r) (he : e < 8) (hK : ∀ b16 b17, K b16 b17 = true → post (nI 9, nI pc, nI st, nI fl, nI hd, nI en, nI fp, nI rt, tq_cO, tq_cX, tq_cY, tq_cZ, tq_da va vb vc b5, tq_da va vb vc b6, tq_ba b7, tq_ba b8, tq_ba b9, tq_ba b10, tq_ba b11, tq_ba b12, tq_ba b13, tq_sa b14, tq_da va vb vc b15, tq_sa b16, tq_da va vb vc b17, tq_ba b18, tq_ba b19, tq_ba b20, tq_da va vb vc b21, tq_sa b22)) (h : tq_bind b5 b20 b21 b22 e r b16 b17 K = true) : wpX_bindRight post (nI 9, nI pc, nI st, nI fl, nI hd, nI en, nI fp, nI rt, tq_cO, tq_cX, tq_cY, tq_cZ, tq_da va vb vc b5, tq_da va vb vc b6, tq_ba b7, tq_ba b8, tq_ba b9, tq_ba b10, tq_ba b11, tq_ba b12, tq_ba b13, tq_sa b14, tq_da va vb vc b15, tq_sa b16, tq_da va vb vc b17, tq_ba b18, tq_ba b19, tq_ba b20, tq_da va vb vc b21, tq_sa b22) (nI e) y := by
  subst hy
  obtain ⟨hr, h⟩ := tq_in_t h
  obtain ⟨g, hg, h⟩ := tq_fv h
  have hei := tq_31 he
  have hri := tq_31 hr
  refine ⟨tq_vi hr, nm_r (e' := tq_sv g) (by rw [tq_sag hri, hg]) (tq_slt_s h (fun n h => ?_) (fun p h => ?_))⟩
  · rw [tq_sv_m n]
    exact br_t (by decide) ⟨tq_vi hr, tq_vi he, nm_r (tq_dau (tq_dag hri) (tq_gd_lt _ _) hei) (tq_fc h (fun h => hK _ _ h))⟩
  · obtain ⟨g8, h⟩ := tq_in_t h
    have hgi := tq_31 g8
    rw [tq_sv_n p]
    refine ⟨tq_vi g8, tq_eq_s h (fun _ h => ⟨tq_vi he, nm_r (tq_sau (v := g) (by rw [tq_i8 g p, tq_sv_n p]) (by omega) hei) (tq_fc h (fun h => hK _ _ h))⟩) (fun _ h => ?_) (tq_bag hgi)⟩
    exact br_f (nI_pos hgi) ⟨tq_vi g8, tq_vi he, nm_r (tq_dau (tq_dag hgi) (tq_gd_lt _ _) hei) (tq_fc h (fun h => hK _ _ h))⟩
theorem tq_e183_s {post : St2 → Prop} {va vb vc : Int32} {pc st fl hd en fp rt b5 b6 b7 b8 b9 b10 b11 b12 b13 b14 b15 b16 b17 b18 b19 b20 b21 b22 : Nat} {K : Nat → Bool} {pl e op : Nat} (he : e < 8) (hp : pl < 9) (hK : ∀ b22, K b22 = true → post (nI 9, nI pc, nI st, nI fl, nI hd, nI en, nI fp, nI rt, tq_cO, tq_cX, tq_cY, tq_cZ, tq_da va vb vc b5, tq_da va vb vc b6, tq_ba b7, tq_ba b8, tq_ba b9, tq_ba b10, tq_ba b11, tq_ba b12, tq_ba b13, tq_sa b14, tq_da va vb vc b15, tq_sa b16, tq_da va vb vc b17, tq_ba b18, tq_ba b19, tq_ba b20, tq_da va vb vc b21, tq_sa b22)) (h : tq_e183 pl e op b22 K = true) : wX_enter_183 post (nI pl) (nI e) (nI op) (nI 9) (nI pc) (nI st) (nI fl) (nI hd) (nI en) (nI fp) (nI rt) tq_cO tq_cX tq_cY tq_cZ (tq_da va vb vc b5) (tq_da va vb vc b6) (tq_ba b7) (tq_ba b8) (tq_ba b9) (tq_ba b10) (tq_ba b11) (tq_ba b12) (tq_ba b13) (tq_sa b14) (tq_da va vb vc b15) (tq_sa b16) (tq_da va vb vc b17) (tq_ba b18) (tq_ba b19) (tq_ba b20) (tq_da va vb vc b21) (tq_sa b22) := by
  have hi := tq_31 hp
  have h24 : pl < 24 := by omega
  refine tq_lt_s h (fun _ _ h => hK _ h) (fun _ _ h => ?_)
  obtain ⟨r, hr, h⟩ := tq_fv h
  obtain ⟨r8, h⟩ := tq_in_t h
  have e2 : tq_cX (nI pl).toNatClampNeg = nI r := by rw [tq_cXg hi, hr]
  exact ⟨tq_vi h24, by rw [e2]; exact tq_vi r8, nm_r (by rw [e2]; exact tq_sau (v := e) (by rw [tq_i8 e (by omega), tq_sv_n (by omega)]) (by omega) (tq_31 r8)) (tq_fc h (fun h => hK _ h))⟩
theorem tq_e165_s {post : St2 → Prop} {va vb vc : Int32} {pc st fl hd en fp rt b5 b6 b7 b8 b9 b10 b11 b12 b13 b14 b15 b16 b17 b18 b19 b20 b21 b22 : Nat} {K : Nat → Nat → Nat → Bool} {pl e op : Nat} (he : e < 8) (hp : pl < 9) (hK : ∀ b16 b17 b22, K b16 b17 b22 = true → post (nI 9, nI pc, nI st, nI fl, nI hd, nI en, nI fp, nI rt, tq_cO, tq_cX, tq_cY, tq_cZ, tq_da va vb vc b5, tq_da va vb vc b6, tq_ba b7, tq_ba b8, tq_ba b9, tq_ba b10, tq_ba b11, tq_ba b12, tq_ba b13, tq_sa b14, tq_da va vb vc b15, tq_sa b16, tq_da va vb vc b17, tq_ba b18, tq_ba b19, tq_ba b20, tq_da va vb vc b21, tq_sa b22)) (h : tq_e165 b5 b20 b21 pl e op b16 b17 b22 K = true) : wX_enter_165 post (nI pl) (nI e) (nI op) (nI 9) (nI pc) (nI st) (nI fl) (nI hd) (nI en) (nI fp) (nI rt) tq_cO tq_cX tq_cY tq_cZ (tq_da va vb vc b5) (tq_da va vb vc b6) (tq_ba b7) (tq_ba b8) (tq_ba b9) (tq_ba b10) (tq_ba b11) (tq_ba b12) (tq_ba b13) (tq_sa b14) (tq_da va vb vc b15) (tq_sa b16) (tq_da va vb vc b17) (tq_ba b18) (tq_ba b19) (tq_ba b20) (tq_da va vb vc b21) (tq_sa b22) := by
  have hi := tq_31 hp
  have h24 : pl < 24 := by omega
  refine tq_eq_s h (fun _ h => ⟨tq_vi h24, ?_⟩) (fun _ h => tq_e183_s he hp (fun b22 h => hK _ _ _ h) h)
  obtain ⟨r, hr, h⟩ := tq_fv h
  exact tq_bindRight_s (by rw [tq_cXg hi, hr]) he (fun b16 b17 h => tq_e183_s he hp (fun b22 h => hK _ _ _ h) h) h
theorem tq_e148_s {post : St2 → Prop} {va vb vc : Int32} {pc st fl hd en fp rt b5 b6 b7 b8 b9 b10 b11 b12 b13 b14 b15 b16 b17 b18 b19 b20 b21 b22 : Nat} {K : Nat → Nat → Nat → Bool} {pl e op : Nat} (he : e < 8) (hp : pl < 9) (hK : ∀ b16 b17 b22, K b16 b17 b22 = true → post (nI 9, nI pc, nI st, nI fl, nI hd, nI en, nI fp, nI rt, tq_cO, tq_cX, tq_cY, tq_cZ, tq_da va vb vc b5, tq_da va vb vc b6, tq_ba b7, tq_ba b8, tq_ba b9, tq_ba b10, tq_ba b11, tq_ba b12, tq_ba b13, tq_sa b14, tq_da va vb vc b15, tq_sa b16, tq_da va vb vc b17, tq_ba b18, tq_ba b19, tq_ba b20, tq_da va vb vc b21, tq_sa b22)) (h : tq_e148 b5 b20 b21 pl e op b16 b17 b22 K = true) : wX_enter_148 post (nI pl) (nI e) (nI op) (nI 9) (nI pc) (nI st) (nI fl) (nI hd) (nI en) (nI fp) (nI rt) tq_cO tq_cX tq_cY tq_cZ (tq_da va vb vc b5) (tq_da va vb vc b6) (tq_ba b7) (tq_ba b8) (tq_ba b9) (tq_ba b10) (tq_ba b11) (tq_ba b12) (tq_ba b13) (tq_sa b14) (tq_da va vb vc b15) (tq_sa b16) (tq_da va vb vc b17) (tq_ba b18) (tq_ba b19) (tq_ba b20) (tq_da va vb vc b21) (tq_sa b22) := by
  have hi := tq_31 hp
  have h24 : pl < 24 := by omega
  refine tq_lt_s h (fun _ _ h => tq_e165_s he hp hK h) (fun _ _ h => ⟨tq_vi h24, ?_⟩)
  obtain ⟨r, hr, h⟩ := tq_fv h
  have r8 := (tq_in_t h).1
  exact tq_bindRight_s (by rw [tq_cZg hi, ← hr]; exact tq_sv_n (by omega)) he (fun b16 b17 h => tq_e165_s he hp hK h) h
theorem tq_e86_s {post : St2 → Prop} {va vb vc : Int32} {pc st fl hd en fp rt b5 b6 b7 b8 b9 b10 b11 b12 b13 b14 b15 b16 b17 b18 b19 b20 b21 b22 : Nat} {K : Nat → Nat → Nat → Nat → Nat → Nat → Nat → Nat → Nat → Nat → Nat → Bool} {pl e op dn d0 : Nat} {x : Int32} (hx : vp_nar .boolean x = nI d0) (hd0 : d0 < 2) (hdn : dn = tq_sb b20 e d0) (he : e < 8) (hp : pl < 9) (hK : ∀ en b11 b12 b13 b14 b15 b16 b17 b18 b20 b22, K en b11 b12 b13 b14 b15 b16 b17 b18 b20 b22 = true → post (nI 9, nI pc, nI st, nI fl, nI hd, nI en, nI fp, nI rt, tq_cO, tq_cX, tq_cY, tq_cZ, tq_da va vb vc b5, tq_da va vb vc b6, tq_ba b7, tq_ba b8, tq_ba b9, tq_ba b10, tq_ba b11, tq_ba b12, tq_ba b13, tq_sa b14, tq_da va vb vc b15, tq_sa b16, tq_da va vb vc b17, tq_ba b18, tq_ba b19, tq_ba b20, tq_da va vb vc b21, tq_sa b22)) (h : tq_e86 b5 b21 pl e op en b11 b12 b13 b14 b15 b16 b17 b18 dn b22 K = true) : wX_enter_86 post (nI pl) (nI e) (nI op) x (nI e) (nI 9) (nI pc) (nI st) (nI fl) (nI hd) (nI en) (nI fp) (nI rt) tq_cO tq_cX tq_cY tq_cZ (tq_da va vb vc b5) (tq_da va vb vc b6) (tq_ba b7) (tq_ba b8) (tq_ba b9) (tq_ba b10) (tq_ba b11) (tq_ba b12) (tq_ba b13) (tq_sa b14) (tq_da va vb vc b15) (tq_sa b16) (tq_da va vb vc b17) (tq_ba b18) (tq_ba b19) (tq_ba b20) (tq_da va vb vc b21) (tq_sa b22) := by
  have hi := tq_31 hp
  have hei := tq_31 he
  have h24 : pl < 24 := by omega
  subst hdn
  have h2 := tq_fz_t h
  have h2 := tq_fz_t h2
  have h2 := tq_fz_t h2
  refine ⟨tq_vi he, nm_r (tq_bau hx (by omega) hei) ⟨tq_vi he, nm_r (tq_bau (v := 0) rfl (by decide) hei) ⟨tq_vi he, nm_r (tq_sau (v := 255) rfl (by decide) hei) ⟨tq_vi he, nm_r (tq_sau (v := 255) rfl (by decide) hei) (tq_lt_s h2 (fun _ _ h => tq_lt_s h (fun _ _ h => ⟨tq_vi h24, ?_⟩) (fun _ _ h => ⟨tq_vi h24, ?_⟩)) (fun _ _ h => hK _ _ _ _ _ _ _ _ _ _ _ h))⟩⟩⟩⟩
  · obtain ⟨r, hr, h⟩ := tq_fv h
    exact tq_bindLeft_s (by rw [tq_cXg hi, hr]) he (fun b14 b15 h => tq_e148_s he hp (fun b16 b17 b22 h => hK _ _ _ _ _ _ _ _ _ _ _ h) h) h
  · obtain ⟨r, hr, h⟩ := tq_fv h
    exact tq_bindLeft_s (by rw [tq_cYg hi, hr]) he (fun b14 b15 h => tq_e148_s he hp (fun b16 b17 b22 h => hK _ _ _ _ _ _ _ _ _ _ _ h) h) h
theorem tq_op_lt : ∀ pl, pl < 9 → tq_gb tq_OP pl < 128 := by decide +kernel
theorem tq_ent_s {post : St2 → Prop} {va vb vc : Int32} {pc st fl hd en fp rt b5 b6 b7 b8 b9 b10 b11 b12 b13 b14 b15 b16 b17 b18 b19 b20 b21 b22 : Nat} {K : Nat → Nat → Nat → Nat → Nat → Nat → Nat → Nat → Nat → Nat → Nat → Bool} {pl af : Nat} (hh : hd < 8) (hen : en < 8) (hK : ∀ en b11 b12 b13 b14 b15 b16 b17 b18 b20 b22, K en b11 b12 b13 b14 b15 b16 b17 b18 b20 b22 = true → post (nI 9, nI pc, nI st, nI fl, nI hd, nI en, nI fp, nI rt, tq_cO, tq_cX, tq_cY, tq_cZ, tq_da va vb vc b5, tq_da va vb vc b6, tq_ba b7, tq_ba b8, tq_ba b9, tq_ba b10, tq_ba b11, tq_ba b12, tq_ba b13, tq_sa b14, tq_da va vb vc b15, tq_sa b16, tq_da va vb vc b17, tq_ba b18, tq_ba b19, tq_ba b20, tq_da va vb vc b21, tq_sa b22)) (h : tq_ent hd b5 b21 pl af en b11 b12 b13 b14 b15 b16 b17 b18 b20 b22 K = true) : wpX_enter post (nI 9, nI pc, nI st, nI fl, nI hd, nI en, nI fp, nI rt, tq_cO, tq_cX, tq_cY, tq_cZ, tq_da va vb vc b5, tq_da va vb vc b6, tq_ba b7, tq_ba b8, tq_ba b9, tq_ba b10, tq_ba b11, tq_ba b12, tq_ba b13, tq_sa b14, tq_da va vb vc b15, tq_sa b16, tq_da va vb vc b17, tq_ba b18, tq_ba b19, tq_ba b20, tq_da va vb vc b21, tq_sa b22) (nI pl) (nI af) := by
  obtain ⟨hp, h⟩ := tq_in_t h
  obtain ⟨ha, h⟩ := tq_in_t h
  have hi := tq_31 hp
  have h24 : pl < 24 := by omega
  refine tq_nf h (tq_m7 (tq_31 hh) (tq_31 hen)) (fun e hw h => ?_)
  have he : e < 8 := by rw [hw]; exact tq_mw
  have hei := tq_31 he
  obtain ⟨op, hop, h⟩ := tq_fv h
  have ho : op < 128 := by rw [hop]; exact tq_op_lt pl hp
  have e1 : tq_cO (nI pl).toNatClampNeg = nI op := by rw [tq_cOg hi, hop]
  have h2 := tq_fz_t h
  have h2 := tq_fz_t h2
  have h2 := tq_fz_t h2
  have h2 := tq_fz_t h2
  refine br_f (nI_ge hp (by decide)) ⟨tq_vi h24, ?_⟩
  rw [e1]
  refine nm_r (nI_1 en) ⟨tq_vi he, nm_r (tq_bau (tq_i8 pl (by omega)) (by omega) hei) ⟨tq_vi he, nm_r (tq_bau (tq_i8 op ho) (by omega) hei) ⟨tq_vi he, nm_r (tq_bau (tq_i8 af ha) (by omega) hei) (tq_lt_s h2 (fun _ _ h => ?_) (fun _ _ h => ?_))⟩⟩⟩
  · exact tq_fc h (fun h => tq_e86_s (d0 := 0) tq_n0 (by decide) rfl he hp hK h)
  · exact tq_fc h (fun h => tq_e86_s (d0 := 1) tq_n1 (by decide) rfl he hp hK h)
theorem tq_agr_s {post : Int32 → Prop} {va vb vc : Int32} {pc st fl hd en fp rt b5 b6 b7 b8 b9 b10 b11 b12 b13 b14 b15 b16 b17 b18 b19 b20 b21 b22 : Nat} {ln c : Nat} {K0 K1 : Bool} (hl : ln < 8) (h0 : K0 = true → post 0) (h1 : K1 = true → post 1) : ∀ n k, tq_agr b7 b9 ln c K0 K1 n k = true → wX_agrees_2 post (nI ln) (nI c) (nI 9) (nI pc) (nI st) (nI fl) (nI hd) (nI en) (nI fp) (nI rt) tq_cO tq_cX tq_cY tq_cZ (tq_da va vb vc b5) (tq_da va vb vc b6) (tq_ba b7) (tq_ba b8) (tq_ba b9) (tq_ba b10) (tq_ba b11) (tq_ba b12) (tq_ba b13) (tq_sa b14) (tq_da va vb vc b15) (tq_sa b16) (tq_da va vb vc b17) (tq_ba b18) (tq_ba b19) (tq_ba b20) (tq_da va vb vc b21) (tq_sa b22) n (nI k) := by
  intro n
  induction n with
  | zero => intro k h; exact absurd h Bool.false_ne_true
  | succ n ih =>
    intro k h
    refine tq_le_s (x := c) (y := Nat.succ k) h (fun _ _ h => h1 h) (fun _ _ h => ?_) rfl (nI_1 k)
    obtain ⟨hi, h⟩ := tq_in_t h
    obtain ⟨pl, hpl, h⟩ := tq_fv h
    have e1 : 3 * nI ln + nI k = nI (Nat.add (Nat.mul 3 ln) k) := by
      rw [show (3 : Int32) = nI 3 from rfl, pk_mul, nI_add]; rfl
    have hi1 : Nat.add (Nat.mul 3 ln) k < 24 := by omega
    rw [e1]
    refine ⟨tq_vi hi1, nm_r (e' := nI pl) (by rw [tq_bag (tq_31 hi1), hpl]) (tq_pred_s (fun r h => ?_) h)⟩
    show vp_in (nI (Nat.add (Nat.mul 3 ln) k) + 1) 24 ∧ _
    rw [nI_1]
    exact ⟨tq_vi hi, tq_eq_s h (fun _ h => nm_r (nI_1 k) (ih _ h)) (fun _ h => h0 h) rfl (tq_bag (tq_31 hi))⟩
theorem tq_f63_s {post : St2 → Prop} {va vb vc : Int32} {pc st fl hd rt b5 b6 b7 b8 b9 b10 b19 b21 : Nat} {wn : Nat} {K : Nat → Nat → Nat → Nat → Nat → Nat → Nat → Nat → Nat → Nat → Nat → Nat → Bool} (hh : hd < 8) (hK : ∀ fp en b11 b12 b13 b14 b15 b16 b17 b18 b20 b22, K fp en b11 b12 b13 b14 b15 b16 b17 b18 b20 b22 = true → post (nI 9, nI pc, nI st, nI fl, nI hd, nI en, nI fp, nI rt, tq_cO, tq_cX, tq_cY, tq_cZ, tq_da va vb vc b5, tq_da va vb vc b6, tq_ba b7, tq_ba b8, tq_ba b9, tq_ba b10, tq_ba b11, tq_ba b12, tq_ba b13, tq_sa b14, tq_da va vb vc b15, tq_sa b16, tq_da va vb vc b17, tq_ba b18, tq_ba b19, tq_ba b20, tq_da va vb vc b21, tq_sa b22)) : ∀ n k fp en b11 b12 b13 b14 b15 b16 b17 b18 b20 b22, tq_f63 hd b5 b7 b21 wn K n k fp en b11 b12 b13 b14 b15 b16 b17 b18 b20 b22 = true → wX_fetch_63 post (nI wn) n (nI k) (nI 9) (nI pc) (nI st) (nI fl) (nI hd) (nI en) (nI fp) (nI rt) tq_cO tq_cX tq_cY tq_cZ (tq_da va vb vc b5) (tq_da va vb vc b6) (tq_ba b7) (tq_ba b8) (tq_ba b9) (tq_ba b10) (tq_ba b11) (tq_ba b12) (tq_ba b13) (tq_sa b14) (tq_da va vb vc b15) (tq_sa b16) (tq_da va vb vc b17) (tq_ba b18) (tq_ba b19) (tq_ba b20) (tq_da va vb vc b21) (tq_sa b22) := by
  intro n
  induction n with
  | zero => intro k fp en b11 b12 b13 b14 b15 b16 b17 b18 b20 b22 h; exact absurd h Bool.false_ne_true
  | succ n ih =>
    intro k fp en b11 b12 b13 b14 b15 b16 b17 b18 b20 b22 h
    exact tq_le_s (x := wn) (y := k) h (fun _ _ h => hK _ _ _ _ _ _ _ _ _ _ _ _ h) (fun _ _ h => tq_le_s (x := 8) (y := en) h (fun _ _ h => hK _ _ _ _ _ _ _ _ _ _ _ _ h) (fun l _ h => tq_pred_s (fun r h => tq_ent_s hh l (fun en b11 b12 b13 b14 b15 b16 b17 b18 b20 b22 h => nm_r (nI_1 k) (ih _ _ _ _ _ _ _ _ _ _ _ _ _ h)) h) h))
theorem tq_fetch_s {post : St2 → Prop} {va vb vc : Int32} {pc st fl hd en fp rt b5 b6 b7 b8 b9 b10 b11 b12 b13 b14 b15 b16 b17 b18 b19 b20 b21 b22 : Nat} {K : Nat → Nat → Nat → Nat → Nat → Nat → Nat → Nat → Nat → Nat → Nat → Nat → Bool} (hh : hd < 8) (hK : ∀ fp en b11 b12 b13 b14 b15 b16 b17 b18 b20 b22, K fp en b11 b12 b13 b14 b15 b16 b17 b18 b20 b22 = true → post (nI 9, nI pc, nI st, nI fl, nI hd, nI en, nI fp, nI rt, tq_cO, tq_cX, tq_cY, tq_cZ, tq_da va vb vc b5, tq_da va vb vc b6, tq_ba b7, tq_ba b8, tq_ba b9, tq_ba b10, tq_ba b11, tq_ba b12, tq_ba b13, tq_sa b14, tq_da va vb vc b15, tq_sa b16, tq_da va vb vc b17, tq_ba b18, tq_ba b19, tq_ba b20, tq_da va vb vc b21, tq_sa b22)) (h : tq_ftc hd b5 b7 b8 b9 b21 fp en b11 b12 b13 b14 b15 b16 b17 b18 b20 b22 K = true) : wpX_fetch post (nI 9, nI pc, nI st, nI fl, nI hd, nI en, nI fp, nI rt, tq_cO, tq_cX, tq_cY, tq_cZ, tq_da va vb vc b5, tq_da va vb vc b6, tq_ba b7, tq_ba b8, tq_ba b9, tq_ba b10, tq_ba b11, tq_ba b12, tq_ba b13, tq_sa b14, tq_da va vb vc b15, tq_sa b16, tq_da va vb vc b17, tq_ba b18, tq_ba b19, tq_ba b20, tq_da va vb vc b21, tq_sa b22) := by
  obtain ⟨hf, h⟩ := tq_in_t h
  refine tq_nf h (tq_a7 (tq_31 hf)) (fun ln hl h => ?_)
  have hl8 : ln < 8 := by rw [hl]; exact tq_mw
  obtain ⟨c, hc, h⟩ := tq_fv h
  have e1 : 3 * nI ln = nI (Nat.mul 3 ln) := by
    rw [show (3 : Int32) = nI 3 from rfl, pk_mul]; rfl
  have hi : Nat.mul 3 ln < 24 := by
    show 3 * ln < 24
    omega
  have hno : tq_f63 hd b5 b7 b21 1 K 9 0 fp en b11 b12 b13 b14 b15 b16 b17 b18 b20 b22 = true → wX_fetch_47 post (nI c) (nI 9) (nI pc) (nI st) (nI fl) (nI hd) (nI en) (nI fp) (nI rt) tq_cO tq_cX tq_cY tq_cZ (tq_da va vb vc b5) (tq_da va vb vc b6) (tq_ba b7) (tq_ba b8) (tq_ba b9) (tq_ba b10) (tq_ba b11) (tq_ba b12) (tq_ba b13) (tq_sa b14) (tq_da va vb vc b15) (tq_sa b16) (tq_da va vb vc b17) (tq_ba b18) (tq_ba b19) (tq_ba b20) (tq_da va vb vc b21) (tq_sa b22) := fun h => br_t rfl ⟨9, tq_f63_s hh hK 9 0 _ _ _ _ _ _ _ _ _ _ _ _ h⟩
  refine ⟨tq_vi hl8, nm_r (e' := nI c) (by rw [tq_bag (tq_31 hl8), hc]) (tq_le_s h (fun _ _ h => hno h) (fun _ _ h => ?_))⟩
  rw [e1]
  refine ⟨tq_vi hi, tq_eq_s h (fun _ h => ?_) (fun _ h => hno h) (tq_bag (tq_31 hi))⟩
  exact ⟨9, tq_agr_s hl8 (fun h => br_t rfl (hno h)) (fun h => br_f (by decide) (br_f (by decide) ⟨9, tq_f63_s hh hK 9 0 _ _ _ _ _ _ _ _ _ _ _ _ h⟩)) 9 0 h⟩
end
section
/-! retire and run -/
theorem tq_plc_s {post : Int32 → St2 → Prop} {va vb vc : Int32} {pc st fl hd en fp rt b5 b6 b7 b8 b9 b10 b11 b12 b13 b14 b15 b16 b17 b18 b19 b20 b21 b22 : Nat} {K : Nat → Nat → Bool} {e : Nat} (he : e < 8) (hK : ∀ r b7, K r b7 = true → post (nI r) (nI 9, nI pc, nI st, nI fl, nI hd, nI en, nI fp, nI rt, tq_cO, tq_cX, tq_cY, tq_cZ, tq_da va vb vc b5, tq_da va vb vc b6, tq_ba b7, tq_ba b8, tq_ba b9, tq_ba b10, tq_ba b11, tq_ba b12, tq_ba b13, tq_sa b14, tq_da va vb vc b15, tq_sa b16, tq_da va vb vc b17, tq_ba b18, tq_ba b19, tq_ba b20, tq_da va vb vc b21, tq_sa b22)) (h : tq_plc b7 b11 b12 b21 e K = true) : wpX_placeAfter post (nI 9, nI pc, nI st, nI fl, nI hd, nI en, nI fp, nI rt, tq_cO, tq_cX, tq_cY, tq_cZ, tq_da va vb vc b5, tq_da va vb vc b6, tq_ba b7, tq_ba b8, tq_ba b9, tq_ba b10, tq_ba b11, tq_ba b12, tq_ba b13, tq_sa b14, tq_da va vb vc b15, tq_sa b16, tq_da va vb vc b17, tq_ba b18, tq_ba b19, tq_ba b20, tq_da va vb vc b21, tq_sa b22) (nI e) := by
  obtain ⟨op, hop, h⟩ := tq_fv h
  obtain ⟨pl, hpl, h⟩ := tq_fv h
  obtain ⟨h24, h⟩ := tq_in_t h
  have hei := tq_31 he
  have hi := tq_31 h24
  have jz : ∀ b7, tq_k7 (tq_gb tq_FZ pl) (fun r => K r b7) = true → post (tq_cZ (nI pl).toNatClampNeg) (nI 9, nI pc, nI st, nI fl, nI hd, nI en, nI fp, nI rt, tq_cO, tq_cX, tq_cY, tq_cZ, tq_da va vb vc b5, tq_da va vb vc b6, tq_ba b7, tq_ba b8, tq_ba b9, tq_ba b10, tq_ba b11, tq_ba b12, tq_ba b13, tq_sa b14, tq_da va vb vc b15, tq_sa b16, tq_da va vb vc b17, tq_ba b18, tq_ba b19, tq_ba b20, tq_da va vb vc b21, tq_sa b22) := fun b7 h => by
    rw [tq_cZg hi, tq_sv_n (tq_k7_t h).1]
    exact hK _ _ (tq_k7_t h).2
  have jn : ∀ b7, tq_fz (Nat.succ pl) (fun r => K r b7) = true → post (nI pl + 1) (nI 9, nI pc, nI st, nI fl, nI hd, nI en, nI fp, nI rt, tq_cO, tq_cX, tq_cY, tq_cZ, tq_da va vb vc b5, tq_da va vb vc b6, tq_ba b7, tq_ba b8, tq_ba b9, tq_ba b10, tq_ba b11, tq_ba b12, tq_ba b13, tq_sa b14, tq_da va vb vc b15, tq_sa b16, tq_da va vb vc b17, tq_ba b18, tq_ba b19, tq_ba b20, tq_da va vb vc b21, tq_sa b22) := fun b7 h => by
    rw [nI_1]
    exact tq_fc h (fun h => hK _ _ h)
  have j1 : ∀ b7, tq_k7 (tq_gb tq_FZ pl) (fun r => K r b7) = true → wX_placeAfter_108 post (nI pl) 1 (nI 9) (nI pc) (nI st) (nI fl) (nI hd) (nI en) (nI fp) (nI rt) tq_cO tq_cX tq_cY tq_cZ (tq_da va vb vc b5) (tq_da va vb vc b6) (tq_ba b7) (tq_ba b8) (tq_ba b9) (tq_ba b10) (tq_ba b11) (tq_ba b12) (tq_ba b13) (tq_sa b14) (tq_da va vb vc b15) (tq_sa b16) (tq_da va vb vc b17) (tq_ba b18) (tq_ba b19) (tq_ba b20) (tq_da va vb vc b21) (tq_sa b22) := fun b7 h => br_f (by decide) (br_f (by decide) ⟨tq_vi h24, jz b7 h⟩)
  have j0 : ∀ b7, tq_fz (Nat.succ pl) (fun r => K r b7) = true → wX_placeAfter_133 post (nI pl) 0 (nI 9) (nI pc) (nI st) (nI fl) (nI hd) (nI en) (nI fp) (nI rt) tq_cO tq_cX tq_cY tq_cZ (tq_da va vb vc b5) (tq_da va vb vc b6) (tq_ba b7) (tq_ba b8) (tq_ba b9) (tq_ba b10) (tq_ba b11) (tq_ba b12) (tq_ba b13) (tq_sa b14) (tq_da va vb vc b15) (tq_sa b16) (tq_da va vb vc b17) (tq_ba b18) (tq_ba b19) (tq_ba b20) (tq_da va vb vc b21) (tq_sa b22) := fun b7 h => br_t rfl (jn b7 h)
  refine ⟨tq_vi he, nm_r (e' := nI op) (by rw [tq_bag hei, hop]) ⟨tq_vi he, nm_r (e' := nI pl) (by rw [tq_bag hei, hpl]) (tq_eq_s h (fun _ h => ⟨tq_vi h24, jz _ h⟩) (fun _ h => tq_eq_s h (fun e7 h => ?_) (fun _ h => tq_eq_s h (fun _ h => absurd h Bool.false_ne_true) (fun _ h => jn _ h))))⟩⟩
  obtain ⟨v, hv, h⟩ := tq_fv h
  obtain ⟨hv2, h⟩ := tq_in_t h
  obtain ⟨c, hc, h⟩ := tq_fv h
  obtain ⟨hc2, h⟩ := tq_in_t h
  rw [e7]
  have ec : tq_ba b7 (nI pl).toNatClampNeg = nI c := by rw [tq_bag hi, hc]
  refine br_t rfl ⟨tq_vi he, tq_eq_s h (fun _ h => br_f (by decide) ⟨tq_vi h24, tq_le_s h (fun _ _ h => j1 _ h) (fun _ _ h => ⟨tq_vi h24, tq_vi h24, nm_r (tq_bau (v := Nat.succ c) ?_ (by omega) hi) (tq_fc h (fun h => j1 _ h))⟩) rfl ec⟩) (fun _ h => br_t rfl (br_t rfl ⟨tq_vi h24, tq_le_s h (fun _ _ h => j0 _ h) (fun l _ h => ⟨tq_vi h24, tq_vi h24, nm_r (tq_bau (v := Nat.pred c) ?_ ?_ hi) (tq_fc h (fun h => j0 _ h))⟩) ec⟩)) ?_⟩
  · rw [ec, nI_1]
    exact tq_i8 (c + 1) (by omega)
  · rw [ec, show (1 : Int32) = nI 1 from rfl, pk_sub (by omega)]
    exact tq_i8 (c - 1) (by omega)
  · show c - 1 < 256
    omega
  · rw [tq_dag hei, ← hv, tq_dv_c hv2]
theorem tq_f42_s {post : St2 → Prop} {va vb vc : Int32} {pc st fl hd en fp rt b5 b6 b7 b8 b10 b11 b12 b13 b14 b15 b16 b17 b18 b19 b20 b21 b22 : Nat} {K : Nat → Bool} {ln : Nat} (hl : ln < 8) (hK : ∀ b9, K b9 = true → post (nI 9, nI pc, nI st, nI 0, nI hd, nI en, nI fp, nI rt, tq_cO, tq_cX, tq_cY, tq_cZ, tq_da va vb vc b5, tq_da va vb vc b6, tq_ba b7, tq_ba (tq_sb b8 ln 3), tq_ba b9, tq_ba b10, tq_ba b11, tq_ba b12, tq_ba b13, tq_sa b14, tq_da va vb vc b15, tq_sa b16, tq_da va vb vc b17, tq_ba b18, tq_ba b19, tq_ba b20, tq_da va vb vc b21, tq_sa b22)) : ∀ n k b9, tq_f42 ln b10 K n k b9 = true → wX_fillTrace_42 post (nI ln) (nI 9) (nI pc) (nI st) (nI fl) (nI hd) (nI en) (nI fp) (nI rt) n (nI k) tq_cO tq_cX tq_cY tq_cZ (tq_da va vb vc b5) (tq_da va vb vc b6) (tq_ba b7) (tq_ba b8) (tq_ba b9) (tq_ba b10) (tq_ba b11) (tq_ba b12) (tq_ba b13) (tq_sa b14) (tq_da va vb vc b15) (tq_sa b16) (tq_da va vb vc b17) (tq_ba b18) (tq_ba b19) (tq_ba b20) (tq_da va vb vc b21) (tq_sa b22) := by
  intro n
  induction n with
  | zero => intro k b9 h; exact absurd h Bool.false_ne_true
  | succ n ih =>
    intro k b9 h
    refine tq_le_s (x := 3) (y := k) h (fun _ _ h => ⟨tq_vi hl, nm_r (tq_bau (v := 3) rfl (by decide) (tq_31 hl)) (hK _ h)⟩) (fun l _ h => ⟨tq_vi l, ?_⟩)
    obtain ⟨v, hv, h⟩ := tq_fv h
    obtain ⟨hv2, h⟩ := tq_in_t h
    have e1 : 3 * nI ln + nI k = nI (Nat.add (Nat.mul 3 ln) k) := by
      rw [show (3 : Int32) = nI 3 from rfl, pk_mul, nI_add]; rfl
    have hi : Nat.add (Nat.mul 3 ln) k < 24 := by
      show 3 * ln + k < 24
      omega
    rw [e1]
    exact ⟨tq_vi hi, nm_r (tq_bau (by rw [tq_bag (tq_31 l), ← hv]; exact tq_nb hv2) (by omega) (tq_31 hi)) (nm_r (nI_1 k) (tq_fc h (fun h => ih _ _ h)))⟩
theorem tq_fil_s {post : St2 → Prop} {va vb vc : Int32} {pc st fl hd en fp rt b5 b6 b7 b8 b9 b10 b11 b12 b13 b14 b15 b16 b17 b18 b19 b20 b21 b22 : Nat} {K : Nat → Nat → Nat → Nat → Bool} {pl : Nat} (hK : ∀ fl b8 b9 b10, K fl b8 b9 b10 = true → post (nI 9, nI pc, nI st, nI fl, nI hd, nI en, nI fp, nI rt, tq_cO, tq_cX, tq_cY, tq_cZ, tq_da va vb vc b5, tq_da va vb vc b6, tq_ba b7, tq_ba b8, tq_ba b9, tq_ba b10, tq_ba b11, tq_ba b12, tq_ba b13, tq_sa b14, tq_da va vb vc b15, tq_sa b16, tq_da va vb vc b17, tq_ba b18, tq_ba b19, tq_ba b20, tq_da va vb vc b21, tq_sa b22)) (h : tq_fil fl b8 b9 b10 pl K = true) : wpX_fillTrace post (nI 9, nI pc, nI st, nI fl, nI hd, nI en, nI fp, nI rt, tq_cO, tq_cX, tq_cY, tq_cZ, tq_da va vb vc b5, tq_da va vb vc b6, tq_ba b7, tq_ba b8, tq_ba b9, tq_ba b10, tq_ba b11, tq_ba b12, tq_ba b13, tq_sa b14, tq_da va vb vc b15, tq_sa b16, tq_da va vb vc b17, tq_ba b18, tq_ba b19, tq_ba b20, tq_da va vb vc b21, tq_sa b22) (nI pl) := by
  obtain ⟨hf, h⟩ := tq_in_t h
  obtain ⟨hp, h⟩ := tq_in_t h
  have h2 := tq_fz_t h
  refine ⟨tq_vi hf, nm_r (tq_bau (tq_i8 pl hp) (by omega) (tq_31 hf)) (nm_r (nI_1 fl) (tq_le_s h2 (fun _ _ h => ?_) (fun _ _ h => tq_fc h (fun h => hK _ _ _ _ h))))⟩
  refine tq_nf h (tq_a7 (Nat.lt_trans (tq_gb_lt _ _) (by decide))) (fun ln hl h => ?_)
  have hl8 : ln < 8 := by rw [hl]; exact tq_mw
  refine ⟨5, tq_f42_s hl8 ?_ 5 0 _ h⟩
  exact fun b9 h => tq_fc h (fun h => hK _ _ _ _ h)
theorem tq_r148_s {post : St2 → Prop} {va vb vc : Int32} {pc st fl hd en fp rt b5 b6 b7 b8 b9 b10 b11 b12 b13 b14 b15 b16 b17 b18 b19 b20 b21 b22 : Nat} {K : Nat → Nat → Nat → Nat → Nat → Nat → Nat → Nat → Nat → Nat → Nat → Nat → Nat → Nat → Nat → Nat → Nat → Nat → Nat → Nat → Nat → Nat → Nat → Nat → Nat → Bool} {e pl : Nat} (he : e < 8) (hK : ∀ pc st fl hd en fp rt b5 b6 b7 b8 b9 b10 b11 b12 b13 b14 b15 b16 b17 b18 b19 b20 b21 b22, K pc st fl hd en fp rt b5 b6 b7 b8 b9 b10 b11 b12 b13 b14 b15 b16 b17 b18 b19 b20 b21 b22 = true → post (nI 9, nI pc, nI st, nI fl, nI hd, nI en, nI fp, nI rt, tq_cO, tq_cX, tq_cY, tq_cZ, tq_da va vb vc b5, tq_da va vb vc b6, tq_ba b7, tq_ba b8, tq_ba b9, tq_ba b10, tq_ba b11, tq_ba b12, tq_ba b13, tq_sa b14, tq_da va vb vc b15, tq_sa b16, tq_da va vb vc b17, tq_ba b18, tq_ba b19, tq_ba b20, tq_da va vb vc b21, tq_sa b22)) (h : tq_r148 e pl pc st fl hd en fp rt b5 b6 b7 b8 b9 b10 b11 b12 b13 b14 b15 b16 b17 b18 b19 b20 b21 b22 K = true) : wX_retire_148 post (nI e) (nI pl) (nI 9) (nI pc) (nI st) (nI fl) (nI hd) (nI en) (nI fp) (nI rt) tq_cO tq_cX tq_cY tq_cZ (tq_da va vb vc b5) (tq_da va vb vc b6) (tq_ba b7) (tq_ba b8) (tq_ba b9) (tq_ba b10) (tq_ba b11) (tq_ba b12) (tq_ba b13) (tq_sa b14) (tq_da va vb vc b15) (tq_sa b16) (tq_da va vb vc b17) (tq_ba b18) (tq_ba b19) (tq_ba b20) (tq_da va vb vc b21) (tq_sa b22) :=
  tq_plc_s he (fun r b7 h => tq_fil_s (fun fl b8 b9 b10 h => ⟨tq_vi he, tq_eq_s h (fun _ h => hK _ _ _ _ _ _ _ _ _ _ _ _ _ _ _ _ _ _ _ _ _ _ _ _ _ h) (fun _ h => tq_squash_s (fun b22 h => hK _ _ _ _ _ _ _ _ _ _ _ _ _ _ _ _ _ _ _ _ _ _ _ _ _ h) h) rfl (tq_bag (tq_31 he))⟩) h) h
theorem tq_r125_s {post : St2 → Prop} {va vb vc : Int32} {pc st fl hd en fp rt b5 b6 b7 b8 b9 b10 b11 b12 b13 b14 b15 b16 b17 b18 b19 b20 b21 b22 : Nat} {K : Nat → Nat → Nat → Nat → Nat → Nat → Nat → Nat → Nat → Nat → Nat → Nat → Nat → Nat → Nat → Nat → Nat → Nat → Nat → Nat → Nat → Nat → Nat → Nat → Nat → Bool} {e op pl : Nat} (he : e < 8) (hK : ∀ pc st fl hd en fp rt b5 b6 b7 b8 b9 b10 b11 b12 b13 b14 b15 b16 b17 b18 b19 b20 b21 b22, K pc st fl hd en fp rt b5 b6 b7 b8 b9 b10 b11 b12 b13 b14 b15 b16 b17 b18 b19 b20 b21 b22 = true → post (nI 9, nI pc, nI st, nI fl, nI hd, nI en, nI fp, nI rt, tq_cO, tq_cX, tq_cY, tq_cZ, tq_da va vb vc b5, tq_da va vb vc b6, tq_ba b7, tq_ba b8, tq_ba b9, tq_ba b10, tq_ba b11, tq_ba b12, tq_ba b13, tq_sa b14, tq_da va vb vc b15, tq_sa b16, tq_da va vb vc b17, tq_ba b18, tq_ba b19, tq_ba b20, tq_da va vb vc b21, tq_sa b22)) (h : tq_r125 e op pl pc st fl hd en fp rt b5 b6 b7 b8 b9 b10 b11 b12 b13 b14 b15 b16 b17 b18 b19 b20 b21 b22 K = true) : wX_retire_125 post (nI e) (nI op) (nI pl) (nI 9) (nI pc) (nI st) (nI fl) (nI hd) (nI en) (nI fp) (nI rt) tq_cO tq_cX tq_cY tq_cZ (tq_da va vb vc b5) (tq_da va vb vc b6) (tq_ba b7) (tq_ba b8) (tq_ba b9) (tq_ba b10) (tq_ba b11) (tq_ba b12) (tq_ba b13) (tq_sa b14) (tq_da va vb vc b15) (tq_sa b16) (tq_da va vb vc b17) (tq_ba b18) (tq_ba b19) (tq_ba b20) (tq_da va vb vc b21) (tq_sa b22) := by
  refine tq_eq_s h (fun _ h => ⟨tq_vi he, tq_vi he, ?_⟩) (fun _ h => tq_r148_s he hK h)
  obtain ⟨ad, had, h⟩ := tq_fv h
  obtain ⟨h16, h⟩ := tq_in_t h
  have e1 : tq_ba b19 (nI e).toNatClampNeg = nI ad := by rw [tq_bag (tq_31 he), had]
  rw [e1]
  exact ⟨tq_vi h16, nm_r (tq_dau (tq_dag (tq_31 he)) (tq_gd_lt _ _) (tq_31 h16)) (tq_fc h (fun h => tq_r148_s he hK h))⟩
theorem tq_ret_s {post : St2 → Prop} {va vb vc : Int32} {pc st fl hd en fp rt b5 b6 b7 b8 b9 b10 b11 b12 b13 b14 b15 b16 b17 b18 b19 b20 b21 b22 : Nat} {K : Nat → Nat → Nat → Nat → Nat → Nat → Nat → Nat → Nat → Nat → Nat → Nat → Nat → Nat → Nat → Nat → Nat → Nat → Nat → Nat → Nat → Nat → Nat → Nat → Nat → Bool} (hK : ∀ pc st fl hd en fp rt b5 b6 b7 b8 b9 b10 b11 b12 b13 b14 b15 b16 b17 b18 b19 b20 b21 b22, K pc st fl hd en fp rt b5 b6 b7 b8 b9 b10 b11 b12 b13 b14 b15 b16 b17 b18 b19 b20 b21 b22 = true → post (nI 9, nI pc, nI st, nI fl, nI hd, nI en, nI fp, nI rt, tq_cO, tq_cX, tq_cY, tq_cZ, tq_da va vb vc b5, tq_da va vb vc b6, tq_ba b7, tq_ba b8, tq_ba b9, tq_ba b10, tq_ba b11, tq_ba b12, tq_ba b13, tq_sa b14, tq_da va vb vc b15, tq_sa b16, tq_da va vb vc b17, tq_ba b18, tq_ba b19, tq_ba b20, tq_da va vb vc b21, tq_sa b22)) (h : tq_ret pc st fl hd en fp rt b5 b6 b7 b8 b9 b10 b11 b12 b13 b14 b15 b16 b17 b18 b19 b20 b21 b22 K = true) : wpX_retire post (nI 9, nI pc, nI st, nI fl, nI hd, nI en, nI fp, nI rt, tq_cO, tq_cX, tq_cY, tq_cZ, tq_da va vb vc b5, tq_da va vb vc b6, tq_ba b7, tq_ba b8, tq_ba b9, tq_ba b10, tq_ba b11, tq_ba b12, tq_ba b13, tq_sa b14, tq_da va vb vc b15, tq_sa b16, tq_da va vb vc b17, tq_ba b18, tq_ba b19, tq_ba b20, tq_da va vb vc b21, tq_sa b22) := by
  obtain ⟨hh, h⟩ := tq_in_t h
  obtain ⟨op, hop, h⟩ := tq_fv h
  obtain ⟨pl, hpl, h⟩ := tq_fv h
  have hi := tq_31 hh
  refine ⟨tq_vi hh, nm_r (e' := nI op) (by rw [tq_bag hi, hop]) ⟨tq_vi hh, nm_r (e' := nI pl) (by rw [tq_bag hi, hpl]) (tq_eq_s h (fun _ h => absurd h Bool.false_ne_true) (fun _ h => ?_))⟩⟩
  obtain ⟨he, h⟩ := tq_in_t h
  refine tq_nf h (nI_1 rt) (fun rt2 _ h => tq_nf h (by rw [nI_1]; exact tq_a7 (by omega)) (fun h2 _ h => tq_nf h (by rw [show (1 : Int32) = nI 1 from rfl, pk_sub (by omega)]; rfl) (fun en2 _ h => ?_)))
  refine tq_eq_s h (fun _ h => hK _ _ _ _ _ _ _ _ _ _ _ _ _ _ _ _ _ _ _ _ _ _ _ _ _ h) (fun _ h => tq_lt_s h (fun _ _ h => tq_r125_s hh hK h) (fun _ _ h => ?_))
  obtain ⟨h24, h⟩ := tq_in_t h
  obtain ⟨r, hr, h⟩ := tq_fv h
  obtain ⟨r8, h⟩ := tq_in_t h
  have e2 : tq_cX (nI pl).toNatClampNeg = nI r := by rw [tq_cXg (tq_31 h24), hr]
  rw [e2]
  exact ⟨tq_vi h24, tq_vi hh, tq_vi r8, nm_r (tq_dau (tq_dag hi) (tq_gd_lt _ _) (tq_31 r8)) ⟨tq_vi h24, tq_vi r8, tq_eqs_s (tq_fz_t h) (fun _ _ h => ⟨tq_vi h24, tq_vi r8, nm_r (tq_sau (v := 255) rfl (by decide) (tq_31 r8)) (tq_fc h (fun h => tq_r125_s hh hK h))⟩) (fun _ h => tq_r125_s hh hK h) (tq_sag (tq_31 r8))⟩⟩
end
section
theorem tq_r110_s {post : Int32 → St2 → Prop} {J : Int32 → Int32 → Int32 → Int32 → Int32 → Int32 → Int32 → Int32 → Int32 → Int32 → (Nat → Int32) → (Nat → Int32) → (Nat → Int32) → (Nat → Int32) → (Nat → Int32) → (Nat → Int32) → (Nat → Int32) → (Nat → Int32) → (Nat → Int32) → (Nat → Int32) → (Nat → Int32) → (Nat → Int32) → (Nat → Int32) → (Nat → Int32) → (Nat → Int32) → (Nat → Int32) → (Nat → Int32) → (Nat → Int32) → (Nat → Int32) → (Nat → Int32) → (Nat → Int32) → (Nat → Int32) → Prop} {Jb : Nat → Nat → Nat → Nat → Nat → Nat → Nat → Nat → Nat → Nat → Nat → Nat → Nat → Nat → Nat → Nat → Nat → Nat → Nat → Nat → Nat → Nat → Nat → Nat → Nat → Nat → Nat → Bool} {va vb vc x2 : Int32} {x3 x4 : Nat} {pc st fl hd en fp rt b5 b6 b7 b8 b9 b10 b11 b12 b13 b14 b15 b16 b17 b18 b19 b20 b21 b22 : Nat} (hJ : ∀ x3 x4 pc st fl hd en fp rt b5 b6 b7 b8 b9 b10 b11 b12 b13 b14 b15 b16 b17 b18 b19 b20 b21 b22, Jb x3 x4 pc st fl hd en fp rt b5 b6 b7 b8 b9 b10 b11 b12 b13 b14 b15 b16 b17 b18 b19 b20 b21 b22 = true → J (nI x3) (nI x4) (nI 9) (nI pc) (nI st) (nI fl) (nI hd) (nI en) (nI fp) (nI rt) tq_cO tq_cX tq_cY tq_cZ (tq_da va vb vc b5) (tq_da va vb vc b6) (tq_ba b7) (tq_ba b8) (tq_ba b9) (tq_ba b10) (tq_ba b11) (tq_ba b12) (tq_ba b13) (tq_sa b14) (tq_da va vb vc b15) (tq_sa b16) (tq_da va vb vc b17) (tq_ba b18) (tq_ba b19) (tq_ba b20) (tq_da va vb vc b21) (tq_sa b22)) (h : tq_r110 Jb x3 x4 pc st fl hd en fp rt b5 b6 b7 b8 b9 b10 b11 b12 b13 b14 b15 b16 b17 b18 b19 b20 b21 b22 = true) : wX_run_110 post J x2 (nI x3) (nI x4) (nI 9) (nI pc) (nI st) (nI fl) (nI hd) (nI en) (nI fp) (nI rt) tq_cO tq_cX tq_cY tq_cZ (tq_da va vb vc b5) (tq_da va vb vc b6) (tq_ba b7) (tq_ba b8) (tq_ba b9) (tq_ba b10) (tq_ba b11) (tq_ba b12) (tq_ba b13) (tq_sa b14) (tq_da va vb vc b15) (tq_sa b16) (tq_da va vb vc b17) (tq_ba b18) (tq_ba b19) (tq_ba b20) (tq_da va vb vc b21) (tq_sa b22) := by
  obtain ⟨hh, h⟩ := tq_in_t h
  refine tq_executeSome_s hh ?_ h
  intro b14 b15 b16 b17 b18 b19 b20 b21 h
  refine tq_fetch_s hh ?_ h
  intro fp en b11 b12 b13 b14 b15 b16 b17 b18 b20 b22 h
  have h3 := tq_fz_t h
  exact nm_r (nI_1 x4) (hJ x3 (Nat.succ x4) _ _ _ _ _ _ _ _ _ _ _ _ _ _ _ _ _ _ _ _ _ _ _ _ _ h3)
theorem tq_wn_s {lo hi w x3 : Nat} {A B : Bool} {P Q : Prop} (h1 : lo ≤ w) (h2 : w ≤ hi) (h : tq_wn lo hi x3 A B = true) (f : A = true → P) (g : B = true → Q) : (nI w ≤ nI x3 → P) ∧ (¬ nI w ≤ nI x3 → Q) := by
  obtain ⟨h3, h⟩ := tq_in_t h
  obtain ⟨h4, h⟩ := tq_in_t h
  rcases tq_qi_t h with ⟨h5, h6⟩ | ⟨h5, h6⟩
  · have h7 := tq_ble h5
    exact br_t (nI_le (by omega) (by omega)) (f h6)
  · rcases tq_qi_t h6 with ⟨h7, h8⟩ | ⟨h7, h8⟩
    · exact ⟨fun _ => f (tq_qi_f h8).1, fun _ => g (tq_qi_f h8).2⟩
    · have h9 := tq_nble h7
      exact br_f (nI_ge (by omega) (by omega)) (g h8)
theorem tq_r60_s {post : Int32 → St2 → Prop} {J : Int32 → Int32 → Int32 → Int32 → Int32 → Int32 → Int32 → Int32 → Int32 → Int32 → (Nat → Int32) → (Nat → Int32) → (Nat → Int32) → (Nat → Int32) → (Nat → Int32) → (Nat → Int32) → (Nat → Int32) → (Nat → Int32) → (Nat → Int32) → (Nat → Int32) → (Nat → Int32) → (Nat → Int32) → (Nat → Int32) → (Nat → Int32) → (Nat → Int32) → (Nat → Int32) → (Nat → Int32) → (Nat → Int32) → (Nat → Int32) → (Nat → Int32) → (Nat → Int32) → (Nat → Int32) → Prop} {Jb : Nat → Nat → Nat → Nat → Nat → Nat → Nat → Nat → Nat → Nat → Nat → Nat → Nat → Nat → Nat → Nat → Nat → Nat → Nat → Nat → Nat → Nat → Nat → Nat → Nat → Nat → Nat → Bool} {va vb vc : Int32} {lo hi w x4 : Nat} (h1 : lo ≤ w) (h2 : w ≤ hi) (hJ : ∀ x3 x4 pc st fl hd en fp rt b5 b6 b7 b8 b9 b10 b11 b12 b13 b14 b15 b16 b17 b18 b19 b20 b21 b22, Jb x3 x4 pc st fl hd en fp rt b5 b6 b7 b8 b9 b10 b11 b12 b13 b14 b15 b16 b17 b18 b19 b20 b21 b22 = true → J (nI x3) (nI x4) (nI 9) (nI pc) (nI st) (nI fl) (nI hd) (nI en) (nI fp) (nI rt) tq_cO tq_cX tq_cY tq_cZ (tq_da va vb vc b5) (tq_da va vb vc b6) (tq_ba b7) (tq_ba b8) (tq_ba b9) (tq_ba b10) (tq_ba b11) (tq_ba b12) (tq_ba b13) (tq_sa b14) (tq_da va vb vc b15) (tq_sa b16) (tq_da va vb vc b17) (tq_ba b18) (tq_ba b19) (tq_ba b20) (tq_da va vb vc b21) (tq_sa b22)) : ∀ n x3 x5 pc st fl hd en fp rt b5 b6 b7 b8 b9 b10 b11 b12 b13 b14 b15 b16 b17 b18 b19 b20 b21 b22, tq_r60 lo hi Jb x4 n x3 x5 pc st fl hd en fp rt b5 b6 b7 b8 b9 b10 b11 b12 b13 b14 b15 b16 b17 b18 b19 b20 b21 b22 = true → wX_run_60 post J (nI w) (nI x4) n (nI x3) (nI x5) (nI 9) (nI pc) (nI st) (nI fl) (nI hd) (nI en) (nI fp) (nI rt) tq_cO tq_cX tq_cY tq_cZ (tq_da va vb vc b5) (tq_da va vb vc b6) (tq_ba b7) (tq_ba b8) (tq_ba b9) (tq_ba b10) (tq_ba b11) (tq_ba b12) (tq_ba b13) (tq_sa b14) (tq_da va vb vc b15) (tq_sa b16) (tq_da va vb vc b17) (tq_ba b18) (tq_ba b19) (tq_ba b20) (tq_da va vb vc b21) (tq_sa b22) := by
  intro n
  induction n with
  | zero => intro x3 x5 pc st fl hd en fp rt b5 b6 b7 b8 b9 b10 b11 b12 b13 b14 b15 b16 b17 b18 b19 b20 b21 b22 h; exact absurd h Bool.false_ne_true
  | succ n ih =>
    intro x3 x5 pc st fl hd en fp rt b5 b6 b7 b8 b9 b10 b11 b12 b13 b14 b15 b16 b17 b18 b19 b20 b21 b22 h
    refine tq_le_s (x := 2) (y := x5) h (fun _ _ h => tq_r110_s hJ h) (fun _ _ h => tq_wn_s h1 h2 h (fun h => tq_r110_s hJ h) (fun h => tq_eq_s h (fun _ h => tq_le_s h (fun _ _ h => nm_r (nI_1 x5) (ih _ _ _ _ _ _ _ _ _ _ _ _ _ _ _ _ _ _ _ _ _ _ _ _ _ _ _ h)) (fun _ _ h => ?_)) (fun _ h => tq_r110_s hJ h)))
    obtain ⟨hh, h⟩ := tq_in_t h
    refine ⟨tq_vi hh, tq_eq_s h (fun _ h => nm_r (nI_1 x5) (ih _ _ _ _ _ _ _ _ _ _ _ _ _ _ _ _ _ _ _ _ _ _ _ _ _ _ _ h)) (fun _ h => tq_ret_s ?_ h) (tq_bag (tq_31 hh))⟩
    intro pc st fl hd en fp rt b5 b6 b7 b8 b9 b10 b11 b12 b13 b14 b15 b16 b17 b18 b19 b20 b21 b22 h
    have h3 := tq_fz_t h
    exact nm_r (nI_1 x3) (nm_r (nI_1 x5) (ih (Nat.succ x3) (Nat.succ x5) _ _ _ _ _ _ _ _ _ _ _ _ _ _ _ _ _ _ _ _ _ _ _ _ _ h3))
theorem tq_r37_s {post : Int32 → St2 → Prop} {K : Nat → Nat → Nat → Nat → Nat → Nat → Nat → Nat → Nat → Nat → Nat → Nat → Nat → Nat → Nat → Nat → Nat → Nat → Nat → Nat → Nat → Nat → Nat → Nat → Nat → Bool} {va vb vc : Int32} {lo hi w : Nat} (h1 : lo ≤ w) (h2 : w ≤ hi) (hK : ∀ pc st fl hd en fp rt b5 b6 b7 b8 b9 b10 b11 b12 b13 b14 b15 b16 b17 b18 b19 b20 b21 b22, K pc st fl hd en fp rt b5 b6 b7 b8 b9 b10 b11 b12 b13 b14 b15 b16 b17 b18 b19 b20 b21 b22 = true → post (nI rt) (nI 9, nI pc, nI st, nI fl, nI hd, nI en, nI fp, nI rt, tq_cO, tq_cX, tq_cY, tq_cZ, tq_da va vb vc b5, tq_da va vb vc b6, tq_ba b7, tq_ba b8, tq_ba b9, tq_ba b10, tq_ba b11, tq_ba b12, tq_ba b13, tq_sa b14, tq_da va vb vc b15, tq_sa b16, tq_da va vb vc b17, tq_ba b18, tq_ba b19, tq_ba b20, tq_da va vb vc b21, tq_sa b22)) : ∀ n x3 x4 pc st fl hd en fp rt b5 b6 b7 b8 b9 b10 b11 b12 b13 b14 b15 b16 b17 b18 b19 b20 b21 b22, tq_r37 lo hi K n x3 x4 pc st fl hd en fp rt b5 b6 b7 b8 b9 b10 b11 b12 b13 b14 b15 b16 b17 b18 b19 b20 b21 b22 = true → wX_run_37 post (nI w) n (nI x3) (nI x4) (nI 9) (nI pc) (nI st) (nI fl) (nI hd) (nI en) (nI fp) (nI rt) tq_cO tq_cX tq_cY tq_cZ (tq_da va vb vc b5) (tq_da va vb vc b6) (tq_ba b7) (tq_ba b8) (tq_ba b9) (tq_ba b10) (tq_ba b11) (tq_ba b12) (tq_ba b13) (tq_sa b14) (tq_da va vb vc b15) (tq_sa b16) (tq_da va vb vc b17) (tq_ba b18) (tq_ba b19) (tq_ba b20) (tq_da va vb vc b21) (tq_sa b22) := by
  intro n
  induction n with
  | zero => intro x3 x4 pc st fl hd en fp rt b5 b6 b7 b8 b9 b10 b11 b12 b13 b14 b15 b16 b17 b18 b19 b20 b21 b22 h; exact absurd h Bool.false_ne_true
  | succ n ih =>
    intro x3 x4 pc st fl hd en fp rt b5 b6 b7 b8 b9 b10 b11 b12 b13 b14 b15 b16 b17 b18 b19 b20 b21 b22 h
    exact tq_le_s (x := 2000) (y := x4) h (fun _ _ h => hK _ _ _ _ _ _ _ _ _ _ _ _ _ _ _ _ _ _ _ _ _ _ _ _ _ h) (fun _ _ h => tq_wn_s h1 h2 h (fun h => hK _ _ _ _ _ _ _ _ _ _ _ _ _ _ _ _ _ _ _ _ _ _ _ _ _ h) (fun h => tq_eq_s h (fun _ h => ⟨4, tq_r60_s h1 h2 ih 4 _ 0 _ _ _ _ _ _ _ _ _ _ _ _ _ _ _ _ _ _ _ _ _ _ _ _ _ h⟩) (fun _ h => hK _ _ _ _ _ _ _ _ _ _ _ _ _ _ _ _ _ _ _ _ _ _ _ _ _ h)))
theorem tq_r22_s {post : Int32 → St2 → Prop} {K : Nat → Nat → Nat → Nat → Nat → Nat → Nat → Nat → Nat → Nat → Nat → Nat → Nat → Nat → Nat → Nat → Nat → Nat → Nat → Nat → Nat → Nat → Nat → Nat → Nat → Bool} {va vb vc : Int32} {lo hi w : Nat} {pc st fl hd en fp rt b5 b6 b7 b8 b9 b10 b11 b12 b13 b14 b15 b16 b17 b18 b19 b20 b21 b22 : Nat} (h1 : lo ≤ w) (h2 : w ≤ hi) (hK : ∀ pc st fl hd en fp rt b5 b6 b7 b8 b9 b10 b11 b12 b13 b14 b15 b16 b17 b18 b19 b20 b21 b22, K pc st fl hd en fp rt b5 b6 b7 b8 b9 b10 b11 b12 b13 b14 b15 b16 b17 b18 b19 b20 b21 b22 = true → post (nI rt) (nI 9, nI pc, nI st, nI fl, nI hd, nI en, nI fp, nI rt, tq_cO, tq_cX, tq_cY, tq_cZ, tq_da va vb vc b5, tq_da va vb vc b6, tq_ba b7, tq_ba b8, tq_ba b9, tq_ba b10, tq_ba b11, tq_ba b12, tq_ba b13, tq_sa b14, tq_da va vb vc b15, tq_sa b16, tq_da va vb vc b17, tq_ba b18, tq_ba b19, tq_ba b20, tq_da va vb vc b21, tq_sa b22)) (h : tq_r22 lo hi pc st fl hd en fp rt b5 b6 b7 b8 b9 b10 b11 b12 b13 b14 b15 b16 b17 b18 b19 b20 b21 b22 K = true) : wX_run_22 post (nI w) (nI 9) (nI pc) (nI st) (nI fl) (nI hd) (nI en) (nI fp) (nI rt) tq_cO tq_cX tq_cY tq_cZ (tq_da va vb vc b5) (tq_da va vb vc b6) (tq_ba b7) (tq_ba b8) (tq_ba b9) (tq_ba b10) (tq_ba b11) (tq_ba b12) (tq_ba b13) (tq_sa b14) (tq_da va vb vc b15) (tq_sa b16) (tq_da va vb vc b17) (tq_ba b18) (tq_ba b19) (tq_ba b20) (tq_da va vb vc b21) (tq_sa b22) := by
  refine tq_squash_s (rt := 0) ?_ h
  intro b22 h
  exact ⟨2001, tq_r37_s h1 h2 hK 2001 0 0 _ _ _ _ _ _ _ _ _ _ _ _ _ _ _ _ _ _ _ _ _ _ _ _ _ h⟩
end
section
/-! the law behind the first run -/
theorem tq_bq_t {x y : Nat} {A : Bool} (h : tq_bq x y A = true) : x = y ∧ A = true :=
  ⟨Nat.eq_of_beq_eq_true (tq_qi_f h).1, (tq_qi_f h).2⟩
theorem tq_at_s {post : Int32 → Prop} {va vb vc : Int32} {K : Nat → Bool} {i : Nat} (hK : ∀ f, K f = true → post (tq_dv va vb vc f)) (h : tq_at i K = true) : wpL_at post () (nI i) va vb vc :=
  tq_eq_s h (fun _ h => ek_v (P := post) tq_dv_a.symm (hK _ h)) (fun _ h => tq_eq_s h (fun _ h => ek_v (P := post) tq_dv_b.symm (hK _ h)) (fun _ h => tq_eq_s h (fun _ h => ek_v (P := post) tq_dv_d.symm (hK _ h)) (fun _ h => ek_v (P := post) tq_dv_0.symm (hK _ h))))
theorem tq_mem_s {post : Int32 → Prop} {va vb vc : Int32} {pc st fl hd en fp rt b5 b6 b7 b8 b9 b10 b11 b12 b13 b14 b15 b16 b17 b18 b19 b20 b21 b22 : Nat} {r : Nat} (hr : r < 16) (h : post (tq_dv va vb vc (tq_gd b6 r))) : wpX_memory post (nI 9, nI pc, nI st, nI fl, nI hd, nI en, nI fp, nI rt, tq_cO, tq_cX, tq_cY, tq_cZ, tq_da va vb vc b5, tq_da va vb vc b6, tq_ba b7, tq_ba b8, tq_ba b9, tq_ba b10, tq_ba b11, tq_ba b12, tq_ba b13, tq_sa b14, tq_da va vb vc b15, tq_sa b16, tq_da va vb vc b17, tq_ba b18, tq_ba b19, tq_ba b20, tq_da va vb vc b21, tq_sa b22) (nI r) :=
  br_f (nI_pos (tq_31 hr)) (br_t (nI_le (b := 15) (by omega) (by decide)) ⟨tq_vi hr, ek_v (P := post) (tq_dag (tq_31 hr)) h⟩)
theorem tq_reg_s {post : Int32 → Prop} {va vb vc : Int32} {pc st fl hd en fp rt b5 b6 b7 b8 b9 b10 b11 b12 b13 b14 b15 b16 b17 b18 b19 b20 b21 b22 : Nat} {r : Nat} (hr : r < 8) (h : post (tq_dv va vb vc (tq_gd b5 r))) : wpX_register post (nI 9, nI pc, nI st, nI fl, nI hd, nI en, nI fp, nI rt, tq_cO, tq_cX, tq_cY, tq_cZ, tq_da va vb vc b5, tq_da va vb vc b6, tq_ba b7, tq_ba b8, tq_ba b9, tq_ba b10, tq_ba b11, tq_ba b12, tq_ba b13, tq_sa b14, tq_da va vb vc b15, tq_sa b16, tq_da va vb vc b17, tq_ba b18, tq_ba b19, tq_ba b20, tq_da va vb vc b21, tq_sa b22) (nI r) :=
  br_f (nI_pos (tq_31 hr)) (br_f (nI_nlt (a := 7) (by omega) (by decide)) (br_f (by decide) ⟨tq_vi hr, ek_v (P := post) (tq_dag (tq_31 hr)) h⟩))
theorem tq_409_s {post : Int32 → St0 → Prop} {va vb vc : Int32} {pc st fl hd en fp rt b5 b6 b7 b8 b9 b10 b11 b12 b13 b14 b15 b16 b17 b18 b19 b20 b21 b22 : Nat} {mc ms kc ks sr k : Nat} (hp : post 1 ()) (hk : k < 256) : ∀ n x i, tq_l409 sr k (fun x => tq_end k x pc b5 b6) n x i = true → wL_lawOf_409 post mc ms va vb vc (nI k) (nI sr) kc ks (nI 9) (nI pc) (nI st) (nI fl) (nI hd) (nI en) (nI fp) (nI rt) tq_cO tq_cX tq_cY tq_cZ (tq_da va vb vc b5) (tq_da va vb vc b6) (tq_ba b7) (tq_ba b8) (tq_ba b9) (tq_ba b10) (tq_ba b11) (tq_ba b12) (tq_ba b13) (tq_sa b14) (tq_da va vb vc b15) (tq_sa b16) (tq_da va vb vc b17) (tq_ba b18) (tq_ba b19) (tq_ba b20) (tq_da va vb vc b21) (tq_sa b22) n (tq_dv va vb vc x) (nI i) := by
  intro n
  induction n with
  | zero => intro x i h; exact absurd h Bool.false_ne_true
  | succ n ih =>
    intro x i h
    refine tq_le_s (x := 8) (y := i) h (fun _ _ h => ?_) (fun _ _ h => tq_lt_s h (fun _ _ h => nm_r (nI_1 i) (ih _ _ h)) (fun _ _ h => tq_le_s h (fun _ _ h => nm_r (nI_1 i) (ih _ _ h)) (fun _ _ h => tq_at_s (fun f h => ?_) h)))
    · obtain ⟨e1, h⟩ := tq_bq_t h
      obtain ⟨e2, h⟩ := tq_bq_t h
      obtain ⟨e3, h⟩ := tq_bq_t h
      obtain ⟨e4, h⟩ := tq_bq_t h
      exact tq_mem_s (r := 15) (by decide) (br_t (by rw [e1]) (tq_reg_s (r := 0) (by decide) (br_t (by rw [e2]; exact tq_dv_0) (tq_reg_s (r := 1) (by decide) (br_t (by rw [e3]; exact tq_dv_c hk) (br_t (by rw [e4]; rfl) hp))))))
    · obtain ⟨v, hv, hs, h⟩ := tq_add_t (va := va) (vb := vb) (vc := vc) h
      exact nm_r hs (nm_r (nI_1 i) (ih _ _ h))
theorem tq_run_c {post : Int32 → St2 → Prop} {va vb vc : Int32} {pc st fl hd en fp rt b5 b6 b7 b8 b9 b10 b11 b12 b13 b14 b15 b16 b17 b18 b19 b20 b21 b22 : Nat} {w : Nat} (hw : w ≤ 150) (h : wX_run_22 post (nI w) (nI 9) (nI pc) (nI st) (nI fl) (nI hd) (nI en) (nI fp) (nI rt) tq_cO tq_cX tq_cY tq_cZ (tq_da va vb vc b5) (tq_da va vb vc b6) (tq_ba b7) (tq_ba b8) (tq_ba b9) (tq_ba b10) (tq_ba b11) (tq_ba b12) (tq_ba b13) (tq_sa b14) (tq_da va vb vc b15) (tq_sa b16) (tq_da va vb vc b17) (tq_ba b18) (tq_ba b19) (tq_ba b20) (tq_da va vb vc b21) (tq_sa b22)) : wpX_run post (nI 9, nI pc, nI st, nI fl, nI hd, nI en, nI fp, nI rt, tq_cO, tq_cX, tq_cY, tq_cZ, tq_da va vb vc b5, tq_da va vb vc b6, tq_ba b7, tq_ba b8, tq_ba b9, tq_ba b10, tq_ba b11, tq_ba b12, tq_ba b13, tq_sa b14, tq_da va vb vc b15, tq_sa b16, tq_da va vb vc b17, tq_ba b18, tq_ba b19, tq_ba b20, tq_da va vb vc b21, tq_sa b22) (nI w) :=
  br_t (nI_pos' (by omega)) (br_t (nI_le (b := 150) hw (by decide)) h)
theorem tq_365_s {post : Int32 → St0 → Prop} {va vb vc : Int32} {pc st fl hd en fp rt b5 b6 b7 b8 b9 b10 b11 b12 b13 b14 b15 b16 b17 b18 b19 b20 b21 b22 : Nat} {mc ms kc ks sr k dn x : Nat} {x8 x9 z0 z1 : Int32} (hp : post 1 ()) (hk : k < 256) (h89 : x8 - x9 = nI (Nat.sub (Nat.mul 8 k) dn)) (hz : z1 = z0) (h : tq_l365 k dn sr x pc st fl hd en fp rt b5 b6 b7 b8 b9 b10 b11 b12 b13 b14 b15 b16 b17 b18 b19 b20 b21 b22 = true) : wL_lawOf_365 post mc ms va vb vc (nI k) x8 x9 (nI sr) (tq_dv va vb vc x) z0 z1 kc ks (nI 9) (nI pc) (nI st) (nI fl) (nI hd) (nI en) (nI fp) (nI rt) tq_cO tq_cX tq_cY tq_cZ (tq_da va vb vc b5) (tq_da va vb vc b6) (tq_ba b7) (tq_ba b8) (tq_ba b9) (tq_ba b10) (tq_ba b11) (tq_ba b12) (tq_ba b13) (tq_sa b14) (tq_da va vb vc b15) (tq_sa b16) (tq_da va vb vc b17) (tq_ba b18) (tq_ba b19) (tq_ba b20) (tq_da va vb vc b21) (tq_sa b22) := by
  refine br_t hz (tq_run_c (w := 150) (by decide) (tq_r22_s (Nat.le_refl _) (Nat.le_refl _) (fun pc st fl hd en fp rt b5 b6 b7 b8 b9 b10 b11 b12 b13 b14 b15 b16 b17 b18 b19 b20 b21 b22 h => ?_) h))
  obtain ⟨e1, h⟩ := tq_bq_t h
  obtain ⟨e2, h⟩ := tq_bq_t h
  refine br_t (by rw [e1, h89]) (br_t (by rw [e2]; rfl) (tq_run_c (w := 5) (by decide) (tq_r22_s (Nat.le_refl _) (Nat.le_refl _) (fun pc st fl hd en fp rt b5 b6 b7 b8 b9 b10 b11 b12 b13 b14 b15 b16 b17 b18 b19 b20 b21 b22 h => ?_) h)))
  obtain ⟨e1, h⟩ := tq_bq_t h
  exact br_t (by rw [e1]; rfl) ⟨9, tq_409_s hp hk 9 _ 0 h⟩
theorem tq_295_s {post : Int32 → St0 → Prop} {va vb vc : Int32} {pc st fl hd en fp rt b5 b6 b7 b8 b9 b10 b11 b12 b13 b14 b15 b16 b17 b18 b19 b20 b21 b22 : Nat} {mc ms kc ks sr ld k dn : Nat} {x8 x9 : Int32} (hp : post 1 ()) (hk : k < 256) (h89 : x8 - x9 = nI (Nat.sub (Nat.mul 8 k) dn)) : ∀ n x i, tq_l295 sr (fun x => tq_l295e k dn sr ld x pc st fl hd en fp rt b5 b6 b7 b8 b9 b10 b11 b12 b13 b14 b15 b16 b17 b18 b19 b20 b21 b22) n x i = true → wL_lawOf_295 post mc ms va vb vc (nI k) x8 x9 (nI sr) (nI ld) kc ks (nI 9) (nI pc) (nI st) (nI fl) (nI hd) (nI en) (nI fp) (nI rt) tq_cO tq_cX tq_cY tq_cZ (tq_da va vb vc b5) (tq_da va vb vc b6) (tq_ba b7) (tq_ba b8) (tq_ba b9) (tq_ba b10) (tq_ba b11) (tq_ba b12) (tq_ba b13) (tq_sa b14) (tq_da va vb vc b15) (tq_sa b16) (tq_da va vb vc b17) (tq_ba b18) (tq_ba b19) (tq_ba b20) (tq_da va vb vc b21) (tq_sa b22) n (tq_dv va vb vc x) (nI i) := by
  intro n
  induction n with
  | zero => intro x i h; exact absurd h Bool.false_ne_true
  | succ n ih =>
    intro x i h
    refine tq_le_s (x := 8) (y := i) h (fun _ _ h => ?_) (fun _ _ h => tq_le_s h (fun _ _ h => nm_r (nI_1 i) (ih _ _ h)) (fun _ _ h => tq_at_s (fun f h => ?_) h))
    · obtain ⟨e1, h⟩ := tq_bq_t h
      refine tq_mem_s (r := 15) (by decide) (br_t (by rw [e1]) (tq_reg_s (r := 2) (by decide) (tq_eq_s h (fun _ h => ?_) (fun e h => ?_))))
      · obtain ⟨e2, h⟩ := tq_bq_t h
        exact tq_365_s hp hk h89 (by rw [e2]; exact tq_dv_0) h
      · rw [show nI ld - 1 = nI (Nat.pred ld) by rw [show (1 : Int32) = nI 1 from rfl, pk_sub (by omega)]; rfl]
        refine tq_at_s (fun f h => ?_) h
        obtain ⟨e2, h⟩ := tq_bq_t h
        exact tq_365_s hp hk h89 (by rw [e2]) h
    · obtain ⟨v, hv, hs, h⟩ := tq_add_t (va := va) (vb := vb) (vc := vc) h
      exact nm_r hs (nm_r (nI_1 i) (ih _ _ h))
theorem tq_265_s {post : Int32 → St0 → Prop} {va vb vc : Int32} {pc st fl hd en fp rt b5 b6 b7 b8 b9 b10 b11 b12 b13 b14 b15 b16 b17 b18 b19 b20 b21 b22 : Nat} {mc ms kc ks k dn : Nat} {x8 z0 z1 : Int32} (hp : post 1 ()) (hk : k < 256) (hd0 : dn < 1000) (h89 : x8 - nI dn = nI (Nat.sub (Nat.mul 8 k) dn)) (hz : z1 = z0) (h : tq_l265 k dn pc st fl hd en fp rt b5 b6 b7 b8 b9 b10 b11 b12 b13 b14 b15 b16 b17 b18 b19 b20 b21 b22 = true) : wL_lawOf_265 post mc ms va vb vc (nI k) x8 (nI dn) z0 z1 kc ks (nI 9) (nI pc) (nI st) (nI fl) (nI hd) (nI en) (nI fp) (nI rt) tq_cO tq_cX tq_cY tq_cZ (tq_da va vb vc b5) (tq_da va vb vc b6) (tq_ba b7) (tq_ba b8) (tq_ba b9) (tq_ba b10) (tq_ba b11) (tq_ba b12) (tq_ba b13) (tq_sa b14) (tq_da va vb vc b15) (tq_sa b16) (tq_da va vb vc b17) (tq_ba b18) (tq_ba b19) (tq_ba b20) (tq_da va vb vc b21) (tq_sa b22) := by
  obtain ⟨sr, hsr, h⟩ := tq_fv h
  obtain ⟨ld, hld, h⟩ := tq_fv h
  refine br_t hz ⟨by decide, nm_r (e' := nI sr) ?_ ⟨by decide, nm_r (e' := nI ld) ?_ ⟨9, ?_⟩⟩⟩
  · rw [show (4 : Int32) = nI 4 from rfl, show (8 : Int32) = nI 8 from rfl, nI_add, pk_div (by omega) (by decide) (by decide), hsr]; rfl
  · rw [show (7 : Int32) = nI 7 from rfl, show (8 : Int32) = nI 8 from rfl, nI_add, pk_div (by omega) (by decide) (by decide), hld]; rfl
  · have t := tq_295_s (post := post) (mc := mc) (ms := ms) (kc := kc) (ks := ks) (va := va) (vb := vb) (vc := vc) hp hk h89 9 0 0 h
    rw [tq_dv_0] at t
    exact t
/-- the limit x4, cut to 0 .. 150, is n -/
def tq_cl (x4 : Int32) (n : Nat) : Prop := (¬ 0 ≤ x4 ∧ n = 0) ∨ (0 ≤ x4 ∧ ¬ x4 ≤ 150 ∧ n = 150) ∨ (0 ≤ x4 ∧ x4 ≤ 150 ∧ x4 = nI n)
theorem tq_cl_run {post : Int32 → St2 → Prop} {va vb vc x4 : Int32} {pc st fl hd en fp rt b5 b6 b7 b8 b9 b10 b11 b12 b13 b14 b15 b16 b17 b18 b19 b20 b21 b22 : Nat} {n : Nat} (hc : tq_cl x4 n) (h : wX_run_22 post (nI n) (nI 9) (nI pc) (nI st) (nI fl) (nI hd) (nI en) (nI fp) (nI rt) tq_cO tq_cX tq_cY tq_cZ (tq_da va vb vc b5) (tq_da va vb vc b6) (tq_ba b7) (tq_ba b8) (tq_ba b9) (tq_ba b10) (tq_ba b11) (tq_ba b12) (tq_ba b13) (tq_sa b14) (tq_da va vb vc b15) (tq_sa b16) (tq_da va vb vc b17) (tq_ba b18) (tq_ba b19) (tq_ba b20) (tq_da va vb vc b21) (tq_sa b22)) : wpX_run post (nI 9, nI pc, nI st, nI fl, nI hd, nI en, nI fp, nI rt, tq_cO, tq_cX, tq_cY, tq_cZ, tq_da va vb vc b5, tq_da va vb vc b6, tq_ba b7, tq_ba b8, tq_ba b9, tq_ba b10, tq_ba b11, tq_ba b12, tq_ba b13, tq_sa b14, tq_da va vb vc b15, tq_sa b16, tq_da va vb vc b17, tq_ba b18, tq_ba b19, tq_ba b20, tq_da va vb vc b21, tq_sa b22) x4 := by
  rcases hc with ⟨h1, e⟩ | ⟨h1, h2, e⟩ | ⟨h1, h2, e⟩
  · subst e; exact br_f h1 h
  · subst e; exact br_t h1 (br_f h2 h)
  · subst e; exact br_t h1 (br_t h2 h)
theorem tq_203_s {post : Int32 → St0 → Prop} {va vb vc x4 : Int32} {pc st fl hd en fp rt b5 b6 b7 b8 b9 b10 b11 b12 b13 b14 b15 b16 b17 b18 b19 b20 b21 b22 : Nat} {mc ms kc ks k n lo hi dn sv pv : Nat} (hp : post 1 ()) (hk1 : 1 ≤ k) (hk : k ≤ 8) (hc : tq_cl x4 n) (hn : n ≤ 150) (h1 : lo ≤ n) (h2 : n ≤ hi) (hdn : dn ≤ 8 * k) (hsv : (8 * k ≤ n ∧ sv = 1) ∨ (n < 8 * k ∧ sv = 0)) (hpv : (8 * k - 1 ≤ n ∧ pv = 8) ∨ (n < 8 * k - 1 ∧ pv = n % 8)) (h : tq_l203 k lo hi dn sv pv pc st fl hd en fp rt b5 b6 b7 b8 b9 b10 b11 b12 b13 b14 b15 b16 b17 b18 b19 b20 b21 b22 = true) : wL_lawOf_203 post mc ms va vb vc x4 (nI k) (nI n) (nI (8 * k)) (nI dn) kc ks (nI 9) (nI pc) (nI st) (nI fl) (nI hd) (nI en) (nI fp) (nI rt) tq_cO tq_cX tq_cY tq_cZ (tq_da va vb vc b5) (tq_da va vb vc b6) (tq_ba b7) (tq_ba b8) (tq_ba b9) (tq_ba b10) (tq_ba b11) (tq_ba b12) (tq_ba b13) (tq_sa b14) (tq_da va vb vc b15) (tq_sa b16) (tq_da va vb vc b17) (tq_ba b18) (tq_ba b19) (tq_ba b20) (tq_da va vb vc b21) (tq_sa b22) := by
  refine tq_cl_run hc (tq_r22_s h1 h2 (fun pc st fl hd en fp rt b5 b6 b7 b8 b9 b10 b11 b12 b13 b14 b15 b16 b17 b18 b19 b20 b21 b22 h => ?_) h)
  obtain ⟨e1, h⟩ := tq_bq_t h
  obtain ⟨e2, h⟩ := tq_bq_t h
  obtain ⟨e3, h⟩ := tq_bq_t h
  have h89 : nI (8 * k) - nI dn = nI (Nat.sub (Nat.mul 8 k) dn) := pk_sub hdn
  have j : ∀ z1 z0 : Int32, z1 = nI sv → z0 = nI st → wL_lawOf_236 post mc ms va vb vc (nI k) (nI n) (nI (8 * k)) (nI dn) z1 z0 kc ks (nI 9) (nI pc) (nI st) (nI fl) (nI hd) (nI en) (nI fp) (nI rt) tq_cO tq_cX tq_cY tq_cZ (tq_da va vb vc b5) (tq_da va vb vc b6) (tq_ba b7) (tq_ba b8) (tq_ba b9) (tq_ba b10) (tq_ba b11) (tq_ba b12) (tq_ba b13) (tq_sa b14) (tq_da va vb vc b15) (tq_sa b16) (tq_da va vb vc b17) (tq_ba b18) (tq_ba b19) (tq_ba b20) (tq_da va vb vc b21) (tq_sa b22) := by
    intro z1 z0 g1 g0
    refine br_t (by rw [g1, g0, e2]) ?_
    have e8 : nI (8 * k) - 1 = nI (8 * k - 1) := by rw [show (1 : Int32) = nI 1 from rfl, pk_sub (by omega)]
    show (nI (8 * k) - 1 ≤ nI n → _) ∧ (¬ nI (8 * k) - 1 ≤ nI n → _)
    rw [e8]
    rcases hpv with ⟨g, e⟩ | ⟨g, e⟩
    · exact br_t (nI_le g (by omega)) (tq_265_s hp (by omega) (by omega) h89 (by rw [e3, e]; rfl) h)
    · refine br_f (nI_ge g (by omega)) ⟨by decide, tq_265_s hp (by omega) (by omega) h89 ?_ h⟩
      rw [e3, e, show (8 : Int32) = nI 8 from rfl, pk_rem (by omega) (by decide) (by decide)]
  refine br_t (by rw [e1]) ?_
  rcases hsv with ⟨g, e⟩ | ⟨g, e⟩
  · exact br_t (nI_le g (by omega)) (j 1 _ (by rw [e]; rfl) rfl)
  · exact br_f (nI_ge g (by omega)) (j 0 _ (by rw [e]; rfl) rfl)
end
section
/-! the constructor, the writes ahead of the program, the nine emits -/
theorem tq_z1 : tq_ba 0 = fun _ => 0 := by
  funext i
  show nI ((0 >>> (8 * i)) % 256) = 0
  rw [Nat.zero_shiftRight]; rfl
theorem tq_z2 : tq_sa 0 = fun _ => 0 := by
  funext i
  show tq_sv ((0 >>> (8 * i)) % 256) = 0
  rw [Nat.zero_shiftRight]; rfl
theorem tq_z3 {va vb vc : Int32} : tq_da va vb vc 0 = fun _ => 0 := by
  funext i
  show tq_dv va vb vc ((0 >>> (32 * i)) % 4294967296) = 0
  rw [Nat.zero_shiftRight]
  exact tq_dv_0
theorem tq_u0 (i : Nat) : upd (fun _ => 0) i 0 = fun _ => 0 := by
  funext j
  unfold upd
  split <;> rfl
theorem tq_bau2 {b i v c : Nat} {x : Int32} (hx : x = nI v) (hv : v < 256) (hi : i < 2 ^ 31) (hc : tq_sb b i v = c) : upd (tq_ba b) (nI i).toNatClampNeg x = tq_ba c := by
  rw [tq_bau hx hv hi, hc]
theorem tq_sau2 {b i v c : Nat} {x : Int32} (hx : x = tq_sv v) (hv : v < 256) (hi : i < 2 ^ 31) (hc : tq_sb b i v = c) : upd (tq_sa b) (nI i).toNatClampNeg x = tq_sa c := by
  rw [tq_sau hx hv hi, hc]
theorem tq_dau2 {va vb vc : Int32} {b i v c : Nat} {x : Int32} (hx : x = tq_dv va vb vc v) (hv : v < 4294967296) (hi : i < 2 ^ 31) (hc : tq_sd b i v = c) : upd (tq_da va vb vc b) (nI i).toNatClampNeg x = tq_da va vb vc c := by
  rw [tq_dau hx hv hi, hc]
theorem tq_fg {post : St2 → Prop} {f0 f1 f2 f3 f4 f5 f6 f7 : Int32} {a1 a2 a3 a4 a5 a6 a7 a8 a9 a10 a11 a12 a13 a14 a15 a16 a17 a18 a19 a20 a21 a22 : Nat → Int32} (h8 : ∀ i, upd a8 i 0 = a8) (hp : post (f0, f1, f2, 0, f4, f5, f6, f7, a1, a2, a3, a4, a5, a6, a7, a8, a9, a10, a11, a12, a13, a14, a15, a16, a17, a18, a19, a20, a21, a22)) : wpX_forgetTraces post (f0, f1, f2, f3, f4, f5, f6, f7, a1, a2, a3, a4, a5, a6, a7, a8, a9, a10, a11, a12, a13, a14, a15, a16, a17, a18, a19, a20, a21, a22) := by
  have t : ∀ n k, k + n = 8 → wX_forgetTraces_2 post f0 f1 f2 f3 f4 f5 f6 f7 (n + 1) (nI k) a1 a2 a3 a4 a5 a6 a7 a8 a9 a10 a11 a12 a13 a14 a15 a16 a17 a18 a19 a20 a21 a22 := by
    intro n
    induction n with
    | zero =>
      intro k hk
      have e : k = 8 := by omega
      subst e
      exact br_t (by decide) hp
    | succ n ih =>
      intro k hk
      exact br_f (nI_ge (b := 8) (by omega) (by decide)) ⟨tq_vi (by omega), nm_r (h8 _) (nm_r (nI_1 k) (ih (k + 1) (by omega)))⟩
  exact ⟨9, t 8 0 rfl⟩
theorem tq_sqs : ∀ k, k < 8 → tq_sb (2 ^ (8 * k) - 1) k 255 = 2 ^ (8 * (k + 1)) - 1 := by decide +kernel
theorem tq_sqg {post : St2 → Prop} {f0 f1 f2 f3 f4 f5 f6 f7 : Int32} {a1 a2 a3 a4 a5 a6 a7 a8 a9 a10 a11 a12 a13 a14 a15 a16 a17 a18 a19 a20 a21 : Nat → Int32} (hp : post (f0, f1, f2, f3, f4, 0, f1, f7, a1, a2, a3, a4, a5, a6, a7, a8, a9, a10, a11, a12, a13, a14, a15, a16, a17, a18, a19, a20, a21, tq_sa 18446744073709551615)) : wpX_squash post (f0, f1, f2, f3, f4, f5, f6, f7, a1, a2, a3, a4, a5, a6, a7, a8, a9, a10, a11, a12, a13, a14, a15, a16, a17, a18, a19, a20, a21, tq_sa 0) := by
  have t : ∀ n k, k + n = 8 → wX_squash_15 post f0 f1 f2 f3 f4 0 f1 f7 (n + 1) (nI k) a1 a2 a3 a4 a5 a6 a7 a8 a9 a10 a11 a12 a13 a14 a15 a16 a17 a18 a19 a20 a21 (tq_sa (2 ^ (8 * k) - 1)) := by
    intro n
    induction n with
    | zero =>
      intro k hk
      have e : k = 8 := by omega
      subst e
      exact br_t (by decide) hp
    | succ n ih =>
      intro k hk
      have l : k < 8 := by omega
      exact br_f (nI_ge (b := 8) (by omega) (by decide)) ⟨tq_vi l, nm_r (tq_sau2 (v := 255) rfl (by decide) (tq_31 l) (tq_sqs k l)) (nm_r (nI_1 k) (ih (k + 1) (by omega)))⟩
  exact ⟨9, t 8 0 rfl⟩
theorem tq_init_s {post : St2 → Prop} {va vb vc : Int32} (hp : post (0, 0, 0, 0, 0, 0, 0, 0, tq_ba 0, tq_ba 0, tq_ba 0, tq_sa 0, tq_da va vb vc 0, tq_da va vb vc 0, tq_ba 0, tq_ba 0, tq_ba 0, tq_ba 0, tq_ba 0, tq_ba 0, tq_ba 0, tq_sa 0, tq_da va vb vc 0, tq_sa 0, tq_da va vb vc 0, tq_ba 0, tq_ba 0, tq_ba 0, tq_da va vb vc 0, tq_sa 18446744073709551615)) : wpX_init post 22 275 (0, 0, 0, 0, 0, 0, 0, 0) := by
  refine ⟨by decide, by decide, by decide, by decide, by decide, by decide, by decide, by decide, by decide, by decide, by decide, by decide, by decide, by decide, by decide, by decide, by decide, by decide, by decide, by decide, by decide, by decide, by decide, by decide, by decide, by decide, by decide, by decide, by decide, by decide, by decide, by decide, by decide, by decide, by decide, by decide, by decide, by decide, by decide, by decide, by decide, by decide, by decide, by decide, tq_fg tq_u0 ?_⟩
  rw [← tq_z2]
  refine tq_sqg ?_
  rw [tq_z1, tq_z2, tq_z3] at hp
  rw [tq_z2]
  exact hp
theorem tq_sd0 : ∀ k, k < 9 → tq_sd 0 0 k = k := by decide +kernel
theorem tq_setR {post : Int32 → St2 → Prop} {va vb vc : Int32} {f0 f1 f2 f3 f4 f5 f6 f7 : Int32} {a1 a2 a3 a4 a6 a7 a8 a9 a10 a11 a12 a13 a14 a15 a16 a17 a18 a19 a20 a21 a22 : Nat → Int32} {k : Nat} (hk : k < 9) (hp : post 1 (f0, f1, f2, f3, f4, f5, f6, f7, a1, a2, a3, a4, tq_da va vb vc k, a6, a7, a8, a9, a10, a11, a12, a13, a14, a15, a16, a17, a18, a19, a20, a21, a22)) : wpX_setRegister post (f0, f1, f2, f3, f4, f5, f6, f7, a1, a2, a3, a4, tq_da va vb vc 0, a6, a7, a8, a9, a10, a11, a12, a13, a14, a15, a16, a17, a18, a19, a20, a21, a22) 0 (nI k) :=
  br_f (by decide) (br_f (by decide) (br_f (by decide) ⟨tq_vi (e := 0) (by decide), nm_r (tq_dau2 (i := 0) (tq_dv_c (by omega)).symm (by omega) (by decide) (tq_sd0 k hk)) hp⟩))
theorem tq_setM {post : Int32 → St2 → Prop} {va vb vc x : Int32} {f0 f1 f2 f3 f4 f5 f6 f7 : Int32} {a1 a2 a3 a4 a5 a7 a8 a9 a10 a11 a12 a13 a14 a15 a16 a17 a18 a19 a20 a21 a22 : Nat → Int32} {b c v i : Nat} (hi : i < 16) (hx : x = tq_dv va vb vc v) (hv : v < 4294967296) (hc : tq_sd b i v = c) (hp : post 1 (f0, f1, f2, f3, f4, f5, f6, f7, a1, a2, a3, a4, a5, tq_da va vb vc c, a7, a8, a9, a10, a11, a12, a13, a14, a15, a16, a17, a18, a19, a20, a21, a22)) : wpX_setMemory post (f0, f1, f2, f3, f4, f5, f6, f7, a1, a2, a3, a4, a5, tq_da va vb vc b, a7, a8, a9, a10, a11, a12, a13, a14, a15, a16, a17, a18, a19, a20, a21, a22) (nI i) x :=
  br_f (nI_pos (tq_31 hi)) (br_t (nI_le (b := 15) (by omega) (by decide)) ⟨tq_vi hi, nm_r (tq_dau2 hx hv (tq_31 hi) hc) hp⟩)
theorem tq_em173 {post : Int32 → St2 → Prop} {f1 f2 f3 f4 f5 f6 f7 : Int32} {a1 a2 a3 a5 a6 a8 a9 a10 a11 a12 a13 a14 a15 a16 a17 a18 a19 a20 a21 a22 : Nat → Int32} {L zz Z Z2 C C2 : Nat} {z0 : Int32} (h8 : ∀ i, upd a8 i 0 = a8) (hL : L < 24) (hz : z0 = tq_sv zz) (hzz : zz < 256) (eZ : tq_sb Z L zz = Z2) (eC : tq_sb C L 1 = C2) (hp : post (nI (L + 1)) (nI (L + 1), f1, f2, 0, f4, f5, f6, f7, a1, a2, a3, tq_sa Z2, a5, a6, tq_ba C2, a8, a9, a10, a11, a12, a13, a14, a15, a16, a17, a18, a19, a20, a21, a22)) : wX_emit_173 post z0 (nI L) (nI L) f1 f2 f3 f4 f5 f6 f7 a1 a2 a3 (tq_sa Z) a5 a6 (tq_ba C) a8 a9 a10 a11 a12 a13 a14 a15 a16 a17 a18 a19 a20 a21 a22 :=
  ⟨tq_vi hL, nm_r (tq_sau2 hz hzz (tq_31 hL) eZ) ⟨tq_vi hL, nm_r (tq_bau2 (v := 1) rfl (by decide) (tq_31 hL) eC) (nm_r (nI_1 L) (tq_fg h8 hp))⟩⟩
theorem tq_emit0 {post : Int32 → St2 → Prop} {f1 f2 f3 f4 f5 f6 f7 : Int32} {a5 a6 a8 a9 a10 a11 a12 a13 a14 a15 a16 a17 a18 a19 a20 a21 a22 : Nat → Int32} (h8 : ∀ i, upd a8 i 0 = a8) (hp : post (nI (0 + 1)) (nI (0 + 1), f1, f2, 0, f4, f5, f6, f7, tq_ba 5, tq_ba 2, tq_ba 1, tq_sa 0, a5, a6, tq_ba 1, a8, a9, a10, a11, a12, a13, a14, a15, a16, a17, a18, a19, a20, a21, a22)) : wpX_emit post (nI 0, f1, f2, f3, f4, f5, f6, f7, tq_ba 0, tq_ba 0, tq_ba 0, tq_sa 0, a5, a6, tq_ba 0, a8, a9, a10, a11, a12, a13, a14, a15, a16, a17, a18, a19, a20, a21, a22) 5 2 1 0 :=
  br_t (by decide) (br_f (by decide) (br_t (by decide) (br_f (by decide) (br_f (by decide) (br_f (by decide) (br_f (by decide) (br_f (by decide) (br_f (by decide) (br_f (by decide) (br_f (by decide) (br_t (by decide) (br_f (by decide) (br_f (by decide) (br_f (by decide) ⟨tq_vi (e := 0) (by decide), nm_r (tq_bau2 (i := 0) (v := 5) (by decide) (by decide) (by decide) (by decide +kernel)) ⟨tq_vi (e := 0) (by decide), nm_r (tq_bau2 (i := 0) (v := 2) (by decide) (by decide) (by decide) (by decide +kernel)) ⟨tq_vi (e := 0) (by decide), nm_r (tq_bau2 (i := 0) (v := 1) (by decide) (by decide) (by decide) (by decide +kernel)) (br_f (by decide) (br_t (by decide) (tq_em173 (zz := 0) h8 (by decide) rfl (by decide) (by decide +kernel) (by decide +kernel) hp)))⟩⟩⟩))))))))))))))
theorem tq_emit1 {post : Int32 → St2 → Prop} {f1 f2 f3 f4 f5 f6 f7 : Int32} {a5 a6 a8 a9 a10 a11 a12 a13 a14 a15 a16 a17 a18 a19 a20 a21 a22 : Nat → Int32} (h8 : ∀ i, upd a8 i 0 = a8) (hp : post (nI (1 + 1)) (nI (1 + 1), f1, f2, 0, f4, f5, f6, f7, tq_ba 1285, tq_ba 770, tq_ba 1793, tq_sa 3840, a5, a6, tq_ba 257, a8, a9, a10, a11, a12, a13, a14, a15, a16, a17, a18, a19, a20, a21, a22)) : wpX_emit post (nI 1, f1, f2, f3, f4, f5, f6, f7, tq_ba 5, tq_ba 2, tq_ba 1, tq_sa 0, a5, a6, tq_ba 1, a8, a9, a10, a11, a12, a13, a14, a15, a16, a17, a18, a19, a20, a21, a22) 5 3 7 15 :=
  br_t (by decide) (br_f (by decide) (br_t (by decide) (br_f (by decide) (br_f (by decide) (br_f (by decide) (br_f (by decide) (br_f (by decide) (br_f (by decide) (br_f (by decide) (br_f (by decide) (br_t (by decide) (br_f (by decide) (br_f (by decide) (br_f (by decide) ⟨tq_vi (e := 1) (by decide), nm_r (tq_bau2 (i := 1) (v := 5) (by decide) (by decide) (by decide) (by decide +kernel)) ⟨tq_vi (e := 1) (by decide), nm_r (tq_bau2 (i := 1) (v := 3) (by decide) (by decide) (by decide) (by decide +kernel)) ⟨tq_vi (e := 1) (by decide), nm_r (tq_bau2 (i := 1) (v := 7) (by decide) (by decide) (by decide) (by decide +kernel)) (br_f (by decide) (br_t (by decide) (tq_em173 (zz := 15) h8 (by decide) rfl (by decide) (by decide +kernel) (by decide +kernel) hp)))⟩⟩⟩))))))))))))))
theorem tq_emit2 {post : Int32 → St2 → Prop} {f1 f2 f3 f4 f5 f6 f7 : Int32} {a5 a6 a8 a9 a10 a11 a12 a13 a14 a15 a16 a17 a18 a19 a20 a21 a22 : Nat → Int32} (h8 : ∀ i, upd a8 i 0 = a8) (hp : post (nI (2 + 1)) (nI (2 + 1), f1, f2, 0, f4, f5, f6, f7, tq_ba 1285, tq_ba 197378, tq_ba 198401, tq_sa 134912, a5, a6, tq_ba 65793, a8, a9, a10, a11, a12, a13, a14, a15, a16, a17, a18, a19, a20, a21, a22)) : wpX_emit post (nI 2, f1, f2, f3, f4, f5, f6, f7, tq_ba 1285, tq_ba 770, tq_ba 1793, tq_sa 3840, a5, a6, tq_ba 257, a8, a9, a10, a11, a12, a13, a14, a15, a16, a17, a18, a19, a20, a21, a22) 0 3 3 2 :=
  br_t (by decide) (br_f (by decide) (br_t (by decide) (br_f (by decide) (br_f (by decide) (br_f (by decide) (br_f (by decide) (br_f (by decide) (br_f (by decide) (br_f (by decide) (br_f (by decide) (br_f (by decide) (br_f (by decide) (br_f (by decide) (br_f (by decide) (br_f (by decide) (br_f (by decide) (br_f (by decide) ⟨tq_vi (e := 2) (by decide), nm_r (tq_bau2 (i := 2) (v := 0) (by decide) (by decide) (by decide) (by decide +kernel)) ⟨tq_vi (e := 2) (by decide), nm_r (tq_bau2 (i := 2) (v := 3) (by decide) (by decide) (by decide) (by decide +kernel)) ⟨tq_vi (e := 2) (by decide), nm_r (tq_bau2 (i := 2) (v := 3) (by decide) (by decide) (by decide) (by decide +kernel)) (br_f (by decide) (br_t (by decide) (tq_em173 (zz := 2) h8 (by decide) rfl (by decide) (by decide +kernel) (by decide +kernel) hp)))⟩⟩⟩)))))))))))))))))
theorem tq_emit3 {post : Int32 → St2 → Prop} {f1 f2 f3 f4 f5 f6 f7 : Int32} {a5 a6 a8 a9 a10 a11 a12 a13 a14 a15 a16 a17 a18 a19 a20 a21 a22 : Nat → Int32} (h8 : ∀ i, upd a8 i 0 = a8) (hp : post (nI (3 + 1)) (nI (3 + 1), f1, f2, 0, f4, f5, f6, f7, tq_ba 100664581, tq_ba 50529026, tq_ba 117638913, tq_sa 251793152, a5, a6, tq_ba 16843009, a8, a9, a10, a11, a12, a13, a14, a15, a16, a17, a18, a19, a20, a21, a22)) : wpX_emit post (nI 3, f1, f2, f3, f4, f5, f6, f7, tq_ba 1285, tq_ba 197378, tq_ba 198401, tq_sa 134912, a5, a6, tq_ba 65793, a8, a9, a10, a11, a12, a13, a14, a15, a16, a17, a18, a19, a20, a21, a22) 6 3 7 15 :=
  br_t (by decide) (br_f (by decide) (br_t (by decide) (br_f (by decide) (br_f (by decide) (br_f (by decide) (br_f (by decide) (br_f (by decide) (br_f (by decide) (br_f (by decide) (br_f (by decide) (br_t (by decide) (br_f (by decide) (br_f (by decide) (br_f (by decide) ⟨tq_vi (e := 3) (by decide), nm_r (tq_bau2 (i := 3) (v := 6) (by decide) (by decide) (by decide) (by decide +kernel)) ⟨tq_vi (e := 3) (by decide), nm_r (tq_bau2 (i := 3) (v := 3) (by decide) (by decide) (by decide) (by decide +kernel)) ⟨tq_vi (e := 3) (by decide), nm_r (tq_bau2 (i := 3) (v := 7) (by decide) (by decide) (by decide) (by decide +kernel)) (br_f (by decide) (br_t (by decide) (tq_em173 (zz := 15) h8 (by decide) rfl (by decide) (by decide +kernel) (by decide +kernel) hp)))⟩⟩⟩))))))))))))))
theorem tq_emit4 {post : Int32 → St2 → Prop} {f1 f2 f3 f4 f5 f6 f7 : Int32} {a5 a6 a8 a9 a10 a11 a12 a13 a14 a15 a16 a17 a18 a19 a20 a21 a22 : Nat → Int32} (h8 : ∀ i, upd a8 i 0 = a8) (hp : post (nI (4 + 1)) (nI (4 + 1), f1, f2, 0, f4, f5, f6, f7, tq_ba 17280533765, tq_ba 4345496322, tq_ba 4412606209, tq_sa 4546760448, a5, a6, tq_ba 4311810305, a8, a9, a10, a11, a12, a13, a14, a15, a16, a17, a18, a19, a20, a21, a22)) : wpX_emit post (nI 4, f1, f2, f3, f4, f5, f6, f7, tq_ba 100664581, tq_ba 50529026, tq_ba 117638913, tq_sa 251793152, a5, a6, tq_ba 16843009, a8, a9, a10, a11, a12, a13, a14, a15, a16, a17, a18, a19, a20, a21, a22) 4 1 1 1 :=
  br_t (by decide) (br_f (by decide) (br_t (by decide) (br_f (by decide) (br_f (by decide) (br_f (by decide) (br_f (by decide) (br_f (by decide) (br_f (by decide) (br_f (by decide) (br_f (by decide) (br_t (by decide) (br_f (by decide) (br_f (by decide) (br_f (by decide) ⟨tq_vi (e := 4) (by decide), nm_r (tq_bau2 (i := 4) (v := 4) (by decide) (by decide) (by decide) (by decide +kernel)) ⟨tq_vi (e := 4) (by decide), nm_r (tq_bau2 (i := 4) (v := 1) (by decide) (by decide) (by decide) (by decide +kernel)) ⟨tq_vi (e := 4) (by decide), nm_r (tq_bau2 (i := 4) (v := 1) (by decide) (by decide) (by decide) (by decide +kernel)) (br_f (by decide) (br_t (by decide) (tq_em173 (zz := 1) h8 (by decide) rfl (by decide) (by decide +kernel) (by decide +kernel) hp)))⟩⟩⟩))))))))))))))
theorem tq_emit5 {post : Int32 → St2 → Prop} {f1 f2 f3 f4 f5 f6 f7 : Int32} {a5 a6 a8 a9 a10 a11 a12 a13 a14 a15 a16 a17 a18 a19 a20 a21 a22 : Nat → Int32} (h8 : ∀ i, upd a8 i 0 = a8) (hp : post (nI (5 + 1)) (nI (5 + 1), f1, f2, 0, f4, f5, f6, f7, tq_ba 4415327044869, tq_ba 4345496322, tq_ba 4412606209, tq_sa 280380011843328, a5, a6, tq_ba 1103823438081, a8, a9, a10, a11, a12, a13, a14, a15, a16, a17, a18, a19, a20, a21, a22)) : wpX_emit post (nI 5, f1, f2, f3, f4, f5, f6, f7, tq_ba 17280533765, tq_ba 4345496322, tq_ba 4412606209, tq_sa 4546760448, a5, a6, tq_ba 4311810305, a8, a9, a10, a11, a12, a13, a14, a15, a16, a17, a18, a19, a20, a21, a22) 4 0 0 (-1) :=
  br_t (by decide) (br_f (by decide) (br_t (by decide) (br_f (by decide) (br_f (by decide) (br_f (by decide) (br_f (by decide) (br_f (by decide) (br_f (by decide) (br_f (by decide) (br_f (by decide) (br_t (by decide) (br_f (by decide) (br_f (by decide) (br_f (by decide) ⟨tq_vi (e := 5) (by decide), nm_r (tq_bau2 (i := 5) (v := 4) (by decide) (by decide) (by decide) (by decide +kernel)) ⟨tq_vi (e := 5) (by decide), nm_r (tq_bau2 (i := 5) (v := 0) (by decide) (by decide) (by decide) (by decide +kernel)) ⟨tq_vi (e := 5) (by decide), nm_r (tq_bau2 (i := 5) (v := 0) (by decide) (by decide) (by decide) (by decide +kernel)) (br_f (by decide) (br_t (by decide) (tq_em173 (zz := 255) h8 (by decide) rfl (by decide) (by decide +kernel) (by decide +kernel) hp)))⟩⟩⟩))))))))))))))
theorem tq_emit6 {post : Int32 → St2 → Prop} {f1 f2 f3 f4 f5 f6 f7 : Int32} {a5 a6 a8 a9 a10 a11 a12 a13 a14 a15 a16 a17 a18 a19 a20 a21 a22 : Nat → Int32} (h8 : ∀ i, upd a8 i 0 = a8) (hp : post (nI (6 + 1)) (nI (6 + 1), f1, f2, 0, f4, f5, f6, f7, tq_ba 1974740164019461, tq_ba 4345496322, tq_ba 2251804226291457, tq_sa 2532179825528576, a5, a6, tq_ba 282578800148737, a8, a9, a10, a11, a12, a13, a14, a15, a16, a17, a18, a19, a20, a21, a22)) : wpX_emit post (nI 6, f1, f2, f3, f4, f5, f6, f7, tq_ba 4415327044869, tq_ba 4345496322, tq_ba 4412606209, tq_sa 280380011843328, a5, a6, tq_ba 1103823438081, a8, a9, a10, a11, a12, a13, a14, a15, a16, a17, a18, a19, a20, a21, a22) 7 0 8 0 :=
  br_t (by decide) (br_f (by decide) (br_t (by decide) (br_f (by decide) (br_f (by decide) (br_f (by decide) (br_f (by decide) (br_t (by decide) (br_t (by decide) (br_t (by decide) (br_f (by decide) (br_f (by decide) (br_f (by decide) (br_f (by decide) ⟨tq_vi (e := 6) (by decide), nm_r (tq_bau2 (i := 6) (v := 7) (by decide) (by decide) (by decide) (by decide +kernel)) ⟨tq_vi (e := 6) (by decide), nm_r (tq_bau2 (i := 6) (v := 0) (by decide) (by decide) (by decide) (by decide +kernel)) ⟨tq_vi (e := 6) (by decide), nm_r (tq_bau2 (i := 6) (v := 8) (by decide) (by decide) (by decide) (by decide +kernel)) (br_f (by decide) (br_f (by decide) (tq_em173 (zz := 8) h8 (by decide) rfl (by decide) (by decide +kernel) (by decide +kernel) hp)))⟩⟩⟩)))))))))))))
theorem tq_emit7 {post : Int32 → St2 → Prop} {f1 f2 f3 f4 f5 f6 f7 : Int32} {a5 a6 a8 a9 a10 a11 a12 a13 a14 a15 a16 a17 a18 a19 a20 a21 a22 : Nat → Int32} (h8 : ∀ i, upd a8 i 0 = a8) (hp : post (nI (7 + 1)) (nI (7 + 1), f1, f2, 0, f4, f5, f6, f7, tq_ba 650493086505370885, tq_ba 4345496322, tq_ba 2251804226291457, tq_sa 2532179825528576, a5, a6, tq_ba 72340172838076673, a8, a9, a10, a11, a12, a13, a14, a15, a16, a17, a18, a19, a20, a21, a22)) : wpX_emit post (nI 7, f1, f2, f3, f4, f5, f6, f7, tq_ba 1974740164019461, tq_ba 4345496322, tq_ba 2251804226291457, tq_sa 2532179825528576, a5, a6, tq_ba 282578800148737, a8, a9, a10, a11, a12, a13, a14, a15, a16, a17, a18, a19, a20, a21, a22) 9 0 0 0 :=
  br_t (by decide) (br_f (by decide) (br_t (by decide) (br_t (by decide) (br_t (by decide) (br_t (by decide) (br_f (by decide) (br_f (by decide) (br_t (by decide) (br_f (by decide) (br_f (by decide) (br_f (by decide) ⟨tq_vi (e := 7) (by decide), nm_r (tq_bau2 (i := 7) (v := 9) (by decide) (by decide) (by decide) (by decide +kernel)) ⟨tq_vi (e := 7) (by decide), nm_r (tq_bau2 (i := 7) (v := 0) (by decide) (by decide) (by decide) (by decide +kernel)) ⟨tq_vi (e := 7) (by decide), nm_r (tq_bau2 (i := 7) (v := 0) (by decide) (by decide) (by decide) (by decide +kernel)) (br_t (by decide) (tq_em173 (zz := 0) h8 (by decide) rfl (by decide) (by decide +kernel) (by decide +kernel) hp))⟩⟩⟩)))))))))))
theorem tq_emit8 {post : Int32 → St2 → Prop} {f1 f2 f3 f4 f5 f6 f7 : Int32} {a5 a6 a8 a9 a10 a11 a12 a13 a14 a15 a16 a17 a18 a19 a20 a21 a22 : Nat → Int32} (h8 : ∀ i, upd a8 i 0 = a8) (hp : post (nI (8 + 1)) (nI (8 + 1), f1, f2, 0, f4, f5, f6, f7, tq_ba 185117933823600887045, tq_ba 4345496322, tq_ba 2251804226291457, tq_sa 2532179825528576, a5, a6, tq_ba 18519084246547628289, a8, a9, a10, a11, a12, a13, a14, a15, a16, a17, a18, a19, a20, a21, a22)) : wpX_emit post (nI 8, f1, f2, f3, f4, f5, f6, f7, tq_ba 650493086505370885, tq_ba 4345496322, tq_ba 2251804226291457, tq_sa 2532179825528576, a5, a6, tq_ba 72340172838076673, a8, a9, a10, a11, a12, a13, a14, a15, a16, a17, a18, a19, a20, a21, a22) 10 0 0 0 :=
  br_t (by decide) (br_f (by decide) (br_t (by decide) (br_t (by decide) (br_t (by decide) (br_t (by decide) (br_f (by decide) (br_f (by decide) (br_f (by decide) ⟨tq_vi (e := 8) (by decide), nm_r (tq_bau2 (i := 8) (v := 10) (by decide) (by decide) (by decide) (by decide +kernel)) ⟨tq_vi (e := 8) (by decide), nm_r (tq_bau2 (i := 8) (v := 0) (by decide) (by decide) (by decide) (by decide +kernel)) ⟨tq_vi (e := 8) (by decide), nm_r (tq_bau2 (i := 8) (v := 0) (by decide) (by decide) (by decide) (by decide +kernel)) (br_f (by decide) (br_f (by decide) (tq_em173 (zz := 0) h8 (by decide) rfl (by decide) (by decide +kernel) (by decide +kernel) hp)))⟩⟩⟩))))))))
end
section
theorem tq_all_ge {k m : Nat} (h : tq_all k m = true) : tq_ge1 k = true := by
  induction m with
  | zero => exact h
  | succ m ih => exact ih (tq_qi_f h).2
theorem tq_all_lt {k m n : Nat} (h : tq_all k m = true) (hn : n < m) : tq_lt1 k n = true := by
  induction m with
  | zero => omega
  | succ m ih =>
    by_cases e : n = m
    · rw [e]; exact (tq_qi_f h).1
    · exact ih (tq_qi_f h).2 (by omega)
theorem tq_pv_t {k n : Nat} : (8 * k - 1 ≤ n ∧ tq_pv k n = 8) ∨ (n < 8 * k - 1 ∧ tq_pv k n = n % 8) := by
  by_cases h : 8 * k - 1 ≤ n
  · refine Or.inl ⟨h, ?_⟩
    have e : Nat.ble (Nat.sub (Nat.mul 8 k) 1) n = true := Nat.ble_eq_true_of_le h
    unfold tq_pv
    rw [e]
  · refine Or.inr ⟨by omega, ?_⟩
    have e : Nat.ble (Nat.sub (Nat.mul 8 k) 1) n = false := by
      cases g : Nat.ble (Nat.sub (Nat.mul 8 k) 1) n
      · rfl
      · exact absurd (tq_ble g) h
    unfold tq_pv
    rw [e]
    rfl
theorem tq_180_s {post : Int32 → St0 → Prop} {va vb vc x4 : Int32} {mc ms kc ks k n : Nat} (hp : post 1 ()) (hk1 : 1 ≤ k) (hk : k ≤ 8) (hc : tq_cl x4 n) (hn : n ≤ 150) (h : tq_all k (8 * k) = true) : wL_lawOf_180 post mc ms va vb vc x4 (nI k) (nI n) kc ks (nI 9) (nI 0) (nI 0) (nI 0) (nI 0) (nI 0) (nI 0) (nI 0) tq_cO tq_cX tq_cY tq_cZ (tq_da va vb vc k) (tq_da va vb vc 309485009821626543701491968) (tq_ba 18519084246547628289) (tq_ba 0) (tq_ba 0) (tq_ba 0) (tq_ba 0) (tq_ba 0) (tq_ba 0) (tq_sa 0) (tq_da va vb vc 0) (tq_sa 0) (tq_da va vb vc 0) (tq_ba 0) (tq_ba 0) (tq_ba 0) (tq_da va vb vc 0) (tq_sa 18446744073709551615) := by
  refine nm_r (e' := nI (8 * k)) (by rw [show (8 : Int32) = nI 8 from rfl, pk_mul]) ?_
  by_cases g : 8 * k ≤ n
  · exact br_t (nI_le g (by omega)) (tq_203_s (lo := 8 * k) (hi := 150) (dn := 8 * k) (sv := 1) (pv := 8) hp hk1 hk hc hn g hn (Nat.le_refl _) (Or.inl ⟨g, rfl⟩) (Or.inl ⟨by omega, rfl⟩) (tq_all_ge h))
  · exact br_f (nI_ge (by omega) (by omega)) (tq_203_s (lo := n) (hi := n) (dn := n) (sv := 0) (pv := tq_pv k n) hp hk1 hk hc hn (Nat.le_refl _) (Nat.le_refl _) (by omega) (Or.inr ⟨by omega, rfl⟩) tq_pv_t (tq_all_lt h (by omega)))
theorem tq_lawOf_s {post : Int32 → St0 → Prop} {p0 va vb vc x4 : Int32} (hp : post 1 ()) (hall : ∀ k, 1 ≤ k → k ≤ 8 → tq_all k (8 * k) = true) : wpL_lawOf post 124 1968 () p0 va vb vc x4 := by
  obtain ⟨j, hj, ej⟩ := pk_andE p0 (m := 7) 3 (by decide)
  refine nm_r (e' := nI (1 + j)) (by rw [ej, ← nI_add]; rfl) ⟨by decide, by decide, 22, 275, by decide, by decide, ?_⟩
  have hj8 : j < 8 := hj
  refine tq_init_s (va := va) (vb := vb) (vc := vc) ?_
  refine tq_setR (k := 1 + j) (by omega) ?_
  refine tq_setM (i := 0) (b := 0) (c := 256) (v := 256) (by decide) tq_dv_a.symm (by decide) (by decide +kernel) ?_
  refine tq_setM (i := 1) (b := 256) (c := 281474976710912) (v := 65536) (by decide) tq_dv_b.symm (by decide) (by decide +kernel) ?_
  refine tq_setM (i := 2) (b := 281474976710912) (c := 309485009821626543701491968) (v := 16777216) (by decide) tq_dv_d.symm (by decide) (by decide +kernel) ?_
  have h8 : ∀ i, upd (tq_ba 0) i 0 = tq_ba 0 := by
    rw [tq_z1]; exact tq_u0
  refine tq_emit0 h8 ?_
  refine tq_emit1 h8 ?_
  refine tq_emit2 h8 ?_
  refine tq_emit3 h8 ?_
  refine tq_emit4 h8 ?_
  refine tq_emit5 h8 ?_
  refine tq_emit6 h8 ?_
  refine tq_emit7 h8 ?_
  refine tq_emit8 h8 ?_
  have ha := hall (1 + j) (by omega) (by omega)
  refine br_t rfl ?_
  by_cases g0 : 0 ≤ x4
  · refine br_t g0 ?_
    by_cases g1 : x4 ≤ 150
    · obtain ⟨n, hn, e⟩ := nI_of2 (M := 150) (n := 150) (by decide) (Int32.not_lt.mpr g0) g1
      refine br_t g1 ?_
      have t := tq_180_s (post := post) (va := va) (vb := vb) (vc := vc) (x4 := x4) (mc := 124) (ms := 1968) (kc := 1 + 22) (ks := 30 + 275) (n := n) hp (by omega) (by omega) (Or.inr (Or.inr ⟨g0, g1, e⟩)) hn ha
      rw [← e] at t
      exact t
    · exact br_f g1 (tq_180_s (n := 150) hp (by omega) (by omega) (Or.inr (Or.inl ⟨g0, g1, rfl⟩)) (by decide) ha)
  · exact br_f g0 (tq_180_s (n := 0) hp (by omega) (by omega) (Or.inl ⟨g0, rfl⟩) (by decide) ha)
theorem tq_cellAt {post : Int32 → Prop} {L i : Nat} {xs : Nat → Int32} (hL : L ≤ 5) (hi : i < 5) (hp : ∀ v, post v) : wpL_cellAt post L xs () (nI i) := by
  refine br_c (fun _ => hp _) (fun g => ⟨?_, hp _⟩)
  have l : i < L := by
    rcases Nat.lt_or_ge i L with h | h
    · exact h
    · exact absurd (nI_le h (by omega)) g
  exact vp_in_nI l (by omega)
end
section
theorem tq_ok (k : Nat) (h1 : 1 ≤ k) (h8 : k ≤ 8) : tq_all k (8 * k) = true := by
  have t : k = 1 ∨ k = 2 ∨ k = 3 ∨ k = 4 ∨ k = 5 ∨ k = 6 ∨ k = 7 ∨ k = 8 := by omega
  rcases t with e | e | e | e | e | e | e | e
  · subst e; exact tq_ok1
  · subst e; exact tq_ok2
  · subst e; exact tq_ok3
  · subst e; exact tq_ok4
  · subst e; exact tq_ok5
  · subst e; exact tq_ok6
  · subst e; exact tq_ok7
  · subst e; exact tq_ok8
theorem i_vc (xs : Nat → Int32) (L : Nat) (hL : L ≤ 5) : wpL_law (fun r => r = 1) L xs :=
  tq_cellAt (i := 0) hL (by decide) (fun _ => tq_cellAt (i := 1) hL (by decide) (fun _ => tq_cellAt (i := 2) hL (by decide) (fun _ => tq_cellAt (i := 3) hL (by decide) (fun _ => tq_cellAt (i := 4) hL (by decide) (fun _ => ⟨124, 1968, by decide, by decide, tq_lawOf_s rfl tq_ok⟩)))))
end
