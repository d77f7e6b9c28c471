section
/-! ===== numbers as rows of three-bit digits; all of it so that the kernel evaluates it fast ===== -/
/-- n is evaluated first, then k is applied to it -/
noncomputable def rs_fc {α : Type} (n : Nat) (k : Nat → α) : α := Nat.rec (motive := fun _ => α) (k (nat_lit 0)) (fun m _ => k (Nat.succ m)) n
theorem rs_fc_e {α : Type} (n : Nat) (k : Nat → α) : rs_fc n k = k n := by
  cases n <;> rfl
/-- a if n is 0, else b -/
noncomputable def rs_z {α : Type} (n : Nat) (a b : α) : α := Nat.rec (motive := fun _ => α) a (fun _ _ => b) n
theorem rs_z0 {α : Type} {n : Nat} (a b : α) (h : n = 0) : rs_z n a b = a := by
  subst h
  rfl
theorem rs_zs {α : Type} {n : Nat} (a b : α) (h : n ≠ 0) : rs_z n a b = b := by
  cases n with
  | zero => exact absurd rfl h
  | succ n => rfl
def rs_dg (R k : Nat) : Nat := Nat.mod (Nat.shiftRight R (Nat.mul (nat_lit 3) k)) (nat_lit 8)
def rs_tm (a b : Nat) : Nat := Nat.mod (Nat.shiftRight (nat_lit 2821848294356612419217921029917578219971947684264937521152) (Nat.mul (nat_lit 3) (Nat.add (Nat.mul (nat_lit 8) a) b))) (nat_lit 8)
def rs_ov (a b : Nat) : Nat := Nat.mod (Nat.shiftRight (nat_lit 1047628189932426741136043465902155670087605318451074170880) (Nat.mul (nat_lit 3) (Nat.add (Nat.mul (nat_lit 8) a) b))) (nat_lit 8)
def rs_P : Nat := nat_lit 7683196839697
def rs_X : Nat := nat_lit 11740736
def rs_xp (R k v : Nat) : Nat := Nat.xor R (Nat.shiftLeft v (Nat.mul (nat_lit 3) k))
theorem rs_dg_def (R k : Nat) : rs_dg R k = (R >>> (3 * k)) % 8 := rfl
theorem rs_dg_lt (R k : Nat) : rs_dg R k < 8 := Nat.mod_lt _ (by decide)
theorem rs_tm_lt (a b : Nat) : rs_tm a b < 8 := Nat.mod_lt _ (by decide)
theorem rs_ov_lt (a b : Nat) : rs_ov a b < 8 := Nat.mod_lt _ (by decide)
theorem rs_xor_lt {a b : Nat} (ha : a < 8) (hb : b < 8) : a ^^^ b < 8 := Nat.xor_lt_two_pow (n := 3) ha hb
theorem rs_xp_def (R k v : Nat) : rs_xp R k v = R ^^^ (v <<< (3 * k)) := rfl
theorem rs_dg_xor (A B k : Nat) : rs_dg (A ^^^ B) k = rs_dg A k ^^^ rs_dg B k := by
  rw [rs_dg_def, rs_dg_def, rs_dg_def, Nat.shiftRight_xor_distrib]
  exact Nat.xor_mod_two_pow (n := 3)
theorem rs_dg_sh {v k j : Nat} (hv : v < 8) : rs_dg (v <<< (3 * k)) j = if j = k then v else 0 := by
  rw [rs_dg_def]
  apply Nat.eq_of_testBit_eq
  intro i
  rw [show (8 : Nat) = 2 ^ 3 from rfl, Nat.testBit_mod_two_pow, Nat.testBit_shiftRight, Nat.testBit_shiftLeft]
  have big : ∀ m, 3 ≤ m → v.testBit m = false := fun m hm => Nat.testBit_lt_two_pow (Nat.lt_of_lt_of_le (show v < 2 ^ 3 from hv) (Nat.pow_le_pow_right (by decide) hm))
  by_cases hi : i < 3
  · by_cases e : j = k
    · subst e
      rw [if_pos rfl, show 3 * j + i - 3 * j = i by omega]
      simp [hi]
    · rw [if_neg e]
      rcases Nat.lt_or_ge j k with h | h
      · have : ¬ 3 * k ≤ 3 * j + i := by omega
        simp [this]
      · rw [big _ (by omega)]
        simp
  · by_cases e : j = k
    · rw [if_pos e, big i (by omega)]
      simp [hi]
    · rw [if_neg e]
      simp [hi]
theorem rs_dg_xp {R k v j : Nat} (hv : v < 8) : rs_dg (rs_xp R k v) j = if j = k then rs_dg R k ^^^ v else rs_dg R j := by
  rw [rs_xp_def, rs_dg_xor, rs_dg_sh hv]
  by_cases e : j = k
  · rw [if_pos e, if_pos e, e]
  · rw [if_neg e, if_neg e, Nat.xor_zero]
theorem rs_dg_shl3 (H k : Nat) : rs_dg (Nat.shiftLeft H 3) (k + 1) = rs_dg H k := by
  show ((H <<< 3) >>> (3 * (k + 1))) % 8 = (H >>> (3 * k)) % 8
  rw [show 3 * (k + 1) = 3 + 3 * k by omega, Nat.shiftRight_add, Nat.shiftLeft_shiftRight]
theorem rs_dg_shl0 (H : Nat) : rs_dg (Nat.shiftLeft H 3) 0 = 0 := by
  show ((H <<< 3) >>> 0) % 8 = 0
  rw [Nat.shiftLeft_eq]
  show (H * 8) % 8 = 0
  exact Nat.mul_mod_left H 8
/-- the row of f's values at 0 .. n - 1, above it acc -/
noncomputable def rs_tb (f : Nat → Nat) (n : Nat) : Nat → Nat := Nat.rec (motive := fun _ => Nat → Nat) (fun acc => acc) (fun i ih acc => rs_fc (f i) fun v => rs_fc (Nat.add (Nat.mul (nat_lit 8) acc) v) ih) n
theorem rs_tb_s (f : Nat → Nat) (n acc : Nat) : rs_tb f (n + 1) acc = rs_tb f n (8 * acc + f n) := by
  show rs_fc (f n) (fun v => rs_fc (Nat.add (Nat.mul 8 acc) v) (rs_tb f n)) = _
  rw [rs_fc_e, rs_fc_e]
  rfl
theorem rs_dg_up (acc v j : Nat) (hv : v < 8) : rs_dg (8 * acc + v) (j + 1) = rs_dg acc j := by
  rw [rs_dg_def, rs_dg_def, show 3 * (j + 1) = 3 + 3 * j by omega, Nat.shiftRight_add, Nat.shiftRight_eq_div_pow _ 3]
  rw [show (8 * acc + v) / 2 ^ 3 = acc by omega]
theorem rs_dg_u0 (acc v : Nat) (hv : v < 8) : rs_dg (8 * acc + v) 0 = v := by
  show ((8 * acc + v) >>> 0) % 8 = v
  rw [Nat.shiftRight_zero]
  omega
theorem rs_tb_hi (f : Nat → Nat) (n : Nat) : ∀ acc j, (∀ i, i < n → f i < 8) → rs_dg (rs_tb f n acc) (n + j) = rs_dg acc j := by
  induction n with
  | zero =>
    intro acc j _
    rw [Nat.zero_add]
    rfl
  | succ n ih =>
    intro acc j h
    rw [rs_tb_s, show n + 1 + j = n + (j + 1) by omega, ih _ _ (fun i hi => h i (by omega)), rs_dg_up _ _ _ (h n (by omega))]
theorem rs_tb_lo (f : Nat → Nat) (n : Nat) : ∀ acc k, (∀ i, i < n → f i < 8) → k < n → rs_dg (rs_tb f n acc) k = f k := by
  induction n with
  | zero =>
    intro acc k _ hk
    exact absurd hk (by omega)
  | succ n ih =>
    intro acc k h hk
    rw [rs_tb_s]
    by_cases e : k = n
    · subst e
      have t := rs_tb_hi f k (8 * acc + f k) 0 (fun i hi => h i (by omega))
      rw [Nat.add_zero] at t
      rw [t, rs_dg_u0 _ _ (h k (by omega))]
    · exact ih _ _ (fun i hi => h i (by omega)) (by omega)
/-- the product, the quotient and the two tables -/
theorem rs_tm_tab0 : ∀ a, a < 8 → rs_tm 0 a = 0 ∧ rs_tm a 0 = 0 ∧ rs_ov 0 a = 0 := by decide +kernel
theorem rs_tm_tab1 : ∀ a, a < 8 → ∀ b, b < 8 → a = 0 ∨ b = 0 ∨ (rs_dg rs_X a + rs_dg rs_X b < 14 ∧ rs_dg rs_P (rs_dg rs_X a + rs_dg rs_X b) = rs_tm a b) := by decide +kernel
theorem rs_ov_tab1 : ∀ a, a < 8 → ∀ b, b < 8 → a = 0 ∨ (rs_dg rs_X b ≤ rs_dg rs_X a + 7 ∧ rs_dg rs_X a + 7 - rs_dg rs_X b < 14 ∧ rs_dg rs_P (rs_dg rs_X a + 7 - rs_dg rs_X b) = rs_ov a b) := by decide +kernel
theorem rs_tm_tab (a : Nat) (ha : a < 8) (b : Nat) (hb : b < 8) : (a = 0 → rs_tm a b = 0) ∧ (b = 0 → rs_tm a b = 0) ∧ (a ≠ 0 → b ≠ 0 → rs_dg rs_X a + rs_dg rs_X b < 14 ∧ rs_dg rs_P (rs_dg rs_X a + rs_dg rs_X b) = rs_tm a b) := by
  refine ⟨fun e => ?_, fun e => ?_, fun h1 h2 => ?_⟩
  · rw [e]; exact (rs_tm_tab0 b hb).1
  · rw [e]; exact (rs_tm_tab0 a ha).2.1
  · rcases rs_tm_tab1 a ha b hb with e | e | e
    · exact absurd e h1
    · exact absurd e h2
    · exact e
theorem rs_ov_tab (a : Nat) (ha : a < 8) (b : Nat) (hb : b < 8) : (a = 0 → rs_ov a b = 0) ∧ (a ≠ 0 → rs_dg rs_X b ≤ rs_dg rs_X a + 7 ∧ rs_dg rs_X a + 7 - rs_dg rs_X b < 14 ∧ rs_dg rs_P (rs_dg rs_X a + 7 - rs_dg rs_X b) = rs_ov a b) := by
  refine ⟨fun e => ?_, fun h1 => ?_⟩
  · rw [e]; exact (rs_tm_tab0 b hb).2.2
  · rcases rs_ov_tab1 a ha b hb with e | e
    · exact absurd e h1
    · exact e
theorem rs_tm_lin : ∀ a, a < 8 → ∀ b, b < 8 → ∀ z, z < 8 → rs_tm (a ^^^ b) z = rs_tm a z ^^^ rs_tm b z := by decide +kernel
theorem nx_xor (a b : Nat) : nI a ^^^ nI b = nI (a ^^^ b) := by
  apply Int32.toBitVec_inj.1
  show BitVec.ofNat 32 a ^^^ BitVec.ofNat 32 b = BitVec.ofNat 32 (a ^^^ b)
  apply BitVec.eq_of_getLsbD_eq
  intro i hi
  simp [hi]
/-! ===== what the class computes, over such rows ===== -/
/-- valueOf: the row V at z -/
noncomputable def rs_vo (V z n : Nat) : Nat → Nat := Nat.rec (motive := fun _ => Nat → Nat) (fun s => s) (fun i ih s => rs_fc (rs_tm s z) fun t => rs_fc (rs_dg V i) fun d => rs_fc (Nat.xor t d) ih) n
theorem rs_vo_s (V z n s : Nat) : rs_vo V z (n + 1) s = rs_vo V z n (rs_tm s z ^^^ rs_dg V n) := by
  show rs_fc (rs_tm s z) (fun t => rs_fc (rs_dg V n) fun d => rs_fc (Nat.xor t d) (rs_vo V z n)) = _
  rw [rs_fc_e, rs_fc_e, rs_fc_e]
  rfl
theorem rs_vo_lt (V z n : Nat) : ∀ s, s < 8 → rs_vo V z n s < 8 := by
  induction n with
  | zero => exact fun s h => h
  | succ n ih =>
    intro s h
    rw [rs_vo_s]
    exact ih _ (rs_xor_lt (rs_tm_lt _ _) (rs_dg_lt _ _))
theorem rs_vo_lin (A B z n : Nat) (hz : z < 8) : ∀ s t, s < 8 → t < 8 → rs_vo (A ^^^ B) z n (s ^^^ t) = rs_vo A z n s ^^^ rs_vo B z n t := by
  induction n with
  | zero => exact fun s t _ _ => rfl
  | succ n ih =>
    intro s t hs ht
    rw [rs_vo_s, rs_vo_s, rs_vo_s, ← ih _ _ (rs_xor_lt (rs_tm_lt _ _) (rs_dg_lt _ _)) (rs_xor_lt (rs_tm_lt _ _) (rs_dg_lt _ _)), rs_tm_lin s hs t ht z hz, rs_dg_xor]
    congr 1
    rw [Nat.xor_assoc, Nat.xor_assoc]
    congr 1
    rw [← Nat.xor_assoc, ← Nat.xor_assoc]
    congr 1
    exact Nat.xor_comm _ _
noncomputable def rs_vl (V z : Nat) : Nat := rs_vo V z (nat_lit 7) (nat_lit 0)
theorem rs_vl_lt (V z : Nat) : rs_vl V z < 8 := rs_vo_lt V z 7 0 (by decide)
theorem rs_vl_lin (A B z : Nat) (hz : z < 8) : rs_vl (A ^^^ B) z = rs_vl A z ^^^ rs_vl B z := rs_vo_lin A B z 7 hz 0 0 (by decide) (by decide)
/-- the values at the four roots, digits 1 .. 4 -/
noncomputable def rs_sy (V : Nat) : Nat := rs_tb (fun j => rs_z j (nat_lit 0) (rs_fc (rs_dg rs_P j) fun z => rs_vl V z)) (nat_lit 5) (nat_lit 0)
theorem rs_sy_f (V j : Nat) (hj : 1 ≤ j) : rs_z j 0 (rs_fc (rs_dg rs_P j) fun z => rs_vl V z) = rs_vl V (rs_dg rs_P j) := by
  rw [rs_zs _ _ (by omega), rs_fc_e]
theorem rs_sy_dg (V j : Nat) (h1 : 1 ≤ j) (h5 : j < 5) : rs_dg (rs_sy V) j = rs_vl V (rs_dg rs_P j) := by
  have t := rs_tb_lo (fun j => rs_z j 0 (rs_fc (rs_dg rs_P j) fun z => rs_vl V z)) 5 0 j (fun i hi => by
    show rs_z i 0 (rs_fc (rs_dg rs_P i) fun z => rs_vl V z) < 8
    by_cases e : i = 0
    · rw [rs_z0 _ _ e]
      decide
    · rw [rs_sy_f V i (by omega)]
      exact rs_vl_lt _ _) h5
  exact t.trans (rs_sy_f V j h1)
end
section
theorem rs_tb_c (f g : Nat → Nat) (n : Nat) : ∀ acc, (∀ i, i < n → f i = g i) → rs_tb f n acc = rs_tb g n acc := by
  induction n with
  | zero => exact fun _ _ => rfl
  | succ n ih =>
    intro acc h
    rw [rs_tb_s, rs_tb_s, h n (by omega), ih _ (fun i hi => h i (by omega))]
/-- one missing place z: rule[k] ^= rule[k - 1] * z, k from n down to 1 -/
noncomputable def rs_ei (z n : Nat) : Nat → Nat := Nat.rec (motive := fun _ => Nat → Nat) (fun R => R) (fun i ih R => rs_fc (rs_dg R i) fun d => rs_fc (rs_tm d z) fun t => rs_fc (rs_xp R (Nat.succ i) t) ih) n
theorem rs_ei_s (z n R : Nat) : rs_ei z (n + 1) R = rs_ei z n (rs_xp R (n + 1) (rs_tm (rs_dg R n) z)) := by
  show rs_fc (rs_dg R n) (fun d => rs_fc (rs_tm d z) fun t => rs_fc (rs_xp R (Nat.succ n) t) (rs_ei z n)) = _
  rw [rs_fc_e, rs_fc_e, rs_fc_e]
/-- the missing places p, p + 1 .., n of them -/
noncomputable def rs_er (M n : Nat) : Nat → Nat → Nat := Nat.rec (motive := fun _ => Nat → Nat → Nat) (fun _ R => R) (fun _ ih p R => rs_fc (rs_z (rs_dg M p) R (rs_fc (rs_dg rs_P p) fun z => rs_ei z (nat_lit 9) R)) fun R' => rs_fc (Nat.succ p) fun p' => ih p' R') n
theorem rs_er_s (M n p R : Nat) : rs_er M (n + 1) p R = rs_er M n (p + 1) (rs_z (rs_dg M p) R (rs_ei (rs_dg rs_P p) 9 R)) := by
  show rs_fc (rs_z (rs_dg M p) R (rs_fc (rs_dg rs_P p) fun z => rs_ei z 9 R)) (fun R' => rs_fc (Nat.succ p) fun p' => rs_er M n p' R') = _
  rw [rs_fc_e, rs_fc_e, rs_fc_e]
/-- the sum of rule[k] * syndrome[r - k], n of them from k on -/
noncomputable def rs_gp (R S r n : Nat) : Nat → Nat → Nat := Nat.rec (motive := fun _ => Nat → Nat → Nat) (fun _ g => g) (fun _ ih k g => rs_fc (rs_dg R k) fun a => rs_fc (Nat.sub r k) fun j => rs_fc (rs_dg S j) fun b => rs_fc (rs_tm a b) fun t => rs_fc (Nat.xor g t) fun g' => rs_fc (Nat.succ k) fun k' => ih k' g') n
theorem rs_gp_s (R S r n k g : Nat) : rs_gp R S r (n + 1) k g = rs_gp R S r n (k + 1) (g ^^^ rs_tm (rs_dg R k) (rs_dg S (r - k))) := by
  show rs_fc (rs_dg R k) (fun a => rs_fc (Nat.sub r k) fun j => rs_fc (rs_dg S j) fun b => rs_fc (rs_tm a b) fun t => rs_fc (Nat.xor g t) fun g' => rs_fc (Nat.succ k) fun k' => rs_gp R S r n k' g') = _
  rw [rs_fc_e, rs_fc_e, rs_fc_e, rs_fc_e, rs_fc_e, rs_fc_e]
  rfl
theorem rs_gp_lt (R S r n : Nat) : ∀ k g, g < 8 → rs_gp R S r n k g < 8 := by
  induction n with
  | zero => exact fun _ g h => h
  | succ n ih =>
    intro k g h
    rw [rs_gp_s]
    exact ih _ _ (rs_xor_lt h (rs_tm_lt _ _))
/-- a row times g; a row over g -/
noncomputable def rs_sm (g H : Nat) : Nat := rs_tb (fun k => rs_fc (rs_dg H k) fun d => rs_tm g d) (nat_lit 10) (nat_lit 0)
noncomputable def rs_so (g R : Nat) : Nat := rs_tb (fun k => rs_fc (rs_dg R k) fun d => rs_ov d g) (nat_lit 10) (nat_lit 0)
theorem rs_sm_dg (g H k : Nat) (hk : k < 10) : rs_dg (rs_sm g H) k = rs_tm g (rs_dg H k) := by
  have t := rs_tb_lo (fun k => rs_fc (rs_dg H k) fun d => rs_tm g d) 10 0 k (fun i _ => by
    show rs_fc (rs_dg H i) (fun d => rs_tm g d) < 8
    rw [rs_fc_e]
    exact rs_tm_lt _ _) hk
  exact t.trans (rs_fc_e _ _)
theorem rs_so_dg (g R k : Nat) (hk : k < 10) : rs_dg (rs_so g R) k = rs_ov (rs_dg R k) g := by
  have t := rs_tb_lo (fun k => rs_fc (rs_dg R k) fun d => rs_ov d g) 10 0 k (fun i _ => by
    show rs_fc (rs_dg R i) (fun d => rs_ov d g) < 8
    rw [rs_fc_e]
    exact rs_ov_lt _ _) hk
  exact t.trans (rs_fc_e _ _)
/-- the rule, from value r on, n values; l: the length -/
noncomputable def rs_bm (S lo n : Nat) : Nat → Nat → Nat → Nat → Nat := Nat.rec (motive := fun _ => Nat → Nat → Nat → Nat → Nat) (fun _ R _ _ => R)
  (fun _ ih r R H l => rs_fc (rs_gp R S r r (nat_lit 0) (nat_lit 0)) fun g => rs_fc (Nat.shiftLeft H (nat_lit 3)) fun H' => rs_fc (Nat.succ r) fun r' =>
    rs_z g (ih r' R H' l) (rs_fc (Nat.xor R (rs_sm g H')) fun R' =>
      rs_z (Nat.sub (Nat.mul (nat_lit 2) l) (Nat.sub (Nat.add r lo) (nat_lit 1)))
        (rs_fc (rs_so g R) fun H'' => rs_fc (Nat.sub (Nat.add r lo) l) fun l' => ih r' R' H'' l')
        (ih r' R' H' l))) n
theorem rs_bm_s (S lo n r R H l : Nat) : rs_bm S lo (n + 1) r R H l =
    rs_z (rs_gp R S r r 0 0) (rs_bm S lo n (r + 1) R (Nat.shiftLeft H 3) l)
      (rs_z (2 * l - (r + lo - 1))
        (rs_bm S lo n (r + 1) (R ^^^ rs_sm (rs_gp R S r r 0 0) (Nat.shiftLeft H 3)) (rs_so (rs_gp R S r r 0 0) R) (r + lo - l))
        (rs_bm S lo n (r + 1) (R ^^^ rs_sm (rs_gp R S r r 0 0) (Nat.shiftLeft H 3)) (Nat.shiftLeft H 3) l)) := by
  show rs_fc (rs_gp R S r r 0 0) (fun g => rs_fc (Nat.shiftLeft H 3) fun H' => rs_fc (Nat.succ r) fun r' =>
    rs_z g (rs_bm S lo n r' R H' l) (rs_fc (Nat.xor R (rs_sm g H')) fun R' =>
      rs_z (Nat.sub (Nat.mul 2 l) (Nat.sub (Nat.add r lo) 1))
        (rs_fc (rs_so g R) fun H'' => rs_fc (Nat.sub (Nat.add r lo) l) fun l' => rs_bm S lo n r' R' H'' l')
        (rs_bm S lo n r' R' H' l))) = _
  rw [rs_fc_e, rs_fc_e, rs_fc_e, rs_fc_e, rs_fc_e, rs_fc_e]
  rfl
/-- the numerator -/
noncomputable def rs_nm (R S : Nat) : Nat := rs_tb (fun k => rs_fc (Nat.succ k) fun r => rs_gp R S r r (nat_lit 0) (nat_lit 0)) (nat_lit 4) (nat_lit 0)
theorem rs_nm_dg (R S k : Nat) (hk : k < 4) : rs_dg (rs_nm R S) k = rs_gp R S (k + 1) (k + 1) 0 0 := by
  have t := rs_tb_lo (fun k => rs_fc (Nat.succ k) fun r => rs_gp R S r r 0 0) 4 0 k (fun i _ => by
    show rs_fc (Nat.succ i) (fun r => rs_gp R S r r 0 0) < 8
    rw [rs_fc_e]
    exact rs_gp_lt _ _ _ _ _ _ (by decide)) hk
  exact t.trans (rs_fc_e _ _)
/-- correct's loop, n turns from k on, and what it adds to the place: w is the place's power -/
noncomputable def rs_cl (R N bk w n : Nat) : Nat → Nat → Nat → Nat → Nat → Nat := Nat.rec (motive := fun _ => Nat → Nat → Nat → Nat → Nat → Nat)
  (fun _ s o u _ => rs_z s (rs_z o (nat_lit 0) (rs_fc (rs_tm o w) fun e => rs_ov u e)) (nat_lit 0))
  (fun _ ih k s o u x => rs_fc (rs_dg R k) fun d => rs_fc (rs_tm d x) fun t => rs_fc (Nat.xor s t) fun s' => rs_fc (rs_z (Nat.mod k (nat_lit 2)) o (Nat.xor o t)) fun o' =>
    rs_fc (rs_z (Nat.sub (nat_lit 4) k) u (rs_fc (rs_dg N k) fun c => rs_fc (rs_tm c x) fun y => Nat.xor u y)) fun u' => rs_fc (rs_tm x bk) fun x' => rs_fc (Nat.succ k) fun k' => ih k' s' o' u' x') n
theorem rs_cl_0 (R N bk w k s o u x : Nat) : rs_cl R N bk w 0 k s o u x = rs_z s (rs_z o 0 (rs_ov u (rs_tm o w))) 0 := by
  show rs_z s (rs_z o 0 (rs_fc (rs_tm o w) fun e => rs_ov u e)) 0 = _
  rw [rs_fc_e]
theorem rs_cl_s (R N bk w n k s o u x : Nat) : rs_cl R N bk w (n + 1) k s o u x =
    rs_cl R N bk w n (k + 1) (s ^^^ rs_tm (rs_dg R k) x) (rs_z (k % 2) o (o ^^^ rs_tm (rs_dg R k) x)) (rs_z (4 - k) u (u ^^^ rs_tm (rs_dg N k) x)) (rs_tm x bk) := by
  show rs_fc (rs_dg R k) (fun d => rs_fc (rs_tm d x) fun t => rs_fc (Nat.xor s t) fun s' => rs_fc (rs_z (Nat.mod k 2) o (Nat.xor o t)) fun o' =>
    rs_fc (rs_z (Nat.sub 4 k) u (rs_fc (rs_dg N k) fun c => rs_fc (rs_tm c x) fun y => Nat.xor u y)) fun u' => rs_fc (rs_tm x bk) fun x' => rs_fc (Nat.succ k) fun k' => rs_cl R N bk w n k' s' o' u' x') = _
  rw [rs_fc_e, rs_fc_e, rs_fc_e, rs_fc_e, rs_fc_e, rs_fc_e, rs_fc_e, rs_fc_e, rs_fc_e]
  rfl
theorem rs_cl_lt (R N bk w n : Nat) : ∀ k s o u x, rs_cl R N bk w n k s o u x < 8 := by
  induction n with
  | zero =>
    intro k s o u x
    rw [rs_cl_0]
    by_cases hs : s = 0
    · rw [rs_z0 _ _ hs]
      by_cases ho : o = 0
      · rw [rs_z0 _ _ ho]
        decide
      · rw [rs_zs _ _ ho]
        exact rs_ov_lt _ _
    · rw [rs_zs _ _ hs]
      decide
  | succ n ih =>
    intro k s o u x
    rw [rs_cl_s]
    exact ih _ _ _ _ _
noncomputable def rs_co (R N p : Nat) : Nat := rs_fc (Nat.sub (nat_lit 7) p) fun q => rs_fc (rs_dg rs_P q) fun bk => rs_fc (rs_dg rs_P p) fun w => rs_cl R N bk w (nat_lit 8) (nat_lit 0) (nat_lit 0) (nat_lit 0) (nat_lit 0) (nat_lit 1)
theorem rs_co_e (R N p : Nat) : rs_co R N p = rs_cl R N (rs_dg rs_P (7 - p)) (rs_dg rs_P p) 8 0 0 0 0 1 := by
  show rs_fc (Nat.sub 7 p) (fun q => rs_fc (rs_dg rs_P q) fun bk => rs_fc (rs_dg rs_P p) fun w => rs_cl R N bk w 8 0 0 0 0 1) = _
  rw [rs_fc_e, rs_fc_e, rs_fc_e]
  rfl
theorem rs_co_lt (R N p : Nat) : rs_co R N p < 8 := by
  rw [rs_co_e]
  exact rs_cl_lt _ _ _ _ _ _ _ _ _ _
noncomputable def rs_fw (R N : Nat) : Nat := rs_tb (fun p => rs_co R N p) (nat_lit 7) (nat_lit 0)
theorem rs_fw_dg (R N p : Nat) (hp : p < 7) : rs_dg (rs_fw R N) p = rs_co R N p := rs_tb_lo (fun p => rs_co R N p) 7 0 p (fun i _ => rs_co_lt R N i) hp
/-- how many are missing; how many places that aren't missing are changed -/
noncomputable def rs_lc (M n : Nat) : Nat → Nat → Nat := Nat.rec (motive := fun _ => Nat → Nat → Nat) (fun _ c => c) (fun _ ih p c => rs_fc (rs_z (rs_dg M p) c (Nat.succ c)) fun c' => rs_fc (Nat.succ p) fun p' => ih p' c') n
theorem rs_lc_s (M n p c : Nat) : rs_lc M (n + 1) p c = rs_lc M n (p + 1) (rs_z (rs_dg M p) c (c + 1)) := by
  show rs_fc (rs_z (rs_dg M p) c (Nat.succ c)) (fun c' => rs_fc (Nat.succ p) fun p' => rs_lc M n p' c') = _
  rw [rs_fc_e, rs_fc_e]
noncomputable def rs_lo (M : Nat) : Nat := rs_lc M (nat_lit 7) (nat_lit 0) (nat_lit 0)
noncomputable def rs_dd (F M n : Nat) : Nat → Nat → Nat := Nat.rec (motive := fun _ => Nat → Nat → Nat) (fun _ c => c) (fun _ ih p c => rs_fc (rs_z (rs_dg M p) (rs_z (rs_dg F p) c (Nat.succ c)) c) fun c' => rs_fc (Nat.succ p) fun p' => ih p' c') n
theorem rs_dd_s (F M n p c : Nat) : rs_dd F M (n + 1) p c = rs_dd F M n (p + 1) (rs_z (rs_dg M p) (rs_z (rs_dg F p) c (c + 1)) c) := by
  show rs_fc (rs_z (rs_dg M p) (rs_z (rs_dg F p) c (Nat.succ c)) c) (fun c' => rs_fc (Nat.succ p) fun p' => rs_dd F M n p' c') = _
  rw [rs_fc_e, rs_fc_e]
noncomputable def rs_df (F M : Nat) : Nat := rs_dd F M (nat_lit 7) (nat_lit 0) (nat_lit 0)
/-- the rule out of values and missing places; what is added to the word -/
noncomputable def rs_rl (S M : Nat) : Nat := rs_fc (rs_lo M) fun lo => rs_fc (rs_er M (nat_lit 7) (nat_lit 0) (nat_lit 1)) fun R0 => rs_fc (Nat.sub (nat_lit 4) lo) fun n => rs_fc (Nat.succ lo) fun r => rs_bm S lo n r R0 R0 lo
theorem rs_rl_e (S M : Nat) : rs_rl S M = rs_bm S (rs_lo M) (4 - rs_lo M) (rs_lo M + 1) (rs_er M 7 0 1) (rs_er M 7 0 1) (rs_lo M) := by
  show rs_fc (rs_lo M) (fun lo => rs_fc (rs_er M 7 0 1) fun R0 => rs_fc (Nat.sub 4 lo) fun n => rs_fc (Nat.succ lo) fun r => rs_bm S lo n r R0 R0 lo) = _
  rw [rs_fc_e, rs_fc_e, rs_fc_e, rs_fc_e]
  rfl
noncomputable def rs_dc (S M : Nat) : Nat := rs_fc (rs_rl S M) fun R => rs_fc (rs_nm R S) fun N => rs_fw R N
theorem rs_dc_e (S M : Nat) : rs_dc S M = rs_fw (rs_rl S M) (rs_nm (rs_rl S M) S) := by
  show rs_fc (rs_rl S M) (fun R => rs_fc (rs_nm R S) fun N => rs_fw R N) = _
  rw [rs_fc_e, rs_fc_e]
/-! ===== the code words ===== -/
theorem rs_sy_add (C E : Nat) (hC : rs_sy C = 0) : rs_sy (C ^^^ E) = rs_sy E := by
  refine rs_tb_c _ _ 5 0 (fun j hj => ?_)
  show rs_z j 0 (rs_fc (rs_dg rs_P j) fun z => rs_vl (C ^^^ E) z) = rs_z j 0 (rs_fc (rs_dg rs_P j) fun z => rs_vl E z)
  by_cases e : j = 0
  · rw [rs_z0 _ _ e, rs_z0 _ _ e]
  · have h0 : rs_vl C (rs_dg rs_P j) = 0 := by
      rw [← rs_sy_dg C j (by omega) hj, hC]
      show (0 >>> (3 * j)) % 8 = 0
      rw [Nat.zero_shiftRight]
    rw [rs_sy_f _ _ (by omega), rs_sy_f _ _ (by omega), rs_vl_lin _ _ _ (rs_dg_lt _ _), h0, Nat.zero_xor]
theorem rs_sy_0 (V : Nat) (h : ∀ j, 1 ≤ j → j < 5 → rs_vl V (rs_dg rs_P j) = 0) : rs_sy V = 0 := by
  have t : rs_sy V = rs_tb (fun _ => 0) 5 0 := by
    refine rs_tb_c _ _ 5 0 (fun j hj => ?_)
    show rs_z j 0 (rs_fc (rs_dg rs_P j) fun z => rs_vl V z) = 0
    by_cases e : j = 0
    · rw [rs_z0 _ _ e]
    · rw [rs_sy_f _ _ (by omega), h j (by omega) hj]
  rw [t]
  rfl
theorem rs_vl_of (V j : Nat) (h : rs_sy V = 0) (h1 : 1 ≤ j) (h5 : j < 5) : rs_vl V (rs_dg rs_P j) = 0 := by
  rw [← rs_sy_dg V j h1 h5, h]
  show (0 >>> (3 * j)) % 8 = 0
  rw [Nat.zero_shiftRight]
theorem rs_sy_same (W F : Nat) (h : rs_sy W = rs_sy F) : rs_sy (W ^^^ F) = 0 := by
  refine rs_sy_0 _ (fun j h1 h5 => ?_)
  rw [rs_vl_lin _ _ _ (rs_dg_lt _ _), ← rs_sy_dg W j h1 h5, ← rs_sy_dg F j h1 h5, h, Nat.xor_self]
/-- divideAway: one turn over l, and the word that is sent -/
def rs_ds (w : Nat) (r : Nat × Nat × Nat × Nat) : Nat × Nat × Nat × Nat := (rs_tm (w ^^^ r.2.2.2) 3, r.1 ^^^ rs_tm (w ^^^ r.2.2.2) 2, r.2.1 ^^^ (w ^^^ r.2.2.2), r.2.2.1 ^^^ rs_tm (w ^^^ r.2.2.2) 3)
def rs_lw (a b c : Nat) : Nat × Nat × Nat × Nat := rs_ds a (rs_ds b (rs_ds c (0, 0, 0, 0)))
def rs_cf (a b c k : Nat) : Nat := if k = 0 then (rs_lw a b c).1 else if k = 1 then (rs_lw a b c).2.1 else if k = 2 then (rs_lw a b c).2.2.1 else if k = 3 then (rs_lw a b c).2.2.2 else if k = 4 then a else if k = 5 then b else c
noncomputable def rs_cw (a b c : Nat) : Nat := rs_tb (rs_cf a b c) (nat_lit 7) (nat_lit 0)
theorem rs_ds_lt (w : Nat) (r : Nat × Nat × Nat × Nat) (hw : w < 8) (h0 : r.1 < 8) (h1 : r.2.1 < 8) (h2 : r.2.2.1 < 8) (h3 : r.2.2.2 < 8) : (rs_ds w r).1 < 8 ∧ (rs_ds w r).2.1 < 8 ∧ (rs_ds w r).2.2.1 < 8 ∧ (rs_ds w r).2.2.2 < 8 :=
  ⟨rs_tm_lt _ _, rs_xor_lt h0 (rs_tm_lt _ _), rs_xor_lt h1 (rs_xor_lt hw h3), rs_xor_lt h2 (rs_tm_lt _ _)⟩
theorem rs_cf_lt (a b c : Nat) (ha : a < 8) (hb : b < 8) (hc : c < 8) (k : Nat) : rs_cf a b c k < 8 := by
  have t1 := rs_ds_lt c (0, 0, 0, 0) hc (by decide) (by decide) (by decide) (by decide)
  have t2 := rs_ds_lt b _ hb t1.1 t1.2.1 t1.2.2.1 t1.2.2.2
  have t3 := rs_ds_lt a _ ha t2.1 t2.2.1 t2.2.2.1 t2.2.2.2
  unfold rs_cf
  repeat' split
  · exact t3.1
  · exact t3.2.1
  · exact t3.2.2.1
  · exact t3.2.2.2
  · exact ha
  · exact hb
  · exact hc
theorem rs_cw_dg (a b c : Nat) (ha : a < 8) (hb : b < 8) (hc : c < 8) (k : Nat) (hk : k < 7) : rs_dg (rs_cw a b c) k = rs_cf a b c k := rs_tb_lo (rs_cf a b c) 7 0 k (fun i _ => rs_cf_lt a b c ha hb hc i) hk
theorem rs_cw_sk : ∀ a, a < 8 → ∀ b, b < 8 → ∀ c, c < 8 → rs_fc (rs_cw a b c) rs_sy = 0 := by decide +kernel
theorem rs_cw_sy (a b c : Nat) (ha : a < 8) (hb : b < 8) (hc : c < 8) : rs_sy (rs_cw a b c) = 0 := (rs_fc_e (rs_cw a b c) rs_sy).symm.trans (rs_cw_sk a ha b hb c hc)
end
section
/-! ===== what the kernel evaluates: every error that the law makes, at every set of missing places that it makes ===== -/
/-- the values of the error E at the missing places M give E again, d of it outside M -/
noncomputable def rs_ok (E M d : Nat) : Bool := rs_fc (rs_sy E) fun S => and (Nat.beq (rs_dc S M) E) (Nat.beq (rs_df E M) d)
/-- four missing places M, an error E at them and at t: what is added is at M alone -/
noncomputable def rs_o9 (E M t : Nat) : Bool := rs_fc (rs_sy E) fun S => rs_fc (rs_dc S M) fun F => and (Nat.beq (rs_sy F) S) (and (Nat.beq (rs_df F M) (nat_lit 0)) (Nat.beq (rs_dg F t) (nat_lit 0)))
/-- the first place from k on that is neither p nor q -/
def rs_nx (p q k : Nat) : Nat := if k = p ∨ k = q then (if k + 1 = p ∨ k + 1 = q then k + 2 else k + 1) else k
noncomputable def rs_st (p q r s t x y : Nat) : Bool :=
  rs_fc (rs_xp (nat_lit 0) p x) fun E1 => rs_fc (rs_xp E1 q y) fun E2 => rs_fc (rs_xp E2 r y) fun E3 => rs_fc (rs_xp E3 s x) fun E4 => rs_fc (rs_xp E4 t (nat_lit 1)) fun E5 =>
  rs_fc (rs_xp (nat_lit 0) p (nat_lit 1)) fun M1 => rs_fc (rs_xp M1 q (nat_lit 1)) fun M2 => rs_fc (rs_xp M2 r (nat_lit 1)) fun M3 => rs_fc (rs_xp M3 s (nat_lit 1)) fun M4 =>
  and (rs_ok E1 (nat_lit 0) (nat_lit 1)) (and (rs_ok E2 (nat_lit 0) (nat_lit 2)) (and (rs_ok E2 M1 (nat_lit 1)) (and (rs_ok E2 M2 (nat_lit 0)) (and (rs_ok E3 M2 (nat_lit 1)) (and (rs_ok E3 M3 (nat_lit 0)) (and (rs_ok E4 M4 (nat_lit 0)) (rs_o9 E5 M4 t)))))))
/-- the same without the order of evaluation -/
theorem rs_st_e (p q r s t x y : Nat) : rs_st p q r s t x y = and (rs_ok (rs_xp 0 p x) 0 1) (and (rs_ok (rs_xp (rs_xp 0 p x) q y) 0 2) (and (rs_ok (rs_xp (rs_xp 0 p x) q y) (rs_xp 0 p 1) 1) (and (rs_ok (rs_xp (rs_xp 0 p x) q y) (rs_xp (rs_xp 0 p 1) q 1) 0)
    (and (rs_ok (rs_xp (rs_xp (rs_xp 0 p x) q y) r y) (rs_xp (rs_xp 0 p 1) q 1) 1) (and (rs_ok (rs_xp (rs_xp (rs_xp 0 p x) q y) r y) (rs_xp (rs_xp (rs_xp 0 p 1) q 1) r 1) 0)
    (and (rs_ok (rs_xp (rs_xp (rs_xp (rs_xp 0 p x) q y) r y) s x) (rs_xp (rs_xp (rs_xp (rs_xp 0 p 1) q 1) r 1) s 1) 0) (rs_o9 (rs_xp (rs_xp (rs_xp (rs_xp (rs_xp 0 p x) q y) r y) s x) t 1) (rs_xp (rs_xp (rs_xp (rs_xp 0 p 1) q 1) r 1) s 1) t))))))) := by
  unfold rs_st
  rw [rs_fc_e, rs_fc_e, rs_fc_e, rs_fc_e, rs_fc_e, rs_fc_e, rs_fc_e, rs_fc_e, rs_fc_e]
noncomputable def rs_sv (f : Nat → Bool) : Bool := and (f (nat_lit 1)) (and (f (nat_lit 2)) (and (f (nat_lit 3)) (and (f (nat_lit 4)) (and (f (nat_lit 5)) (and (f (nat_lit 6)) (f (nat_lit 7)))))))
theorem rs_sv_t {f : Nat → Bool} (h : rs_sv f = true) {x : Nat} (h1 : 1 ≤ x) (h7 : x < 8) : f x = true := by
  unfold rs_sv at h
  simp only [Bool.and_eq_true] at h
  obtain ⟨e1, e2, e3, e4, e5, e6, e7⟩ := h
  have c : x = 1 ∨ x = 2 ∨ x = 3 ∨ x = 4 ∨ x = 5 ∨ x = 6 ∨ x = 7 := by omega
  rcases c with e | e | e | e | e | e | e
  · rw [e]; exact e1
  · rw [e]; exact e2
  · rw [e]; exact e3
  · rw [e]; exact e4
  · rw [e]; exact e5
  · rw [e]; exact e6
  · rw [e]; exact e7
noncomputable def rs_ck (p q : Nat) : Bool := rs_fc p fun p => rs_fc q fun q => rs_fc (rs_nx p q (nat_lit 0)) fun r => rs_fc (rs_nx p q (Nat.succ r)) fun s => rs_fc (rs_nx p q (Nat.succ s)) fun t => rs_sv fun x => rs_sv fun y => rs_st p q r s t x y
end
section
/-! ===== the kernel's evaluation, a row for each pair of places ===== -/
theorem rs_ck_0_1 : rs_ck 0 1 = true := by decide +kernel
theorem rs_ck_0_2 : rs_ck 0 2 = true := by decide +kernel
theorem rs_ck_0_3 : rs_ck 0 3 = true := by decide +kernel
theorem rs_ck_0_4 : rs_ck 0 4 = true := by decide +kernel
theorem rs_ck_0_5 : rs_ck 0 5 = true := by decide +kernel
theorem rs_ck_0_6 : rs_ck 0 6 = true := by decide +kernel
theorem rs_ck_1_0 : rs_ck 1 0 = true := by decide +kernel
theorem rs_ck_1_2 : rs_ck 1 2 = true := by decide +kernel
theorem rs_ck_1_3 : rs_ck 1 3 = true := by decide +kernel
theorem rs_ck_1_4 : rs_ck 1 4 = true := by decide +kernel
theorem rs_ck_1_5 : rs_ck 1 5 = true := by decide +kernel
theorem rs_ck_1_6 : rs_ck 1 6 = true := by decide +kernel
theorem rs_ck_2_0 : rs_ck 2 0 = true := by decide +kernel
theorem rs_ck_2_1 : rs_ck 2 1 = true := by decide +kernel
theorem rs_ck_2_3 : rs_ck 2 3 = true := by decide +kernel
theorem rs_ck_2_4 : rs_ck 2 4 = true := by decide +kernel
theorem rs_ck_2_5 : rs_ck 2 5 = true := by decide +kernel
theorem rs_ck_2_6 : rs_ck 2 6 = true := by decide +kernel
theorem rs_ck_3_0 : rs_ck 3 0 = true := by decide +kernel
theorem rs_ck_3_1 : rs_ck 3 1 = true := by decide +kernel
theorem rs_ck_3_2 : rs_ck 3 2 = true := by decide +kernel
theorem rs_ck_3_4 : rs_ck 3 4 = true := by decide +kernel
theorem rs_ck_3_5 : rs_ck 3 5 = true := by decide +kernel
theorem rs_ck_3_6 : rs_ck 3 6 = true := by decide +kernel
theorem rs_ck_4_0 : rs_ck 4 0 = true := by decide +kernel
theorem rs_ck_4_1 : rs_ck 4 1 = true := by decide +kernel
theorem rs_ck_4_2 : rs_ck 4 2 = true := by decide +kernel
theorem rs_ck_4_3 : rs_ck 4 3 = true := by decide +kernel
theorem rs_ck_4_5 : rs_ck 4 5 = true := by decide +kernel
theorem rs_ck_4_6 : rs_ck 4 6 = true := by decide +kernel
theorem rs_ck_5_0 : rs_ck 5 0 = true := by decide +kernel
theorem rs_ck_5_1 : rs_ck 5 1 = true := by decide +kernel
theorem rs_ck_5_2 : rs_ck 5 2 = true := by decide +kernel
theorem rs_ck_5_3 : rs_ck 5 3 = true := by decide +kernel
theorem rs_ck_5_4 : rs_ck 5 4 = true := by decide +kernel
theorem rs_ck_5_6 : rs_ck 5 6 = true := by decide +kernel
theorem rs_ck_6_0 : rs_ck 6 0 = true := by decide +kernel
theorem rs_ck_6_1 : rs_ck 6 1 = true := by decide +kernel
theorem rs_ck_6_2 : rs_ck 6 2 = true := by decide +kernel
theorem rs_ck_6_3 : rs_ck 6 3 = true := by decide +kernel
theorem rs_ck_6_4 : rs_ck 6 4 = true := by decide +kernel
theorem rs_ck_6_5 : rs_ck 6 5 = true := by decide +kernel
theorem rs_ck_0 {q : Nat} (hq : q < 7) (h : 0 ≠ q) : rs_ck 0 q = true := by
  have c : q = 0 ∨ q = 1 ∨ q = 2 ∨ q = 3 ∨ q = 4 ∨ q = 5 ∨ q = 6 := by omega
  rcases c with e | e | e | e | e | e | e
  · exact absurd e.symm h
  · rw [e]; exact rs_ck_0_1
  · rw [e]; exact rs_ck_0_2
  · rw [e]; exact rs_ck_0_3
  · rw [e]; exact rs_ck_0_4
  · rw [e]; exact rs_ck_0_5
  · rw [e]; exact rs_ck_0_6
theorem rs_ck_1 {q : Nat} (hq : q < 7) (h : 1 ≠ q) : rs_ck 1 q = true := by
  have c : q = 0 ∨ q = 1 ∨ q = 2 ∨ q = 3 ∨ q = 4 ∨ q = 5 ∨ q = 6 := by omega
  rcases c with e | e | e | e | e | e | e
  · rw [e]; exact rs_ck_1_0
  · exact absurd e.symm h
  · rw [e]; exact rs_ck_1_2
  · rw [e]; exact rs_ck_1_3
  · rw [e]; exact rs_ck_1_4
  · rw [e]; exact rs_ck_1_5
  · rw [e]; exact rs_ck_1_6
theorem rs_ck_2 {q : Nat} (hq : q < 7) (h : 2 ≠ q) : rs_ck 2 q = true := by
  have c : q = 0 ∨ q = 1 ∨ q = 2 ∨ q = 3 ∨ q = 4 ∨ q = 5 ∨ q = 6 := by omega
  rcases c with e | e | e | e | e | e | e
  · rw [e]; exact rs_ck_2_0
  · rw [e]; exact rs_ck_2_1
  · exact absurd e.symm h
  · rw [e]; exact rs_ck_2_3
  · rw [e]; exact rs_ck_2_4
  · rw [e]; exact rs_ck_2_5
  · rw [e]; exact rs_ck_2_6
theorem rs_ck_3 {q : Nat} (hq : q < 7) (h : 3 ≠ q) : rs_ck 3 q = true := by
  have c : q = 0 ∨ q = 1 ∨ q = 2 ∨ q = 3 ∨ q = 4 ∨ q = 5 ∨ q = 6 := by omega
  rcases c with e | e | e | e | e | e | e
  · rw [e]; exact rs_ck_3_0
  · rw [e]; exact rs_ck_3_1
  · rw [e]; exact rs_ck_3_2
  · exact absurd e.symm h
  · rw [e]; exact rs_ck_3_4
  · rw [e]; exact rs_ck_3_5
  · rw [e]; exact rs_ck_3_6
theorem rs_ck_4 {q : Nat} (hq : q < 7) (h : 4 ≠ q) : rs_ck 4 q = true := by
  have c : q = 0 ∨ q = 1 ∨ q = 2 ∨ q = 3 ∨ q = 4 ∨ q = 5 ∨ q = 6 := by omega
  rcases c with e | e | e | e | e | e | e
  · rw [e]; exact rs_ck_4_0
  · rw [e]; exact rs_ck_4_1
  · rw [e]; exact rs_ck_4_2
  · rw [e]; exact rs_ck_4_3
  · exact absurd e.symm h
  · rw [e]; exact rs_ck_4_5
  · rw [e]; exact rs_ck_4_6
theorem rs_ck_5 {q : Nat} (hq : q < 7) (h : 5 ≠ q) : rs_ck 5 q = true := by
  have c : q = 0 ∨ q = 1 ∨ q = 2 ∨ q = 3 ∨ q = 4 ∨ q = 5 ∨ q = 6 := by omega
  rcases c with e | e | e | e | e | e | e
  · rw [e]; exact rs_ck_5_0
  · rw [e]; exact rs_ck_5_1
  · rw [e]; exact rs_ck_5_2
  · rw [e]; exact rs_ck_5_3
  · rw [e]; exact rs_ck_5_4
  · exact absurd e.symm h
  · rw [e]; exact rs_ck_5_6
theorem rs_ck_6 {q : Nat} (hq : q < 7) (h : 6 ≠ q) : rs_ck 6 q = true := by
  have c : q = 0 ∨ q = 1 ∨ q = 2 ∨ q = 3 ∨ q = 4 ∨ q = 5 ∨ q = 6 := by omega
  rcases c with e | e | e | e | e | e | e
  · rw [e]; exact rs_ck_6_0
  · rw [e]; exact rs_ck_6_1
  · rw [e]; exact rs_ck_6_2
  · rw [e]; exact rs_ck_6_3
  · rw [e]; exact rs_ck_6_4
  · rw [e]; exact rs_ck_6_5
  · exact absurd e.symm h
theorem rs_ck_all {p q : Nat} (hp : p < 7) (hq : q < 7) (h : p ≠ q) : rs_ck p q = true := by
  have c : p = 0 ∨ p = 1 ∨ p = 2 ∨ p = 3 ∨ p = 4 ∨ p = 5 ∨ p = 6 := by omega
  rcases c with e | e | e | e | e | e | e
  · rw [e] at h ⊢; exact rs_ck_0 hq h
  · rw [e] at h ⊢; exact rs_ck_1 hq h
  · rw [e] at h ⊢; exact rs_ck_2 hq h
  · rw [e] at h ⊢; exact rs_ck_3 hq h
  · rw [e] at h ⊢; exact rs_ck_4 hq h
  · rw [e] at h ⊢; exact rs_ck_5 hq h
  · rw [e] at h ⊢; exact rs_ck_6 hq h
theorem rs_all {p q x y : Nat} (hp : p < 7) (hq : q < 7) (h : p ≠ q) (hx : 1 ≤ x) (hx8 : x < 8) (hy : 1 ≤ y) (hy8 : y < 8) : rs_st p q (rs_nx p q 0) (rs_nx p q (rs_nx p q 0 + 1)) (rs_nx p q (rs_nx p q (rs_nx p q 0 + 1) + 1)) x y = true := by
  have t := rs_ck_all hp hq h
  unfold rs_ck at t
  rw [rs_fc_e, rs_fc_e, rs_fc_e, rs_fc_e, rs_fc_e] at t
  exact rs_sv_t (rs_sv_t t hx hx8) hy hy8
end
section
/-! ===== the walks: the small methods ===== -/
/-- the array a holds the row R at its first n places -/
def rs_A (a : Nat → Int32) (n R : Nat) : Prop := ∀ k, k < n → a k = nI (rs_dg R k)
def rs_Tb (a3 a4 : Nat → Int32) : Prop := rs_A a3 14 rs_P ∧ rs_A a4 8 rs_X
theorem rs_c {k n : Nat} {a : Nat → Int32} {R : Nat} (h : rs_A a n R) (hk : k < n) (hn : n < 100) : a (nI k).toNatClampNeg = nI (rs_dg R k) := by
  rw [nI_clamp (by omega)]
  exact h k hk
theorem rs_cl' {k : Nat} (hk : k < 100) : (nI k).toNatClampNeg = k := nI_clamp (by omega)
theorem rs_fill {f g : Nat → Int32} {i : Nat} {x : Int32} (h : ∀ j, j < i → f j = g j) (hx : x = g i) : ∀ j, j < i + 1 → upd f i x j = g j := by
  intro j hj
  by_cases e : j = i
  · rw [e, pk_us, hx]
  · rw [pk_un e]
    exact h j (by omega)
theorem rs_m1 {p : Nat} (h : 0 < p) : nI p + (-1) = nI (p - 1) := by
  obtain ⟨k, rfl⟩ : ∃ k, p = k + 1 := ⟨p - 1, by omega⟩
  rw [pk_m1]
  rfl
theorem rs_times {post : Int32 → Prop} {fl fd : Int32} {a1 a2 a3 a4 a5 a6 a7 a8 a9 a10 : Nat → Int32} {a b : Nat} (ht : rs_Tb a3 a4) (ha : a < 8) (hb : b < 8) (hp : post (nI (rs_tm a b))) : wpX_times post (fl, fd, a1, a2, a3, a4, a5, a6, a7, a8, a9, a10) (nI a) (nI b) := by
  obtain ⟨e1, e2, e3⟩ := rs_tm_tab a ha b hb
  unfold wpX_times
  refine pk_eq a 0 (fun z => ?_) (fun z => pk_eq b 0 (fun y => ?_) (fun y => ?_))
  · rw [e1 z] at hp
    exact hp
  · rw [e2 y] at hp
    exact hp
  · obtain ⟨f1, f2⟩ := e3 z y
    rw [nI_clamp (show a < 2 ^ 31 by omega), nI_clamp (show b < 2 ^ 31 by omega), ht.2 a ha, ht.2 b hb, nI_add, nI_clamp (show rs_dg rs_X a + rs_dg rs_X b < 2 ^ 31 by omega), ht.1 _ f1, f2]
    exact ⟨vp_in_nI ha (by decide), vp_in_nI hb (by decide), vp_in_nI f1 (by decide), hp⟩
theorem rs_over {post : Int32 → Prop} {fl fd : Int32} {a1 a2 a3 a4 a5 a6 a7 a8 a9 a10 : Nat → Int32} {a b : Nat} (ht : rs_Tb a3 a4) (ha : a < 8) (hb : b < 8) (hp : post (nI (rs_ov a b))) : wpX_over post (fl, fd, a1, a2, a3, a4, a5, a6, a7, a8, a9, a10) (nI a) (nI b) := by
  obtain ⟨e1, e3⟩ := rs_ov_tab a ha b hb
  unfold wpX_over
  refine pk_eq a 0 (fun z => ?_) (fun z => ?_)
  · rw [e1 z] at hp
    exact hp
  · obtain ⟨f0, f1, f2⟩ := e3 z
    rw [nI_clamp (show a < 2 ^ 31 by omega), nI_clamp (show b < 2 ^ 31 by omega), ht.2 a ha, ht.2 b hb, show (7 : Int32) = nI 7 from rfl, nI_add, pk_sub f0, nI_clamp (show rs_dg rs_X a + 7 - rs_dg rs_X b < 2 ^ 31 by omega), ht.1 _ f1, f2]
    exact ⟨vp_in_nI ha (by decide), vp_in_nI hb (by decide), vp_in_nI f1 (by decide), hp⟩
theorem rs_symb {post : Int32 → Prop} {v : Nat} (hv : v < 8) (hp : post 1) : wpX_isSymbol post () (nI v) :=
  pk_lt v 0 (fun z => absurd z (by omega)) (fun _ => pk_lt 7 v (fun z => absurd z (by omega)) (fun _ => hp))
theorem rs_plc {post : Int32 → Prop} {v : Nat} (hv : v < 7) (hp : post 1) : wpX_isPlace post () (nI v) :=
  pk_lt v 0 (fun z => absurd z (by omega)) (fun _ => pk_lt 6 v (fun z => absurd z (by omega)) (fun _ => hp))
theorem rs_w1 {post : Int32 → Prop} {fl fd : Int32} {a1 a2 a3 a4 a5 a6 a7 a8 a9 a10 : Nat → Int32} {W z : Nat} (ht : rs_Tb a3 a4) (hw : rs_A a1 7 W) (hz : z < 8) (n : Nat) : ∀ s, n ≤ 7 → s < 8 → post (nI (rs_vo W z n s)) → wX_valueOf_2_6 post (nI z) fl fd a1 a2 a3 a4 a5 a6 a7 a8 a9 a10 (n + 1) (nI s) (nI n + (-1)) := by
  induction n with
  | zero => exact fun s _ _ hp => br_t (by decide +kernel) hp
  | succ i ih =>
    intro s hi hs hp
    rw [pk_m1]
    rw [rs_vo_s] at hp
    refine br_f (nI_pos (by omega)) (rs_times ht hs hz ⟨vp_in_nI (by omega) (by decide), nm_r (e' := nI (rs_tm s z ^^^ rs_dg W i)) ?_ (nm_e ?_)⟩)
    · rw [rs_c hw (by omega) (by decide), nx_xor]
    · exact ih _ (by omega) (rs_xor_lt (rs_tm_lt _ _) (rs_dg_lt _ _)) hp
theorem rs_val1 {post : Int32 → Prop} {fl fd : Int32} {a1 a2 a3 a4 a5 a6 a7 a8 a9 a10 : Nat → Int32} {W z : Nat} (ht : rs_Tb a3 a4) (hw : rs_A a1 7 W) (hz : z < 8) (hp : post (nI (rs_vl W z))) : wpX_valueOf_2 post (fl, fd, a1, a2, a3, a4, a5, a6, a7, a8, a9, a10) (nI z) := by
  have t : wX_valueOf_2_6 post (nI z) fl fd a1 a2 a3 a4 a5 a6 a7 a8 a9 a10 8 (nI 0) (nI 7 + (-1)) := rs_w1 ht hw hz 7 0 (by decide) (by decide) hp
  rw [pk_m1] at t
  exact ⟨8, t⟩
theorem rs_w10 {post : Int32 → Prop} {fl fd : Int32} {a1 a2 a3 a4 a5 a6 a7 a8 a9 a10 : Nat → Int32} {W z : Nat} (ht : rs_Tb a3 a4) (hw : rs_A a10 7 W) (hz : z < 8) (n : Nat) : ∀ s, n ≤ 7 → s < 8 → post (nI (rs_vo W z n s)) → wX_valueOf_6 post (nI z) fl fd a1 a2 a3 a4 a5 a6 a7 a8 a9 a10 (n + 1) (nI s) (nI n + (-1)) := by
  induction n with
  | zero => exact fun s _ _ hp => br_t (by decide +kernel) hp
  | succ i ih =>
    intro s hi hs hp
    rw [pk_m1]
    rw [rs_vo_s] at hp
    refine br_f (nI_pos (by omega)) (rs_times ht hs hz ⟨vp_in_nI (by omega) (by decide), nm_r (e' := nI (rs_tm s z ^^^ rs_dg W i)) ?_ (nm_e ?_)⟩)
    · rw [rs_c hw (by omega) (by decide), nx_xor]
    · exact ih _ (by omega) (rs_xor_lt (rs_tm_lt _ _) (rs_dg_lt _ _)) hp
theorem rs_val10 {post : Int32 → Prop} {fl fd : Int32} {a1 a2 a3 a4 a5 a6 a7 a8 a9 a10 : Nat → Int32} {W z : Nat} (ht : rs_Tb a3 a4) (hw : rs_A a10 7 W) (hz : z < 8) (hp : post (nI (rs_vl W z))) : wpX_valueOf post (fl, fd, a1, a2, a3, a4, a5, a6, a7, a8, a9, a10) (nI z) := by
  have t : wX_valueOf_6 post (nI z) fl fd a1 a2 a3 a4 a5 a6 a7 a8 a9 a10 8 (nI 0) (nI 7 + (-1)) := rs_w10 ht hw hz 7 0 (by decide) (by decide) hp
  rw [pk_m1] at t
  exact ⟨8, t⟩
/-! ===== the constructor ===== -/
def rs_xv (k j : Nat) : Nat := if rs_dg rs_X j < k then rs_dg rs_X j else 0
theorem rs_xv_0 : ∀ j, j < 8 → rs_xv 0 j = 0 := by decide +kernel
theorem rs_xv_in : ∀ k, k < 7 → rs_xv (k + 1) (rs_dg rs_P k) = k := by decide +kernel
theorem rs_xv_out : ∀ k, k < 7 → ∀ j, j < 8 → j ≠ rs_dg rs_P k → rs_xv (k + 1) j = rs_xv k j := by decide +kernel
theorem rs_xv_hi : ∀ k, k < 15 → 7 ≤ k → ∀ j, j < 8 → rs_xv k j = rs_dg rs_X j := by decide +kernel
theorem rs_pw_n : ∀ k, k < 14 → (rs_dg rs_P k < 4 → 2 * rs_dg rs_P k = rs_dg rs_P (k + 1)) ∧ (4 ≤ rs_dg rs_P k → (2 * rs_dg rs_P k - 8) ^^^ 3 = rs_dg rs_P (k + 1)) := by decide +kernel
theorem rs_i112 {post : St2 → Prop} {mc ms kc ks : Nat} {J : Int32 → Int32 → (Nat → Int32) → (Nat → Int32) → (Nat → Int32) → (Nat → Int32) → (Nat → Int32) → (Nat → Int32) → (Nat → Int32) → (Nat → Int32) → (Nat → Int32) → (Nat → Int32) → Prop} {fl fd : Int32} {a1 a2 a3 a4 a5 a6 a7 a8 a9 a10 : Nat → Int32} {k : Nat} (hk : k < 14) (H : J (nI (rs_dg rs_P (k + 1))) (nI (k + 1)) a1 a2 a3 a4 a5 a6 a7 a8 a9 a10) : wX_init_112 post mc ms J (nI (rs_dg rs_P k)) (nI k) kc ks fl fd a1 a2 a3 a4 a5 a6 a7 a8 a9 a10 := by
  obtain ⟨e1, e2⟩ := rs_pw_n k hk
  have h8 := rs_dg_lt rs_P k
  unfold wX_init_112
  refine pk_lt (rs_dg rs_P k) 4 (fun z => ?_) (fun z => ?_)
  · refine nm_r (e' := nI (rs_dg rs_P (k + 1))) ?_ (nm_r (nI_1 k) H)
    rw [← e1 z]
    exact pk_mul 2 _
  · refine nm_r (e' := nI (rs_dg rs_P (k + 1))) ?_ (nm_r (nI_1 k) H)
    rw [← e2 z, show (2 : Int32) = nI 2 from rfl, show (8 : Int32) = nI 8 from rfl, show (3 : Int32) = nI 3 from rfl, pk_mul, pk_sub (by omega), nx_xor]
theorem rs_i86 {post : St2 → Prop} {mc ms kc ks : Nat} {fl fd : Int32} {a1 a2 a5 a6 a7 a8 a9 a10 : Nat → Int32} (H : ∀ b3 b4, rs_Tb b3 b4 → post (fl, fd, a1, a2, b3, b4, a5, a6, a7, a8, a9, a10)) (n : Nat) : ∀ k b3 b4, k + n = 14 → (∀ j, j < k → b3 j = nI (rs_dg rs_P j)) → (∀ j, j < 8 → b4 j = nI (rs_xv k j)) → wX_init_86 post mc ms kc ks fl fd (n + 1) (nI (rs_dg rs_P k)) (nI k) a1 a2 b3 b4 a5 a6 a7 a8 a9 a10 := by
  induction n with
  | zero =>
    intro k b3 b4 hk h3 h4
    refine pk_le 14 k (fun _ => H b3 b4 ⟨fun j hj => h3 j (by omega), fun j hj => ?_⟩) (fun z => absurd z (by omega))
    rw [h4 j hj, rs_xv_hi k (by omega) (by omega) j hj]
  | succ n ih =>
    intro k b3 b4 hk h3 h4
    have h8 := rs_dg_lt rs_P k
    refine pk_le 14 k (fun z => absurd z (by omega)) (fun _ => ⟨vp_in_nI (by omega) (by decide), nm_r (e' := upd b3 k (nI (rs_dg rs_P k))) (by rw [rs_cl' (by omega)]) ?_⟩)
    have f3 : ∀ j, j < k + 1 → upd b3 k (nI (rs_dg rs_P k)) j = nI (rs_dg rs_P j) := rs_fill (g := fun j => nI (rs_dg rs_P j)) h3 rfl
    refine pk_le 7 k (fun z => rs_i112 (by omega) (ih (k + 1) _ b4 (by omega) f3 (fun j hj => ?_))) (fun z => ⟨vp_in_nI h8 (by decide), nm_r (e' := upd b4 (rs_dg rs_P k) (nI k)) (by rw [rs_cl' (by omega)]) (rs_i112 (by omega) (ih (k + 1) _ _ (by omega) f3 (fun j hj => ?_)))⟩)
    · rw [h4 j hj, rs_xv_hi k (by omega) z j hj, rs_xv_hi (k + 1) (by omega) (by omega) j hj]
    · by_cases e : j = rs_dg rs_P k
      · rw [e, pk_us, rs_xv_in k z]
      · rw [pk_un e, h4 j hj, rs_xv_out k z j hj e]
theorem rs_init {post : St2 → Prop} {fl fd : Int32} (H : ∀ b3 b4, rs_Tb b3 b4 → post (fl, fd, fun _ => 0, fun _ => 0, b3, b4, fun _ => 0, fun _ => 0, fun _ => 0, fun _ => 0, fun _ => 0, fun _ => 0)) : wpX_init post 10 82 (fl, fd) := by
  unfold wpX_init
  refine ⟨by decide, by decide, by decide, by decide, by decide, by decide, by decide, by decide, by decide, by decide, by decide, by decide, by decide, by decide, by decide, by decide, by decide, by decide, by decide, by decide, 15, ?_⟩
  exact rs_i86 (a1 := fun _ => 0) (a2 := fun _ => 0) (a5 := fun _ => 0) (a6 := fun _ => 0) (a7 := fun _ => 0) (a8 := fun _ => 0) (a9 := fun _ => 0) (a10 := fun _ => 0) H 14 0 (fun _ => 0) (fun _ => 0) (by decide) (fun j hj => absurd hj (by omega)) (fun j hj => by rw [rs_xv_0 j hj]; rfl)
/-! ===== send ===== -/
theorem rs_dstep {post : St2 → Prop} {fl fd : Int32} {a1 a2 a3 a4 a5 a6 a7 a8 a9 a10 : Nat → Int32} {w p n : Nat} {r : Nat × Nat × Nat × Nat} (ht : rs_Tb a3 a4) (hw : a1 p = nI w) (hw8 : w < 8) (h4 : 4 ≤ p) (hp : p < 7) (h3 : r.2.2.2 < 8)
    (H : wX_divideAway_13 post fl fd a1 a2 a3 a4 a5 a6 a7 a8 a9 a10 n (nI (rs_ds w r).1) (nI (rs_ds w r).2.1) (nI (rs_ds w r).2.2.1) (nI (rs_ds w r).2.2.2) (nI (p - 1))) : wX_divideAway_13 post fl fd a1 a2 a3 a4 a5 a6 a7 a8 a9 a10 (n + 1) (nI r.1) (nI r.2.1) (nI r.2.2.1) (nI r.2.2.2) (nI p) := by
  have hl : w ^^^ r.2.2.2 < 8 := rs_xor_lt hw8 h3
  refine pk_lt p 4 (fun z => absurd z (by omega)) (fun _ => ⟨vp_in_nI hp (by decide), nm_r (e' := nI (w ^^^ r.2.2.2)) (by rw [rs_cl' (by omega), hw, nx_xor]) ?_⟩)
  refine rs_times (b := 3) ht hl (by decide) (nm_r (e' := nI (r.2.2.1 ^^^ rs_tm (w ^^^ r.2.2.2) 3)) (nx_xor _ _) (nm_r (e' := nI (r.2.1 ^^^ (w ^^^ r.2.2.2))) (nx_xor _ _) ?_))
  refine rs_times (b := 2) ht hl (by decide) (nm_r (e' := nI (r.1 ^^^ rs_tm (w ^^^ r.2.2.2) 2)) (nx_xor _ _) ?_)
  exact rs_times (b := 3) ht hl (by decide) (nm_r (rs_m1 (by omega)) H)
theorem rs_div {post : St2 → Prop} {fl fd : Int32} {a1 a2 a3 a4 a5 a6 a7 a8 a9 a10 : Nat → Int32} {a b c : Nat} (ht : rs_Tb a3 a4) (ha : a < 8) (hb : b < 8) (hc : c < 8) (h4 : a1 4 = nI a) (h5 : a1 5 = nI b) (h6 : a1 6 = nI c) (H : ∀ b1, rs_A b1 7 (rs_cw a b c) → post (fl, fd, b1, a2, a3, a4, a5, a6, a7, a8, a9, a10)) : wpX_divideAway post (fl, fd, a1, a2, a3, a4, a5, a6, a7, a8, a9, a10) := by
  have t1 := rs_ds_lt c (0, 0, 0, 0) hc (by decide) (by decide) (by decide) (by decide)
  have t2 := rs_ds_lt b _ hb t1.1 t1.2.1 t1.2.2.1 t1.2.2.2
  have E : wX_divideAway_13 post fl fd a1 a2 a3 a4 a5 a6 a7 a8 a9 a10 1 (nI (rs_lw a b c).1) (nI (rs_lw a b c).2.1) (nI (rs_lw a b c).2.2.1) (nI (rs_lw a b c).2.2.2) (nI 3) := by
    refine br_t (nI_lt (b := 4) (by decide) (by decide)) (nm_e (nm_e (nm_e (nm_e (H _ (fun k hk => ?_))))))
    rw [rs_cw_dg a b c ha hb hc k hk]
    have q : k = 0 ∨ k = 1 ∨ k = 2 ∨ k = 3 ∨ k = 4 ∨ k = 5 ∨ k = 6 := by omega
    rcases q with e | e | e | e | e | e | e
    · subst e; rfl
    · subst e; rfl
    · subst e; rfl
    · subst e; rfl
    · subst e; exact h4
    · subst e; exact h5
    · subst e; exact h6
  exact ⟨4, rs_dstep (r := (0, 0, 0, 0)) ht h6 hc (by decide) (by decide) (by decide) (rs_dstep (p := 5) ht h5 hb (by decide) (by decide) t1.2.2.2 (rs_dstep (p := 4) ht h4 ha (by decide) (by decide) t2.2.2.2 E))⟩
def rs_v (a b c j : Nat) : Nat := if j = 4 then a else if j = 5 then b else if j = 6 then c else 0
theorem rs_s71 {post : Int32 → St2 → Prop} {J : Int32 → (Nat → Int32) → (Nat → Int32) → (Nat → Int32) → (Nat → Int32) → (Nat → Int32) → (Nat → Int32) → (Nat → Int32) → (Nat → Int32) → (Nat → Int32) → (Nat → Int32) → Prop} {x1 x2 x3 z : Int32} {fl fd : Int32} {a1 a2 a3 a4 a5 a6 a7 a8 a9 a10 : Nat → Int32} {i : Nat} (hi : i < 7) (H : J (nI (i + 1)) (upd a1 i z) (upd a2 i 0) a3 a4 a5 a6 a7 a8 a9 a10) : wX_send_71 post J x1 x2 x3 (nI i) z (nI i) fl fd a1 a2 a3 a4 a5 a6 a7 a8 a9 a10 := by
  unfold wX_send_71
  rw [rs_cl' (by omega)]
  exact ⟨vp_in_nI hi (by decide), nm_e ⟨vp_in_nI hi (by decide), nm_e (nm_r (nI_1 i) H)⟩⟩
theorem rs_s26 {post : Int32 → St2 → Prop} {fl fd : Int32} {a3 a4 a5 a6 a7 a8 a9 a10 : Nat → Int32} {a b c : Nat} (ht : rs_Tb a3 a4) (ha : a < 8) (hb : b < 8) (hc : c < 8) (H : ∀ b1 b2, rs_A b1 7 (rs_cw a b c) → (∀ j, j < 7 → b2 j = 0) → post 0 (fl, fd, b1, b2, a3, a4, a5, a6, a7, a8, a9, a10)) (n : Nat) : ∀ i b1 b2, i + n = 7 → (∀ j, j < i → b1 j = nI (rs_v a b c j)) → (∀ j, j < i → b2 j = 0) → wX_send_26 post (nI a) (nI b) (nI c) fl fd (n + 1) (nI i) b1 b2 a3 a4 a5 a6 a7 a8 a9 a10 := by
  induction n with
  | zero =>
    intro i b1 b2 hi h1 h2
    exact pk_le 7 i (fun _ => rs_div ht ha hb hc (h1 4 (by omega)) (h1 5 (by omega)) (h1 6 (by omega)) (fun c1 hc1 => H c1 b2 hc1 (fun j hj => h2 j (by omega)))) (fun z => absurd z (by omega))
  | succ n ih =>
    intro i b1 b2 hi h1 h2
    have f2 : ∀ j, j < i + 1 → upd b2 i 0 j = 0 := rs_fill (g := fun _ => 0) h2 rfl
    have f1 : ∀ x, x = nI (rs_v a b c i) → ∀ j, j < i + 1 → upd b1 i x j = nI (rs_v a b c j) := fun x hx => rs_fill (g := fun j => nI (rs_v a b c j)) h1 hx
    refine pk_le 7 i (fun z => absurd z (by omega)) (fun _ => pk_eq i 4 (fun e => rs_s71 (by omega) (ih (i + 1) _ _ (by omega) (f1 _ ?_) f2)) (fun e4 => pk_eq i 5 (fun e => rs_s71 (by omega) (ih (i + 1) _ _ (by omega) (f1 _ ?_) f2)) (fun e5 => pk_eq i 6 (fun e => rs_s71 (by omega) (ih (i + 1) _ _ (by omega) (f1 _ ?_) f2)) (fun e6 => rs_s71 (by omega) (ih (i + 1) _ _ (by omega) (f1 _ ?_) f2)))))
    · rw [e]; rfl
    · rw [e]; rfl
    · rw [e]; rfl
    · unfold rs_v
      rw [if_neg e4, if_neg e5, if_neg e6]
      rfl
end
section
/-! ===== the rule ===== -/
theorem rs_l81 {post : St2 → Prop} {fd : Int32} {a1 a2 a3 a4 a5 a6 a8 a9 a10 : Nat → Int32} {g r lo l R : Nat} (ht : rs_Tb a3 a4) (hg : g < 8) (h8 : rs_A a8 10 R) (hl : l ≤ r + lo) (H : ∀ b7, rs_A b7 10 (rs_so g R) → post (nI (r + lo - l), fd, a1, a2, a3, a4, a5, a6, b7, a8, a9, a10)) (n : Nat) : ∀ k b7, k + n = 10 → (∀ j, j < k → b7 j = nI (rs_ov (rs_dg R j) g)) → wX_lengthen_81 post (nI g) (nI r) (nI lo) (nI l) fd (n + 1) (nI k) a1 a2 a3 a4 a5 a6 b7 a8 a9 a10 := by
  induction n with
  | zero =>
    intro k b7 hk h7
    refine pk_le 10 k (fun _ => nm_r (e' := nI (r + lo - l)) (by rw [nI_add, pk_sub hl]) (H b7 (fun j hj => ?_))) (fun z => absurd z (by omega))
    rw [rs_so_dg g R j hj]
    exact h7 j (by omega)
  | succ n ih =>
    intro k b7 hk h7
    refine pk_le 10 k (fun z => absurd z (by omega)) (fun _ => ⟨vp_in_nI (by omega) (by decide), ?_⟩)
    rw [rs_c h8 (by omega) (by decide), rs_cl' (by omega)]
    exact rs_over ht (rs_dg_lt _ _) hg ⟨vp_in_nI (by omega) (by decide), nm_e (nm_r (nI_1 k) (ih (k + 1) _ (by omega) (rs_fill (g := fun j => nI (rs_ov (rs_dg R j) g)) h7 rfl)))⟩
theorem rs_l24 {post : St2 → Prop} {fl fd : Int32} {a1 a2 a3 a4 a5 a7 a9 a10 : Nat → Int32} {g R H : Nat} {x2 x3 x4 : Int32} (ht : rs_Tb a3 a4) (hg : g < 8) (h7 : rs_A a7 10 H)
    (K : ∀ b6 b8, rs_A b6 10 (R ^^^ rs_sm g H) → rs_A b8 10 R → (x4 = 0 → post (fl, fd, a1, a2, a3, a4, a5, b6, a7, b8, a9, a10)) ∧ (¬ x4 = 0 → ∃ fu : Nat, wX_lengthen_81 post (nI g) x2 x3 fl fd fu 0 a1 a2 a3 a4 a5 b6 a7 b8 a9 a10)) (n : Nat) :
    ∀ k b6 b8, k + n = 10 → (∀ j, j < k → b6 j = nI (rs_dg R j ^^^ rs_tm g (rs_dg H j))) → (∀ j, k ≤ j → j < 10 → b6 j = nI (rs_dg R j)) → (∀ j, j < k → b8 j = nI (rs_dg R j)) → wX_lengthen_24 post (nI g) x2 x3 x4 fl fd (n + 1) (nI k) a1 a2 a3 a4 a5 b6 a7 b8 a9 a10 := by
  induction n with
  | zero =>
    intro k b6 b8 hk h1 h2 h3
    refine pk_le 10 k (fun _ => K b6 b8 (fun j hj => ?_) (fun j hj => h3 j (by omega))) (fun z => absurd z (by omega))
    rw [rs_dg_xor, rs_sm_dg g H j hj]
    exact h1 j (by omega)
  | succ n ih =>
    intro k b6 b8 hk h1 h2 h3
    refine pk_le 10 k (fun z => absurd z (by omega)) (fun _ => ⟨vp_in_nI (by omega) (by decide), vp_in_nI (by omega) (by decide), ?_⟩)
    rw [rs_c h7 (by omega) (by decide), rs_cl' (by omega), h2 k (by omega) (by omega)]
    refine nm_e ⟨vp_in_nI (by omega) (by decide), vp_in_nI (by omega) (by decide), rs_times ht hg (rs_dg_lt _ _) ⟨vp_in_nI (by omega) (by decide), nm_r (e' := upd b6 k (nI (rs_dg R k ^^^ rs_tm g (rs_dg H k)))) (by rw [nx_xor]) (nm_r (nI_1 k) (ih (k + 1) _ _ (by omega) (rs_fill (g := fun j => nI (rs_dg R j ^^^ rs_tm g (rs_dg H j))) h1 rfl) (fun j hj hj2 => ?_) (rs_fill (g := fun j => nI (rs_dg R j)) h3 rfl)))⟩⟩
    rw [pk_un (by omega)]
    exact h2 j (by omega) hj2
theorem rs_len {post : St2 → Prop} {fd : Int32} {a1 a2 a3 a4 a5 a6 a7 a8 a9 a10 : Nat → Int32} {g r lo l R H : Nat} (ht : rs_Tb a3 a4) (hg : g < 8) (h6 : rs_A a6 10 R) (h7 : rs_A a7 10 H) (hr1 : 1 ≤ r) (hr : r < 100) (hlo : lo < 100) (hl : l < 100)
    (K : ∀ (f : Int32) (b6 b7 b8 : Nat → Int32), rs_A b6 10 (R ^^^ rs_sm g H) → (2 * l ≤ r + lo - 1 → f = nI (r + lo - l) ∧ rs_A b7 10 (rs_so g R)) → (¬ 2 * l ≤ r + lo - 1 → f = nI l ∧ rs_A b7 10 H) → post (f, fd, a1, a2, a3, a4, a5, b6, b7, b8, a9, a10)) :
    wpX_lengthen post (nI l, fd, a1, a2, a3, a4, a5, a6, a7, a8, a9, a10) (nI g) (nI r) (nI lo) := by
  unfold wpX_lengthen
  refine pk_lt (r + lo - 1) (2 * l) (fun z => ?_) (fun z => ?_) (by rw [nI_add, show (1 : Int32) = nI 1 from rfl, pk_sub (by omega)]) (pk_mul 2 l)
  · refine ⟨11, rs_l24 (R := R) ht hg h7 (fun b6 b8 h6' h8' => br_t rfl (K _ b6 a7 b8 h6' (fun y => absurd y (by omega)) (fun _ => ⟨rfl, h7⟩))) 10 0 a6 a8 (by omega) (fun j hj => absurd hj (by omega)) (fun j _ hj => h6 j hj) (fun j hj => absurd hj (by omega))⟩
  · refine ⟨11, rs_l24 (R := R) ht hg h7 (fun b6 b8 h6' h8' => br_f (by decide) ⟨11, rs_l81 ht hg h8' (by omega) (fun b7 h7' => K _ b6 b7 b8 h6' (fun _ => ⟨rfl, h7'⟩) (fun y => absurd z (by omega))) 10 0 a7 (by omega) (fun j hj => absurd hj (by omega))⟩) 10 0 a6 a8 (by omega) (fun j hj => absurd hj (by omega)) (fun j _ hj => h6 j hj) (fun j hj => absurd hj (by omega))⟩
theorem rs_b176 {post : St2 → Prop} {J : Int32 → Int32 → Int32 → (Nat → Int32) → (Nat → Int32) → (Nat → Int32) → (Nat → Int32) → (Nat → Int32) → (Nat → Int32) → (Nat → Int32) → (Nat → Int32) → (Nat → Int32) → (Nat → Int32) → Prop} {fd : Int32} {a1 a2 a3 a4 a5 a6 a8 a9 a10 : Nat → Int32} {g r lo l R H : Nat} (ht : rs_Tb a3 a4) (hg : g < 8) (h6 : rs_A a6 10 R) (hr1 : 1 ≤ r) (hr : r < 100) (hlo : lo < 100) (hl : l < 100)
    (K0 : g = 0 → ∀ b7, rs_A b7 10 (Nat.shiftLeft H 3) → J (nI (r + 1)) (nI l) fd a1 a2 a3 a4 a5 a6 b7 a8 a9 a10)
    (K1 : g ≠ 0 → ∀ (f : Int32) (b6 b7 b8 : Nat → Int32), rs_A b6 10 (R ^^^ rs_sm g (Nat.shiftLeft H 3)) → (2 * l ≤ r + lo - 1 → f = nI (r + lo - l) ∧ rs_A b7 10 (rs_so g R)) → (¬ 2 * l ≤ r + lo - 1 → f = nI l ∧ rs_A b7 10 (Nat.shiftLeft H 3)) → J (nI (r + 1)) f fd a1 a2 a3 a4 a5 b6 b7 b8 a9 a10)
    (n : Nat) : ∀ b7, n ≤ 9 → (∀ j, j ≤ n → b7 j = nI (rs_dg H j)) → (∀ j, n ≤ j → j < 9 → b7 (j + 1) = nI (rs_dg H j)) → wX_buildRule_176 post J (nI lo) (nI r) (nI g) (nI l) fd (n + 1) (nI n) a1 a2 a3 a4 a5 a6 b7 a8 a9 a10 := by
  induction n with
  | zero =>
    intro b7 _ h1 h2
    have hA : rs_A (upd b7 0 0) 10 (Nat.shiftLeft H 3) := by
      intro k hk
      cases k with
      | zero =>
        rw [pk_us, rs_dg_shl0]
        rfl
      | succ k =>
        rw [pk_un (by omega), rs_dg_shl3]
        exact h2 k (by omega) (by omega)
    refine pk_le 0 0 (fun _ => nm_e (pk_eq g 0 (fun z => nm_r (nI_1 r) (K0 z _ hA)) (fun z => ?_))) (fun z => absurd z (by omega))
    exact rs_len (R := R) ht hg h6 hA hr1 hr hlo hl (fun f c6 c7 c8 q1 q2 q3 => nm_r (nI_1 r) (K1 z f c6 c7 c8 q1 q2 q3))
  | succ n ih =>
    intro b7 hn h1 h2
    refine pk_le (n + 1) 0 (fun z => absurd z (by omega)) (fun _ => ?_)
    rw [nI_pred, rs_cl' (show n < 100 by omega), rs_cl' (show n + 1 < 100 by omega), h1 n (by omega), pk_m1]
    refine ⟨vp_in_nI (by omega) (by decide), vp_in_nI (by omega) (by decide), nm_e (nm_e (ih _ (by omega) (fun j hj => ?_) (fun j hj hj2 => ?_)))⟩
    · rw [pk_un (by omega)]
      exact h1 j (by omega)
    · by_cases e : j = n
      · rw [e, pk_us]
      · rw [pk_un (by omega)]
        exact h2 j (by omega) hj2
/-- the array a holds S at 1 .. 4 -/
def rs_Y (a : Nat → Int32) (S : Nat) : Prop := ∀ k, 1 ≤ k → k < 5 → a k = nI (rs_dg S k)
theorem rs_b137 {post : St2 → Prop} {J : Int32 → Int32 → Int32 → (Nat → Int32) → (Nat → Int32) → (Nat → Int32) → (Nat → Int32) → (Nat → Int32) → (Nat → Int32) → (Nat → Int32) → (Nat → Int32) → (Nat → Int32) → (Nat → Int32) → Prop} {fl fd : Int32} {a1 a2 a3 a4 a5 a6 a7 a8 a9 a10 : Nat → Int32} {r R S : Nat} {x1 : Int32} (ht : rs_Tb a3 a4) (h5 : rs_Y a5 S) (h6 : rs_A a6 10 R) (hr : r < 5)
    (n : Nat) : ∀ k g, k + n = r → g < 8 → (∃ fu : Nat, wX_buildRule_176 post J x1 (nI r) (nI (rs_gp R S r n k g)) fl fd fu 9 a1 a2 a3 a4 a5 a6 a7 a8 a9 a10) → wX_buildRule_137 post J x1 (nI r) fl fd a1 a2 a3 a4 a5 a6 a7 a8 a9 a10 (n + 1) (nI g) (nI k) := by
  induction n with
  | zero => exact fun k g hk hg K => pk_le r k (fun _ => K) (fun z => absurd z (by omega))
  | succ n ih =>
    intro k g hk hg K
    rw [rs_gp_s] at K
    refine pk_le r k (fun z => absurd z (by omega)) (fun _ => ?_)
    rw [pk_sub (show k ≤ r by omega), rs_cl' (show k < 100 by omega), rs_cl' (show r - k < 100 by omega), h6 k (by omega), h5 (r - k) (by omega) (by omega)]
    exact ⟨vp_in_nI (by omega) (by decide), vp_in_nI (by omega) (by decide), rs_times ht (rs_dg_lt _ _) (rs_dg_lt _ _) (nm_r (nx_xor _ _) (nm_r (nI_1 k) (ih (k + 1) _ (by omega) (rs_xor_lt hg (rs_tm_lt _ _)) K)))⟩
theorem rs_b127 {post : St2 → Prop} {fd : Int32} {a1 a2 a3 a4 a5 a9 a10 : Nat → Int32} {lo S : Nat} (ht : rs_Tb a3 a4) (h5 : rs_Y a5 S) (hlo : lo < 5) (n : Nat) : ∀ (r R H l : Nat) (a6 a7 a8 : Nat → Int32), r + n = 5 → 1 ≤ r → l < 50 → rs_A a6 10 R → rs_A a7 10 H → (∀ (f : Int32) (b6 b7 b8 : Nat → Int32), rs_A b6 10 (rs_bm S lo n r R H l) → post (f, fd, a1, a2, a3, a4, a5, b6, b7, b8, a9, a10)) → wX_buildRule_127 post (nI lo) (n + 1) (nI r) (nI l) fd a1 a2 a3 a4 a5 a6 a7 a8 a9 a10 := by
  induction n with
  | zero => exact fun r R H l a6 a7 a8 hr h1 hl h6 h7 K => pk_le 5 r (fun _ => K _ a6 a7 a8 h6) (fun z => absurd z (by omega))
  | succ n ih =>
    intro r R H l a6 a7 a8 hr h1 hl h6 h7 K
    refine pk_le 5 r (fun z => absurd z (by omega)) (fun _ => ⟨r + 1, rs_b137 ht h5 h6 (by omega) r 0 0 (by omega) (by decide) ⟨10, ?_⟩⟩)
    rw [rs_bm_s] at K
    refine rs_b176 (R := R) (H := H) ht (rs_gp_lt _ _ _ _ _ _ (by decide)) h6 h1 (by omega) (by omega) (by omega) (fun hg b7 h7' => ?_) (fun hg f b6 b7 b8 h6' q1 q2 => ?_) 9 a7 (by omega) (fun j hj => h7 j (by omega)) (fun j hj hj2 => absurd hj (by omega))
    · rw [rs_z0 _ _ hg] at K
      exact ih (r + 1) R _ l a6 b7 a8 (by omega) (by omega) hl h6 h7' K
    · rw [rs_zs _ _ hg] at K
      by_cases q : 2 * l ≤ r + lo - 1
      · obtain ⟨rfl, h7'⟩ := q1 q
        rw [rs_z0 _ _ (by omega)] at K
        exact ih (r + 1) _ _ (r + lo - l) b6 b7 b8 (by omega) (by omega) (by omega) h6' h7' K
      · obtain ⟨rfl, h7'⟩ := q2 q
        rw [rs_zs _ _ (by omega)] at K
        exact ih (r + 1) _ _ l b6 b7 b8 (by omega) (by omega) hl h6' h7' K
theorem rs_b94 {post : St2 → Prop} {fl fd : Int32} {a1 a2 a3 a4 a5 a6 a8 a9 a10 : Nat → Int32} {lo S R : Nat} (ht : rs_Tb a3 a4) (h5 : rs_Y a5 S) (h6 : rs_A a6 10 R) (hlo : lo < 5) (K : ∀ (f : Int32) (b6 b7 b8 : Nat → Int32), rs_A b6 10 (rs_bm S lo (4 - lo) (lo + 1) R R lo) → post (f, fd, a1, a2, a3, a4, a5, b6, b7, b8, a9, a10)) (n : Nat) : ∀ k b7, k + n = 10 → (∀ j, j < k → b7 j = nI (rs_dg R j)) → wX_buildRule_94 post (nI lo) fl fd (n + 1) (nI k) a1 a2 a3 a4 a5 a6 b7 a8 a9 a10 := by
  induction n with
  | zero =>
    intro k b7 hk h7
    exact pk_le 10 k (fun _ => nm_r (nI_1 lo) ⟨4 - lo + 1, rs_b127 ht h5 hlo (4 - lo) (lo + 1) R R lo a6 b7 a8 (by omega) (by omega) (by omega) h6 (fun j hj => h7 j (by omega)) K⟩) (fun z => absurd z (by omega))
  | succ n ih =>
    intro k b7 hk h7
    refine pk_le 10 k (fun z => absurd z (by omega)) (fun _ => ?_)
    rw [rs_cl' (show k < 100 by omega), h6 k (by omega)]
    exact ⟨vp_in_nI (by omega) (by decide), vp_in_nI (by omega) (by decide), nm_e (nm_r (nI_1 k) (ih (k + 1) _ (by omega) (rs_fill (g := fun j => nI (rs_dg R j)) h7 rfl)))⟩
theorem rs_b40 {post : St2 → Prop} {J : Int32 → (Nat → Int32) → (Nat → Int32) → (Nat → Int32) → (Nat → Int32) → (Nat → Int32) → (Nat → Int32) → (Nat → Int32) → (Nat → Int32) → (Nat → Int32) → (Nat → Int32) → Prop} {fl fd : Int32} {a1 a2 a3 a4 a5 a7 a8 a9 a10 : Nat → Int32} {p : Nat} {x1 : Int32} (ht : rs_Tb a3 a4) (hp : p < 7) (h2 : ¬ a2 p = 0) (n : Nat) : ∀ R b6, n ≤ 9 → rs_A b6 10 R → (∀ c6, rs_A c6 10 (rs_ei (rs_dg rs_P p) n R) → J (nI (p + 1)) a1 a2 a3 a4 a5 c6 a7 a8 a9 a10) → wX_buildRule_40 post J x1 (nI p) fl fd (n + 1) (nI n) a1 a2 a3 a4 a5 b6 a7 a8 a9 a10 := by
  induction n with
  | zero => exact fun R b6 _ h6 K => pk_le 0 0 (fun _ => nm_r (nI_1 p) (K b6 h6)) (fun z => absurd z (by omega))
  | succ n ih =>
    intro R b6 hn h6 K
    rw [rs_ei_s] at K
    refine pk_le (n + 1) 0 (fun z => absurd z (by omega)) (fun _ => ?_)
    rw [nI_pred, rs_cl' (show n < 100 by omega), rs_cl' (show n + 1 < 100 by omega), rs_cl' (show p < 100 by omega), h6 n (by omega), h6 (n + 1) (by omega), ht.1 p (by omega), pk_m1]
    refine ⟨vp_in_nI (by omega) (by decide), br_f h2 ⟨vp_in_nI (by omega) (by decide), vp_in_nI (by omega) (by decide), vp_in_nI (by omega) (by decide), rs_times ht (rs_dg_lt _ _) (rs_dg_lt _ _) ⟨vp_in_nI (by omega) (by decide), nm_r (e' := upd b6 (n + 1) (nI (rs_dg R (n + 1) ^^^ rs_tm (rs_dg R n) (rs_dg rs_P p)))) (by rw [nx_xor]) (nm_e (ih _ _ (by omega) (fun j hj => ?_) K))⟩⟩⟩
    rw [rs_dg_xp (rs_tm_lt _ _)]
    by_cases e : j = n + 1
    · rw [e, pk_us, if_pos rfl]
    · rw [pk_un e, if_neg e]
      exact h6 j hj
theorem rs_b31 {post : St2 → Prop} {fl fd : Int32} {a1 a2 a3 a4 a5 a7 a8 a9 a10 : Nat → Int32} {lo M Q : Nat} (ht : rs_Tb a3 a4) (h2 : rs_A a2 7 M) (K : ∀ b6, rs_A b6 10 Q → ∃ fu : Nat, wX_buildRule_94 post (nI lo) fl fd fu 0 a1 a2 a3 a4 a5 b6 a7 a8 a9 a10) (n : Nat) : ∀ p R b6, p + n = 7 → rs_A b6 10 R → rs_er M n p R = Q → wX_buildRule_31 post (nI lo) fl fd (n + 1) (nI p) a1 a2 a3 a4 a5 b6 a7 a8 a9 a10 := by
  induction n with
  | zero =>
    intro p R b6 hp h6 e
    exact pk_le 7 p (fun _ => K b6 (e ▸ h6)) (fun z => absurd z (by omega))
  | succ n ih =>
    intro p R b6 hp h6 e
    rw [rs_er_s] at e
    refine pk_le 7 p (fun z => absurd z (by omega)) (fun _ => ⟨10, ?_⟩)
    by_cases q : rs_dg M p = 0
    · rw [rs_z0 _ _ q] at e
      refine pk_le 9 0 (fun z => absurd z (by omega)) (fun _ => ⟨vp_in_nI (by omega) (by decide), br_t ?_ (nm_r (nI_1 p) (ih (p + 1) R b6 (by omega) h6 e))⟩)
      rw [rs_c h2 (by omega) (by decide), q]
      rfl
    · rw [rs_zs _ _ q] at e
      refine rs_b40 ht (by omega) (fun z => ?_) 9 R b6 (by omega) h6 (fun c6 h6' => ih (p + 1) _ c6 (by omega) h6' e)
      rw [h2 p (by omega), ← nI_0, nI_eq (by have := rs_dg_lt M p; omega) (by decide)] at z
      exact q z
theorem rs_dg1 : ∀ j, j < 10 → rs_dg 1 j = if j = 0 then 1 else 0 := by decide +kernel
theorem rs_b2 {post : St2 → Prop} {fl fd : Int32} {a1 a2 a3 a4 a5 a7 a8 a9 a10 : Nat → Int32} {lo : Nat} (K : ∀ b6, rs_A b6 10 1 → ∃ fu : Nat, wX_buildRule_31 post (nI lo) fl fd fu 0 a1 a2 a3 a4 a5 b6 a7 a8 a9 a10) (n : Nat) : ∀ k b6, k + n = 10 → (∀ j, j < k → b6 j = nI (if j = 0 then 1 else 0)) → wX_buildRule_2 post (nI lo) fl fd (n + 1) (nI k) a1 a2 a3 a4 a5 b6 a7 a8 a9 a10 := by
  induction n with
  | zero =>
    intro k b6 hk h6
    refine pk_le 10 k (fun _ => K b6 (fun j hj => ?_)) (fun z => absurd z (by omega))
    rw [rs_dg1 j hj]
    exact h6 j (by omega)
  | succ n ih =>
    intro k b6 hk h6
    refine pk_le 10 k (fun z => absurd z (by omega)) (fun _ => ?_)
    rw [rs_cl' (show k < 100 by omega)]
    refine pk_eq k 0 (fun z => ⟨vp_in_nI (by omega) (by decide), nm_e (nm_r (nI_1 k) (ih (k + 1) _ (by omega) (rs_fill (g := fun j => nI (if j = 0 then 1 else 0)) h6 ?_)))⟩) (fun z => ⟨vp_in_nI (by omega) (by decide), nm_e (nm_r (nI_1 k) (ih (k + 1) _ (by omega) (rs_fill (g := fun j => nI (if j = 0 then 1 else 0)) h6 ?_)))⟩)
    · show (1 : Int32) = nI (if k = 0 then 1 else 0)
      rw [if_pos z]
      rfl
    · show (0 : Int32) = nI (if k = 0 then 1 else 0)
      rw [if_neg z]
      rfl
theorem rs_build {post : St2 → Prop} {fl fd : Int32} {a1 a2 a3 a4 a5 a6 a7 a8 a9 a10 : Nat → Int32} {M S : Nat} (ht : rs_Tb a3 a4) (h2 : rs_A a2 7 M) (h5 : rs_Y a5 S) (hlo : rs_lo M < 5) (K : ∀ (f : Int32) (b6 b7 b8 : Nat → Int32), rs_A b6 10 (rs_rl S M) → post (f, fd, a1, a2, a3, a4, a5, b6, b7, b8, a9, a10)) : wpX_buildRule post (fl, fd, a1, a2, a3, a4, a5, a6, a7, a8, a9, a10) (nI (rs_lo M)) := by
  rw [rs_rl_e] at K
  exact ⟨11, rs_b2 (fun b6 h6 => ⟨8, rs_b31 ht h2 (fun c6 h6' => ⟨11, rs_b94 ht h5 h6' hlo K 10 0 a7 (by omega) (fun j hj => absurd hj (by omega))⟩) 7 0 1 b6 (by omega) h6 rfl⟩) 10 0 a6 (by omega) (fun j hj => absurd hj (by omega))⟩
/-! ===== the numerator ===== -/
theorem rs_n16 {post : St2 → Prop} {J : Int32 → (Nat → Int32) → (Nat → Int32) → (Nat → Int32) → (Nat → Int32) → (Nat → Int32) → (Nat → Int32) → (Nat → Int32) → (Nat → Int32) → (Nat → Int32) → (Nat → Int32) → Prop} {fl fd : Int32} {a1 a2 a3 a4 a5 a6 a7 a8 a10 : Nat → Int32} {k R S : Nat} (ht : rs_Tb a3 a4) (h5 : rs_Y a5 S) (h6 : rs_A a6 10 R) (hk : k < 4) (n : Nat) : ∀ i g b9, i + n = k + 1 → g < 8 → b9 k = nI g → (∀ c9, c9 k = nI (rs_gp R S (k + 1) n i g) → (∀ j, j ≠ k → c9 j = b9 j) → J (nI (k + 1)) a1 a2 a3 a4 a5 a6 a7 a8 c9 a10) → wX_findNumerator_16 post J (nI k) fl fd (n + 1) (nI i) a1 a2 a3 a4 a5 a6 a7 a8 b9 a10 := by
  induction n with
  | zero => exact fun i g b9 hi hg h9 K => pk_lt k i (fun _ => nm_r (nI_1 k) (K b9 h9 (fun _ _ => rfl))) (fun z => absurd z (by omega))
  | succ n ih =>
    intro i g b9 hi hg h9 K
    rw [rs_gp_s] at K
    refine pk_lt k i (fun z => absurd z (by omega)) (fun _ => ?_)
    rw [pk_sub (show i ≤ k by omega), nI_1, rs_cl' (show k < 100 by omega), rs_cl' (show i < 100 by omega), rs_cl' (show k - i + 1 < 100 by omega), h6 i (by omega), h5 (k - i + 1) (by omega) (by omega), h9]
    rw [show k + 1 - i = k - i + 1 by omega] at K
    refine ⟨vp_in_nI (by omega) (by decide), vp_in_nI (by omega) (by decide), vp_in_nI (by omega) (by decide), rs_times ht (rs_dg_lt _ _) (rs_dg_lt _ _) ⟨vp_in_nI (by omega) (by decide), nm_r (e' := upd b9 k (nI (g ^^^ rs_tm (rs_dg R i) (rs_dg S (k - i + 1))))) (by rw [nx_xor]) (nm_r (nI_1 i) (ih (i + 1) _ _ (by omega) (rs_xor_lt hg (rs_tm_lt _ _)) pk_us (fun c9 q1 q2 => K c9 q1 (fun j hj => ?_))))⟩⟩
    rw [q2 j hj, pk_un hj]
theorem rs_n2 {post : St2 → Prop} {fl fd : Int32} {a1 a2 a3 a4 a5 a6 a7 a8 a10 : Nat → Int32} {R S : Nat} (ht : rs_Tb a3 a4) (h5 : rs_Y a5 S) (h6 : rs_A a6 10 R) (K : ∀ b9, rs_A b9 4 (rs_nm R S) → post (fl, fd, a1, a2, a3, a4, a5, a6, a7, a8, b9, a10)) (n : Nat) : ∀ k b9, k + n = 4 → (∀ j, j < k → b9 j = nI (rs_dg (rs_nm R S) j)) → wX_findNumerator_2 post fl fd (n + 1) (nI k) a1 a2 a3 a4 a5 a6 a7 a8 b9 a10 := by
  induction n with
  | zero => exact fun k b9 hk h9 => pk_le 4 k (fun _ => K b9 (fun j hj => h9 j (by omega))) (fun z => absurd z (by omega))
  | succ n ih =>
    intro k b9 hk h9
    refine pk_le 4 k (fun z => absurd z (by omega)) (fun _ => ?_)
    rw [rs_cl' (show k < 100 by omega)]
    refine ⟨vp_in_nI (by omega) (by decide), nm_e ⟨k + 1 + 1, rs_n16 ht h5 h6 (by omega) (k + 1) 0 0 _ (by omega) (by decide) pk_us (fun c9 q1 q2 => ih (k + 1) c9 (by omega) (fun j hj => ?_))⟩⟩
    by_cases e : j = k
    · rw [e, q1, rs_nm_dg R S k (by omega)]
    · rw [q2 j e, pk_un e]
      exact h9 j (by omega)
theorem rs_num {post : St2 → Prop} {fl fd : Int32} {a1 a2 a3 a4 a5 a6 a7 a8 a9 a10 : Nat → Int32} {R S : Nat} (ht : rs_Tb a3 a4) (h5 : rs_Y a5 S) (h6 : rs_A a6 10 R) (K : ∀ b9, rs_A b9 4 (rs_nm R S) → post (fl, fd, a1, a2, a3, a4, a5, a6, a7, a8, b9, a10)) : wpX_findNumerator post (fl, fd, a1, a2, a3, a4, a5, a6, a7, a8, a9, a10) := ⟨5, rs_n2 ht h5 h6 K 4 0 a9 (by omega) (fun j hj => absurd hj (by omega))⟩
end
section
/-! ===== correct, isRight, findWhole ===== -/
theorem rs_odd {k : Nat} (hk : k < 100) : (nI k &&& 1) = nI (k % 2) := by
  exact pk_andN (by omega) 1 (by decide +kernel)
theorem rs_c94 {post : St2 → Prop} {J : Int32 → Int32 → Int32 → Int32 → Int32 → Prop} {fl fd : Int32} {a1 a2 a3 a4 a5 a6 a7 a8 a9 a10 : Nat → Int32} {k x bk u v : Nat} {x1 x3 x4 : Int32} (ht : rs_Tb a3 a4) (hx : x < 8) (hb : bk < 8) (K : J x3 x4 (nI (u ^^^ v)) (nI (rs_tm x bk)) (nI (k + 1))) : wX_correct_94 post J x1 (nI bk) x3 x4 (nI x) (nI k) (nI v) (nI u) fl fd a1 a2 a3 a4 a5 a6 a7 a8 a9 a10 :=
  nm_r (nx_xor _ _) (rs_times ht hx hb (nm_r (nI_1 k) K))
theorem rs_c66 {post : St2 → Prop} {J : Int32 → Int32 → Int32 → Int32 → Int32 → Prop} {fl fd : Int32} {a1 a2 a3 a4 a5 a6 a7 a8 a9 a10 : Nat → Int32} {k x bk o u v N : Nat} {x1 x3 : Int32} (ht : rs_Tb a3 a4) (h9 : rs_A a9 4 N) (hk : k < 8) (hx : x < 8) (hb : bk < 8) (K : J x3 (nI (o ^^^ v)) (nI (rs_z (4 - k) u (u ^^^ rs_tm (rs_dg N k) x))) (nI (rs_tm x bk)) (nI (k + 1))) : wX_correct_66 post J x1 (nI bk) x3 (nI u) (nI x) (nI k) (nI v) (nI o) fl fd a1 a2 a3 a4 a5 a6 a7 a8 a9 a10 := by
  refine nm_r (nx_xor _ _) (pk_le 4 k (fun z => ?_) (fun z => ?_))
  · rw [rs_z0 _ _ (by omega)] at K
    exact rs_c94 (v := 0) ht hx hb (by rw [Nat.xor_zero]; exact K)
  · rw [rs_zs _ _ (by omega)] at K
    refine ⟨vp_in_nI z (by decide), ?_⟩
    rw [rs_c h9 z (by decide)]
    exact rs_times ht (rs_dg_lt _ _) hx (rs_c94 ht hx hb K)
theorem rs_c24 {post : St2 → Prop} {fl fd : Int32} {a1 a2 a3 a4 a5 a6 a7 a8 a9 a10 : Nat → Int32} {p w bk R N v : Nat} (ht : rs_Tb a3 a4) (h6 : rs_A a6 10 R) (h9 : rs_A a9 4 N) (h10 : a10 p = nI v) (hp : p < 7) (hw : w = rs_dg rs_P p) (hb : bk < 8) (n : Nat) : ∀ k s o u x, k + n = 8 → s < 8 → o < 8 → u < 8 → x < 8 →
    (∀ b10, b10 p = nI (v ^^^ rs_cl R N bk w n k s o u x) → (∀ j, j ≠ p → b10 j = a10 j) → post (fl, fd, a1, a2, a3, a4, a5, a6, a7, a8, a9, b10)) → wX_correct_24 post (nI p) (nI bk) fl fd a1 a2 a3 a4 a5 a6 a7 a8 a9 a10 (n + 1) (nI s) (nI o) (nI u) (nI x) (nI k) := by
  induction n with
  | zero =>
    intro k s o u x hk hs ho hu hx K
    rw [rs_cl_0] at K
    refine pk_le 8 k (fun _ => pk_eq s 0 (fun zs => pk_eq o 0 (fun zo => ?_) (fun zo => ?_)) (fun zs => ?_)) (fun z => absurd z (by omega))
    · rw [rs_z0 _ _ zs, rs_z0 _ _ zo, Nat.xor_zero] at K
      exact K a10 h10 (fun _ _ => rfl)
    · rw [rs_z0 _ _ zs, rs_zs _ _ zo] at K
      rw [rs_c ht.1 (by omega) (by decide), ← hw]
      refine ⟨vp_in_nI (by omega) (by decide), rs_times ht ho (by rw [hw]; exact rs_dg_lt _ _) ⟨vp_in_nI hp (by decide), rs_over ht hu (rs_tm_lt _ _) ⟨vp_in_nI hp (by decide), nm_r (e' := upd a10 p (nI (v ^^^ rs_ov u (rs_tm o w)))) ?_ (K _ pk_us (fun j hj => pk_un hj))⟩⟩⟩
      rw [rs_cl' (by omega), h10, nx_xor]
    · rw [rs_zs _ _ zs, Nat.xor_zero] at K
      exact K a10 h10 (fun _ _ => rfl)
  | succ n ih =>
    intro k s o u x hk hs ho hu hx K
    rw [rs_cl_s] at K
    have ht8 := rs_tm_lt (rs_dg R k) x
    have hu' : rs_z (4 - k) u (u ^^^ rs_tm (rs_dg N k) x) < 8 := by
      by_cases q : 4 - k = 0
      · rw [rs_z0 _ _ q]
        exact hu
      · rw [rs_zs _ _ q]
        exact rs_xor_lt hu (rs_tm_lt _ _)
    refine pk_le 8 k (fun z => absurd z (by omega)) (fun _ => ⟨vp_in_nI (by omega) (by decide), ?_⟩)
    rw [rs_c h6 (by omega) (by decide)]
    refine rs_times ht (rs_dg_lt _ _) hx (nm_r (nx_xor _ _) ?_)
    refine pk_eq (k % 2) 0 (fun z => ?_) (fun z => ?_) (rs_odd (by omega)) rfl
    · rw [rs_z0 _ _ z] at K
      exact rs_c66 (v := 0) ht h9 (by omega) hx hb (by rw [Nat.xor_zero]; exact ih (k + 1) _ _ _ _ (by omega) (rs_xor_lt hs ht8) ho hu' (rs_tm_lt _ _) K)
    · rw [rs_zs _ _ z] at K
      exact rs_c66 ht h9 (by omega) hx hb (ih (k + 1) _ _ _ _ (by omega) (rs_xor_lt hs ht8) (rs_xor_lt ho ht8) hu' (rs_tm_lt _ _) K)
theorem rs_corr {post : St2 → Prop} {fl fd : Int32} {a1 a2 a3 a4 a5 a6 a7 a8 a9 a10 : Nat → Int32} {p R N v : Nat} (ht : rs_Tb a3 a4) (h6 : rs_A a6 10 R) (h9 : rs_A a9 4 N) (h10 : a10 p = nI v) (hp : p < 7) (K : ∀ b10, b10 p = nI (v ^^^ rs_co R N p) → (∀ j, j ≠ p → b10 j = a10 j) → post (fl, fd, a1, a2, a3, a4, a5, a6, a7, a8, a9, b10)) : wpX_correct post (fl, fd, a1, a2, a3, a4, a5, a6, a7, a8, a9, a10) (nI p) := by
  rw [rs_co_e] at K
  unfold wpX_correct
  have e : 7 - nI p = nI (7 - p) := pk_sub (a := 7) (by omega)
  rw [e]
  exact ⟨vp_in_nI (by omega) (by decide), nm_r (rs_c ht.1 (by omega) (by decide)) ⟨9, rs_c24 ht h6 h9 h10 hp rfl (rs_dg_lt _ _) 8 0 0 0 0 1 (by omega) (by decide) (by decide) (by decide) (by decide) K⟩⟩
theorem rs_r59 {post : Int32 → St2 → Prop} {fl : Int32} {a1 a2 a3 a4 a5 a6 a7 a8 a9 a10 : Nat → Int32} {V lo d : Nat} (ht : rs_Tb a3 a4) (hV : rs_A a10 7 V) (h0 : ∀ j, 1 ≤ j → j < 5 → rs_vl V (rs_dg rs_P j) = 0) (hd : 2 * d + lo ≤ 4) (K : post 1 (fl, nI d, a1, a2, a3, a4, a5, a6, a7, a8, a9, a10)) (n : Nat) : ∀ j, j + n = 5 → 1 ≤ j → wX_isRight_59 post (nI lo) fl (nI d) a1 a2 a3 a4 a5 a6 a7 a8 a9 a10 (n + 1) (nI j) := by
  induction n with
  | zero =>
    intro j hj _
    exact pk_le 5 j (fun _ => pk_lt 4 (2 * d + lo) (fun z => absurd z (by omega)) (fun _ => K) rfl (by rw [show (2 : Int32) = nI 2 from rfl, pk_mul, nI_add])) (fun z => absurd z (by omega))
  | succ n ih =>
    intro j hj h1
    refine pk_le 5 j (fun z => absurd z (by omega)) (fun _ => ⟨vp_in_nI (by omega) (by decide), ?_⟩)
    rw [rs_c ht.1 (by omega) (by decide)]
    refine rs_val10 ht hV (rs_dg_lt _ _) ?_
    rw [h0 j h1 (by omega)]
    exact br_t rfl (nm_r (nI_1 j) (ih (j + 1) (by omega) (by omega)))
theorem rs_r7 {post : Int32 → St2 → Prop} {fl : Int32} {a1 a2 a3 a4 a5 a6 a7 a8 a9 a10 : Nat → Int32} {W M F lo d : Nat} (ht : rs_Tb a3 a4) (hW : rs_A a1 7 W) (hM : rs_A a2 7 M) (hV : rs_A a10 7 (W ^^^ F)) (K : ∃ fu : Nat, wX_isRight_59 post (nI lo) fl (nI d) a1 a2 a3 a4 a5 a6 a7 a8 a9 a10 fu 1) (n : Nat) : ∀ p c, p + n = 7 → rs_dd F M n p c = d → wX_isRight_7 post (nI lo) fl a1 a2 a3 a4 a5 a6 a7 a8 a9 a10 (n + 1) (nI p) (nI c) := by
  induction n with
  | zero =>
    intro p c hp e
    have e' : c = d := e
    subst e'
    exact pk_le 7 p (fun _ => K) (fun z => absurd z (by omega))
  | succ n ih =>
    intro p c hp e
    rw [rs_dd_s] at e
    have m8 := rs_dg_lt M p
    have w8 := rs_dg_lt W p
    have f8 := rs_dg_lt F p
    have x8 : rs_dg W p ^^^ rs_dg F p < 8 := rs_xor_lt w8 f8
    refine pk_le 7 p (fun z => absurd z (by omega)) (fun _ => ⟨vp_in_nI (by omega) (by decide), ?_⟩)
    rw [rs_cl' (show p < 100 by omega), hW p (by omega), hM p (by omega), hV p (by omega), rs_dg_xor]
    refine pk_eq (rs_dg M p) 0 (fun z => ⟨vp_in_nI (by omega) (by decide), vp_in_nI (by omega) (by decide), ?_⟩) (fun z => ?_)
    · rw [rs_z0 _ _ z] at e
      refine pk_eq (rs_dg W p ^^^ rs_dg F p) (rs_dg W p) (fun y => ?_) (fun y => ?_)
      · have y' : rs_dg F p = 0 := by
          have t : rs_dg W p ^^^ (rs_dg W p ^^^ rs_dg F p) = rs_dg W p ^^^ rs_dg W p := by rw [y]
          rw [← Nat.xor_assoc, Nat.xor_self, Nat.zero_xor] at t
          exact t
        rw [rs_z0 _ _ y'] at e
        exact nm_r (e' := nI c) (nI_add c 0) (nm_r (nI_1 p) (ih (p + 1) c (by omega) e))
      · have y' : rs_dg F p ≠ 0 := by
          intro t
          rw [t, Nat.xor_zero] at y
          exact y rfl
        rw [rs_zs _ _ y'] at e
        exact nm_r (nI_1 c) (nm_r (nI_1 p) (ih (p + 1) (c + 1) (by omega) e))
    · rw [rs_zs _ _ z] at e
      exact nm_r (e' := nI c) (nI_add c 0) (nm_r (nI_1 p) (ih (p + 1) c (by omega) e))
theorem rs_right {post : Int32 → St2 → Prop} {fl fd : Int32} {a1 a2 a3 a4 a5 a6 a7 a8 a9 a10 : Nat → Int32} {W M F lo d : Nat} (ht : rs_Tb a3 a4) (hW : rs_A a1 7 W) (hM : rs_A a2 7 M) (hV : rs_A a10 7 (W ^^^ F)) (h0 : rs_sy (W ^^^ F) = 0) (he : rs_df F M = d) (hd : 2 * d + lo ≤ 4) (K : post 1 (fl, nI d, a1, a2, a3, a4, a5, a6, a7, a8, a9, a10)) : wpX_isRight post (fl, fd, a1, a2, a3, a4, a5, a6, a7, a8, a9, a10) (nI lo) :=
  ⟨8, rs_r7 ht hW hM hV ⟨5, rs_r59 ht hV (fun j h1 h5 => rs_vl_of _ j h0 h1 h5) hd K 4 1 (by omega) (by omega)⟩ 7 0 0 (by omega) he⟩
/-- what findWhole needs, to answer 1: F is what is added, d the differences -/
def rs_gd (W M F d : Nat) : Prop := rs_dc (rs_sy W) M = F ∧ rs_sy (W ^^^ F) = 0 ∧ rs_df F M = d ∧ rs_lo M < 5 ∧ 2 * d + rs_lo M ≤ 4
/-- a state that holds the word W, the missing places M -/
def rs_K (W M : Nat) (a1 a2 a3 a4 : Nat → Int32) : Prop := rs_A a1 7 W ∧ rs_A a2 7 M ∧ rs_Tb a3 a4
theorem rs_f96 {post : Int32 → St2 → Prop} {x1 fl fd : Int32} {a1 a2 a3 a4 a5 a6 a7 a8 a9 : Nat → Int32} {R N : Nat} {w : Nat → Nat} (ht : rs_Tb a3 a4) (h6 : rs_A a6 10 R) (h9 : rs_A a9 4 N) (K : ∀ a10, (∀ j, j < 7 → a10 j = nI (w j ^^^ rs_co R N j)) → wpX_isRight (fun r u => match u with | (gl, gd, b1, b2, b3, b4, b5, b6, b7, b8, b9, b10) => (narrow .boolean (.int r) = .int r ∧ (post r (gl, gd, b1, b2, b3, b4, b5, b6, b7, b8, b9, b10)))) (fl, fd, a1, a2, a3, a4, a5, a6, a7, a8, a9, a10) x1) (n : Nat) :
    ∀ p a10, p + n = 7 → (∀ j, j < p → a10 j = nI (w j ^^^ rs_co R N j)) → (∀ j, p ≤ j → j < 7 → a10 j = nI (w j)) → wX_findWhole_96 post x1 (n + 1) (nI p) fl fd a1 a2 a3 a4 a5 a6 a7 a8 a9 a10 := by
  induction n with
  | zero =>
    intro p a10 hp h1 h2
    exact pk_le 7 p (fun _ => K a10 (fun j hj => h1 j (by omega))) (fun z => absurd z (by omega))
  | succ n ih =>
    intro p a10 hp h1 h2
    refine pk_le 7 p (fun z => absurd z (by omega)) (fun _ => rs_corr ht h6 h9 (h2 p (by omega) (by omega)) (by omega) (fun b10 q1 q2 => nm_r (nI_1 p) (ih (p + 1) b10 (by omega) (fun j hj => ?_) (fun j hj hj2 => ?_))))
    · by_cases e : j = p
      · rw [e]
        exact q1
      · rw [q2 j e]
        exact h1 j (by omega)
    · rw [q2 j (by omega)]
      exact h2 j (by omega) hj2
theorem rs_f54 {post : Int32 → St2 → Prop} {fl fd : Int32} {a1 a2 a3 a4 a6 a7 a8 a9 a10 : Nat → Int32} {W M F d : Nat} (hK : rs_K W M a1 a2 a3 a4) (h10 : rs_A a10 7 W) (g : rs_gd W M F d) (K : ∀ (f : Int32) (b5 b6 b7 b8 b9 b10 : Nat → Int32), rs_A b10 7 (W ^^^ F) → post 1 (f, nI d, a1, a2, a3, a4, b5, b6, b7, b8, b9, b10)) (n : Nat) :
    ∀ j b5, j + n = 5 → 1 ≤ j → (∀ i, 1 ≤ i → i < j → b5 i = nI (rs_dg (rs_sy W) i)) → wX_findWhole_54 post (nI (rs_lo M)) fl fd (n + 1) (nI j) a1 a2 a3 a4 b5 a6 a7 a8 a9 a10 := by
  obtain ⟨hW, hM, ht⟩ := hK
  obtain ⟨g1, g2, g3, g4, g5⟩ := g
  induction n with
  | zero =>
    intro j b5 hj _ h5
    have h5' : rs_Y b5 (rs_sy W) := fun k k1 k5 => h5 k k1 (by omega)
    refine pk_le 5 j (fun _ => rs_build ht hM h5' g4 (fun f b6 b7 b8 h6 => rs_num ht h5' h6 (fun b9 h9 => ⟨8, rs_f96 (w := rs_dg W) ht h6 h9 (fun b10 q => ?_) 7 0 a10 (by omega) (fun i hi => absurd hi (by omega)) (fun i _ hi => h10 i hi)⟩))) (fun z => absurd z (by omega))
    have hV : rs_A b10 7 (W ^^^ F) := by
      intro k hk
      rw [q k hk, rs_dg_xor, ← g1, rs_dc_e, rs_fw_dg _ _ k hk]
    exact rs_right ht hW hM hV g2 g3 g5 ⟨rfl, K f b5 b6 b7 b8 b9 b10 hV⟩
  | succ n ih =>
    intro j b5 hj h1 h5
    refine pk_le 5 j (fun z => absurd z (by omega)) (fun _ => ⟨vp_in_nI (by omega) (by decide), ?_⟩)
    rw [rs_c ht.1 (by omega) (by decide), rs_cl' (by omega)]
    refine rs_val1 ht hW (rs_dg_lt _ _) ⟨vp_in_nI (by omega) (by decide), nm_e (nm_r (nI_1 j) (ih (j + 1) _ (by omega) (by omega) (fun i i1 i2 => ?_)))⟩
    by_cases e : i = j
    · rw [e, pk_us, rs_sy_dg W j h1 (by omega)]
    · rw [pk_un e]
      exact h5 i i1 (by omega)
theorem rs_f4 {post : Int32 → St2 → Prop} {fl fd : Int32} {a1 a2 a3 a4 a5 a6 a7 a8 a9 : Nat → Int32} {W M : Nat} (hK : rs_K W M a1 a2 a3 a4) (K : ∀ b10, rs_A b10 7 W → (nI (rs_lo M) ≤ 4 → ∃ fu : Nat, wX_findWhole_54 post (nI (rs_lo M)) fl fd fu 1 a1 a2 a3 a4 a5 a6 a7 a8 a9 b10) ∧ (¬ nI (rs_lo M) ≤ 4 → post 0 (fl, fd, a1, a2, a3, a4, a5, a6, a7, a8, a9, b10))) (n : Nat) :
    ∀ p c b10, p + n = 7 → rs_lc M n p c = rs_lo M → (∀ j, j < p → b10 j = nI (rs_dg W j)) → wX_findWhole_4 post fl fd (n + 1) (nI c) (nI p) a1 a2 a3 a4 a5 a6 a7 a8 a9 b10 := by
  obtain ⟨hW, hM, ht⟩ := hK
  induction n with
  | zero =>
    intro p c b10 hp e h10
    have e' : c = rs_lo M := e
    rw [e']
    exact pk_le 7 p (fun _ => K b10 (fun j hj => h10 j (by omega))) (fun z => absurd z (by omega))
  | succ n ih =>
    intro p c b10 hp e h10
    rw [rs_lc_s] at e
    have m8 := rs_dg_lt M p
    have f10 : ∀ j, j < p + 1 → upd b10 p (nI (rs_dg W p)) j = nI (rs_dg W j) := rs_fill (g := fun j => nI (rs_dg W j)) h10 rfl
    refine pk_le 7 p (fun z => absurd z (by omega)) (fun _ => ?_)
    rw [rs_cl' (show p < 100 by omega), hW p (by omega), hM p (by omega)]
    refine ⟨vp_in_nI (by omega) (by decide), vp_in_nI (by omega) (by decide), nm_e ⟨vp_in_nI (by omega) (by decide), pk_eq (rs_dg M p) 0 (fun z => ?_) (fun z => ?_)⟩⟩
    · rw [rs_z0 _ _ z] at e
      exact nm_r (e' := nI c) (nI_add c 0) (nm_r (nI_1 p) (ih (p + 1) c _ (by omega) e f10))
    · rw [rs_zs _ _ z] at e
      exact nm_r (nI_1 c) (nm_r (nI_1 p) (ih (p + 1) (c + 1) _ (by omega) e f10))
/-- findWhole where it answers 1 -/
theorem rs_find {post : Int32 → St2 → Prop} {fl fd : Int32} {a1 a2 a3 a4 a5 a6 a7 a8 a9 a10 : Nat → Int32} {W M F d : Nat} (hK : rs_K W M a1 a2 a3 a4) (g : rs_gd W M F d) (K : ∀ (f : Int32) (b5 b6 b7 b8 b9 b10 : Nat → Int32), rs_A b10 7 (W ^^^ F) → post 1 (f, nI d, a1, a2, a3, a4, b5, b6, b7, b8, b9, b10)) : wpX_findWhole post (fl, fd, a1, a2, a3, a4, a5, a6, a7, a8, a9, a10) :=
  ⟨8, rs_f4 hK (fun b10 h10 => br_t (nI_le (b := 4) (by have := g.2.2.2.1; omega) (by decide)) ⟨5, rs_f54 hK h10 g K 4 1 a5 (by omega) (by omega) (fun i i1 i2 => absurd i1 (by omega))⟩) 7 0 0 a10 (by omega) rfl (fun j hj => absurd hj (by omega))⟩
/-- findWhole where too many are missing -/
theorem rs_lost {post : Int32 → St2 → Prop} {fl fd : Int32} {a1 a2 a3 a4 a5 a6 a7 a8 a9 a10 : Nat → Int32} {W M : Nat} (hK : rs_K W M a1 a2 a3 a4) (g : rs_lo M = 5) (K : ∀ (b10 : Nat → Int32), post 0 (fl, fd, a1, a2, a3, a4, a5, a6, a7, a8, a9, b10)) : wpX_findWhole post (fl, fd, a1, a2, a3, a4, a5, a6, a7, a8, a9, a10) :=
  ⟨8, rs_f4 hK (fun b10 h10 => br_f (by rw [g]; decide +kernel) (K b10)) 7 0 0 a10 (by omega) rfl (fun j hj => absurd hj (by omega))⟩
end
section
/-! ===== the law's calls ===== -/
theorem rs_at {post : Int32 → Prop} {fl fd : Int32} {a1 a2 a3 a4 a5 a6 a7 a8 a9 a10 : Nat → Int32} {W M p : Nat} (hK : rs_K W M a1 a2 a3 a4) (hp : p < 7) (h : post (nI (rs_dg W p))) : wpX_at post (fl, fd, a1, a2, a3, a4, a5, a6, a7, a8, a9, a10) (nI p) := by
  unfold wpX_at
  refine rs_plc hp (br_f (by decide) ⟨vp_in_nI hp (by decide), ?_⟩)
  rw [rs_c hK.1 hp (by decide)]
  exact h
theorem rs_dgE {C E p : Nat} (h0 : rs_dg E p = 0) : rs_dg (C ^^^ E) p = rs_dg C p := by
  rw [rs_dg_xor, h0, Nat.xor_zero]
theorem rs_atE {post : Int32 → Prop} {fl fd : Int32} {a1 a2 a3 a4 a5 a6 a7 a8 a9 a10 : Nat → Int32} {C E M p : Nat} (hK : rs_K (C ^^^ E) M a1 a2 a3 a4) (hp : p < 7) (h0 : rs_dg E p = 0) (h : post (nI (rs_dg C p))) : wpX_at post (fl, fd, a1, a2, a3, a4, a5, a6, a7, a8, a9, a10) (nI p) :=
  rs_at hK hp (by rw [rs_dgE h0]; exact h)
theorem rs_change {post : Int32 → St2 → Prop} {fl fd : Int32} {a1 a2 a3 a4 a5 a6 a7 a8 a9 a10 : Nat → Int32} {W W' M p v : Nat} {y : Int32} (hK : rs_K W M a1 a2 a3 a4) (hp : p < 7) (hv : v < 8) (hy : y = nI v) (e : ∀ j, j < 7 → rs_dg W' j = if j = p then v else rs_dg W j) (K : ∀ b1, rs_K W' M b1 a2 a3 a4 → post (nI (rs_dg W p)) (fl, fd, b1, a2, a3, a4, a5, a6, a7, a8, a9, a10)) : wpX_change post (fl, fd, a1, a2, a3, a4, a5, a6, a7, a8, a9, a10) (nI p) y := by
  subst hy
  unfold wpX_change
  refine rs_plc hp (br_f (by decide) (rs_symb hv (br_f (by decide) ?_)))
  rw [rs_cl' (show p < 100 by omega), hK.1 p hp]
  refine ⟨vp_in_nI hp (by decide), nm_e ⟨vp_in_nI hp (by decide), nm_e (K _ ⟨fun j hj => ?_, hK.2⟩)⟩⟩
  rw [e j hj]
  by_cases q : j = p
  · rw [q, pk_us, if_pos rfl]
  · rw [pk_un q, if_neg q]
    exact hK.1 j hj
theorem rs_xpE (C E p x : Nat) : rs_xp (C ^^^ E) p x = C ^^^ rs_xp E p x := Nat.xor_assoc _ _ _
theorem rs_chE {post : Int32 → St2 → Prop} {fl fd : Int32} {a1 a2 a3 a4 a5 a6 a7 a8 a9 a10 : Nat → Int32} {C E M p x : Nat} {y : Int32} (hK : rs_K (C ^^^ E) M a1 a2 a3 a4) (hp : p < 7) (hx : x < 8) (h0 : rs_dg E p = 0) (hy : y = nI (rs_dg C p ^^^ x)) (K : ∀ b1, rs_K (C ^^^ rs_xp E p x) M b1 a2 a3 a4 → post (nI (rs_dg C p)) (fl, fd, b1, a2, a3, a4, a5, a6, a7, a8, a9, a10)) : wpX_change post (fl, fd, a1, a2, a3, a4, a5, a6, a7, a8, a9, a10) (nI p) y := by
  refine rs_change (W' := C ^^^ rs_xp E p x) hK hp (rs_xor_lt (rs_dg_lt _ _) hx) hy (fun j _ => ?_) (fun b1 h => ?_)
  · rw [← rs_xpE, rs_dg_xp hx, rs_dgE h0]
  · rw [rs_dgE h0]
    exact K b1 h
theorem rs_l23 {post : Int32 → St2 → Prop} {fl fd : Int32} {a1 a2 a3 a4 a5 a6 a7 a8 a9 a10 : Nat → Int32} {W M M' p v : Nat} {z : Int32} (hK : rs_K W M a1 a2 a3 a4) (hp : p < 7) (hv : v < 2) (e : ∀ j, j < 7 → rs_dg M' j = if j = p then v else rs_dg M j) (K : ∀ b2, rs_K W M' a1 b2 a3 a4 → post z (fl, fd, a1, b2, a3, a4, a5, a6, a7, a8, a9, a10)) : wX_lose_23 post (nI p) (nI v) z fl fd a1 a2 a3 a4 a5 a6 a7 a8 a9 a10 := by
  unfold wX_lose_23
  have n : vp_nar .boolean (nI v) = nI v := by
    have q : v = 0 ∨ v = 1 := by omega
    rcases q with q | q
    · rw [q]; rfl
    · rw [q]; rfl
  rw [rs_cl' (show p < 100 by omega), n]
  refine ⟨vp_in_nI hp (by decide), nm_e (K _ ⟨hK.1, fun j hj => ?_, hK.2.2⟩)⟩
  rw [e j hj]
  by_cases q : j = p
  · rw [q, pk_us, if_pos rfl]
  · rw [pk_un q, if_neg q]
    exact hK.2.1 j hj
theorem rs_lose {post : Int32 → St2 → Prop} {fl fd : Int32} {a1 a2 a3 a4 a5 a6 a7 a8 a9 a10 : Nat → Int32} {W M M' p v m : Nat} (hK : rs_K W M a1 a2 a3 a4) (hp : p < 7) (hv : v < 2) (hm : rs_dg M p = m) (hm2 : m < 2) (e : ∀ j, j < 7 → rs_dg M' j = if j = p then v else rs_dg M j) (K : ∀ b2, rs_K W M' a1 b2 a3 a4 → post (nI m) (fl, fd, a1, b2, a3, a4, a5, a6, a7, a8, a9, a10)) : wpX_lose post (fl, fd, a1, a2, a3, a4, a5, a6, a7, a8, a9, a10) (nI p) (nI v) := by
  unfold wpX_lose
  refine rs_plc hp (br_f (by decide) ⟨vp_in_nI hp (by decide), ?_⟩)
  rw [rs_c hK.2.1 hp (by decide), hm]
  refine pk_eq m 0 (fun z => rs_l23 hK hp hv e ?_) (fun z => rs_l23 hK hp hv e ?_)
  · rw [z] at K
    exact K
  · rw [show m = 1 by omega] at K
    exact K
theorem rs_wrong {post : Int32 → St2 → Prop} {fl fd : Int32} {a1 a2 a3 a4 a5 a6 a7 a8 a9 a10 : Nat → Int32} {W M F d : Nat} (hK : rs_K W M a1 a2 a3 a4) (g : rs_gd W M F d) (K : ∀ (f h : Int32) (b5 b6 b7 b8 b9 b10 : Nat → Int32), post (nI d) (f, h, a1, a2, a3, a4, b5, b6, b7, b8, b9, b10)) : wpX_wrong post (fl, fd, a1, a2, a3, a4, a5, a6, a7, a8, a9, a10) := by
  unfold wpX_wrong
  exact rs_find hK g (fun f b5 b6 b7 b8 b9 b10 _ => br_f (by decide) (K f _ b5 b6 b7 b8 b9 b10))
theorem rs_fits {post : Int32 → St2 → Prop} {fl fd : Int32} {a1 a2 a3 a4 a5 a6 a7 a8 a9 a10 : Nat → Int32} {W M F d : Nat} (hK : rs_K W M a1 a2 a3 a4) (g : rs_gd W M F d) (K : ∀ (f h : Int32) (b5 b6 b7 b8 b9 b10 : Nat → Int32), post 1 (f, h, a1, a2, a3, a4, b5, b6, b7, b8, b9, b10)) : wpX_fits post (fl, fd, a1, a2, a3, a4, a5, a6, a7, a8, a9, a10) := by
  unfold wpX_fits
  exact rs_find hK g (fun f b5 b6 b7 b8 b9 b10 _ => br_f (by decide) (K f _ b5 b6 b7 b8 b9 b10))
theorem rs_mended {post : Int32 → St2 → Prop} {fl fd : Int32} {a1 a2 a3 a4 a5 a6 a7 a8 a9 a10 : Nat → Int32} {W M F V d p : Nat} (hK : rs_K W M a1 a2 a3 a4) (g : rs_gd W M F d) (hV : W ^^^ F = V) (hp : p < 7) (K : ∀ (f h : Int32) (b5 b6 b7 b8 b9 b10 : Nat → Int32), post (nI (rs_dg V p)) (f, h, a1, a2, a3, a4, b5, b6, b7, b8, b9, b10)) : wpX_mended post (fl, fd, a1, a2, a3, a4, a5, a6, a7, a8, a9, a10) (nI p) := by
  unfold wpX_mended
  refine rs_plc hp (br_f (by decide) (rs_find hK g (fun f b5 b6 b7 b8 b9 b10 h10 => br_f (by decide) ⟨vp_in_nI hp (by decide), ?_⟩)))
  rw [rs_c h10 hp (by decide), hV]
  exact K f _ b5 b6 b7 b8 b9 b10
theorem rs_m11 {post : Int32 → St2 → Prop} {fl fd : Int32} {a3 a4 a5 a6 a7 a8 a9 a10 : Nat → Int32} {V : Nat} (ht : rs_Tb a3 a4) (h10 : rs_A a10 7 V) (K : ∀ b1 b2, rs_K V 0 b1 b2 a3 a4 → post 1 (fl, fd, b1, b2, a3, a4, a5, a6, a7, a8, a9, a10)) (n : Nat) : ∀ p b1 b2, p + n = 7 → (∀ j, j < p → b1 j = nI (rs_dg V j)) → (∀ j, j < p → b2 j = 0) → wX_mend_11 post fl fd (n + 1) (nI p) b1 b2 a3 a4 a5 a6 a7 a8 a9 a10 := by
  induction n with
  | zero =>
    intro p b1 b2 hp h1 h2
    refine pk_le 7 p (fun _ => K b1 b2 ⟨fun j hj => h1 j (by omega), fun j hj => ?_, ht⟩) (fun z => absurd z (by omega))
    rw [h2 j (by omega), rs_dg_def, Nat.zero_shiftRight]
    rfl
  | succ n ih =>
    intro p b1 b2 hp h1 h2
    refine pk_le 7 p (fun z => absurd z (by omega)) (fun _ => ?_)
    rw [rs_cl' (show p < 100 by omega), h10 p (by omega)]
    exact ⟨vp_in_nI (by omega) (by decide), vp_in_nI (by omega) (by decide), nm_e ⟨vp_in_nI (by omega) (by decide), nm_e (nm_r (nI_1 p) (ih (p + 1) _ _ (by omega) (rs_fill (g := fun j => nI (rs_dg V j)) h1 rfl) (rs_fill (g := fun _ => 0) h2 rfl)))⟩⟩
theorem rs_mend {post : Int32 → St2 → Prop} {fl fd : Int32} {a1 a2 a3 a4 a5 a6 a7 a8 a9 a10 : Nat → Int32} {W M F V d : Nat} (hK : rs_K W M a1 a2 a3 a4) (g : rs_gd W M F d) (hV : W ^^^ F = V) (K : ∀ (f h : Int32) (b1 b2 b5 b6 b7 b8 b9 b10 : Nat → Int32), rs_K V 0 b1 b2 a3 a4 → post 1 (f, h, b1, b2, a3, a4, b5, b6, b7, b8, b9, b10)) : wpX_mend post (fl, fd, a1, a2, a3, a4, a5, a6, a7, a8, a9, a10) := by
  unfold wpX_mend
  refine rs_find hK g (fun f b5 b6 b7 b8 b9 b10 h10 => br_f (by decide) ⟨8, rs_m11 hK.2.2 (hV ▸ h10) (fun b1 b2 h => K f _ b1 b2 b5 b6 b7 b8 b9 b10 h) 7 0 a1 a2 (by omega) (fun j hj => absurd hj (by omega)) (fun j hj => absurd hj (by omega))⟩)
/-! where five are missing -/
theorem rs_wrongL {post : Int32 → St2 → Prop} {fl fd : Int32} {a1 a2 a3 a4 a5 a6 a7 a8 a9 a10 : Nat → Int32} {W M : Nat} (hK : rs_K W M a1 a2 a3 a4) (g : rs_lo M = 5) (K : ∀ b10 : Nat → Int32, post (-1) (fl, fd, a1, a2, a3, a4, a5, a6, a7, a8, a9, b10)) : wpX_wrong post (fl, fd, a1, a2, a3, a4, a5, a6, a7, a8, a9, a10) := by
  unfold wpX_wrong
  exact rs_lost hK g (fun b10 => br_t rfl (K b10))
theorem rs_fitsL {post : Int32 → St2 → Prop} {fl fd : Int32} {a1 a2 a3 a4 a5 a6 a7 a8 a9 a10 : Nat → Int32} {W M : Nat} (hK : rs_K W M a1 a2 a3 a4) (g : rs_lo M = 5) (K : ∀ b10 : Nat → Int32, post 0 (fl, fd, a1, a2, a3, a4, a5, a6, a7, a8, a9, b10)) : wpX_fits post (fl, fd, a1, a2, a3, a4, a5, a6, a7, a8, a9, a10) := by
  unfold wpX_fits
  exact rs_lost hK g (fun b10 => br_t rfl (K b10))
theorem rs_mendedL {post : Int32 → St2 → Prop} {fl fd : Int32} {a1 a2 a3 a4 a5 a6 a7 a8 a9 a10 : Nat → Int32} {W M p : Nat} (hK : rs_K W M a1 a2 a3 a4) (g : rs_lo M = 5) (hp : p < 7) (K : ∀ b10 : Nat → Int32, post (-1) (fl, fd, a1, a2, a3, a4, a5, a6, a7, a8, a9, b10)) : wpX_mended post (fl, fd, a1, a2, a3, a4, a5, a6, a7, a8, a9, a10) (nI p) := by
  unfold wpX_mended
  exact rs_plc hp (br_f (by decide) (rs_lost hK g (fun b10 => br_t rfl (K b10))))
theorem rs_mendL {post : Int32 → St2 → Prop} {fl fd : Int32} {a1 a2 a3 a4 a5 a6 a7 a8 a9 a10 : Nat → Int32} {W M : Nat} (hK : rs_K W M a1 a2 a3 a4) (g : rs_lo M = 5) (K : ∀ b10 : Nat → Int32, post 0 (fl, fd, a1, a2, a3, a4, a5, a6, a7, a8, a9, b10)) : wpX_mend post (fl, fd, a1, a2, a3, a4, a5, a6, a7, a8, a9, a10) := by
  unfold wpX_mend
  exact rs_lost hK g (fun b10 => br_t rfl (K b10))
/-! arguments that are refused; value; send -/
theorem rs_send0 {post : Int32 → St2 → Prop} {fl fd : Int32} {a1 a2 a3 a4 a5 a6 a7 a8 a9 a10 : Nat → Int32} {p1 p2 : Int32} (K : post (-1) (fl, fd, a1, a2, a3, a4, a5, a6, a7, a8, a9, a10)) : wpX_send post (fl, fd, a1, a2, a3, a4, a5, a6, a7, a8, a9, a10) 8 p1 p2 := by
  unfold wpX_send
  exact pk_lt 8 0 (fun z => absurd z (by omega)) (fun _ => pk_lt 7 8 (fun _ => br_t rfl K) (fun z => absurd z (by omega)))
theorem rs_send1 {post : Int32 → St2 → Prop} {fl fd : Int32} {a1 a2 a3 a4 a5 a6 a7 a8 a9 a10 : Nat → Int32} {p2 : Int32} (K : post (-1) (fl, fd, a1, a2, a3, a4, a5, a6, a7, a8, a9, a10)) : wpX_send post (fl, fd, a1, a2, a3, a4, a5, a6, a7, a8, a9, a10) 0 (-1) p2 := by
  unfold wpX_send
  exact rs_symb (v := 0) (by decide) (br_f (by decide) (br_t (by decide) (br_t rfl K)))
theorem rs_send {post : Int32 → St2 → Prop} {fl fd : Int32} {a1 a2 a3 a4 a5 a6 a7 a8 a9 a10 : Nat → Int32} {a b c : Nat} (ht : rs_Tb a3 a4) (ha : a < 8) (hb : b < 8) (hc : c < 8) (K : ∀ b1 b2, rs_K (rs_cw a b c) 0 b1 b2 a3 a4 → post 0 (fl, fd, b1, b2, a3, a4, a5, a6, a7, a8, a9, a10)) : wpX_send post (fl, fd, a1, a2, a3, a4, a5, a6, a7, a8, a9, a10) (nI a) (nI b) (nI c) := by
  unfold wpX_send
  refine rs_symb ha (br_f (by decide) (rs_symb hb (br_f (by decide) (rs_symb hc (br_f (by decide) ⟨8, rs_s26 ht ha hb hc (fun b1 b2 h1 h2 => K b1 b2 ⟨h1, fun j hj => ?_, ht⟩) 7 0 a1 a2 (by omega) (fun j hj => absurd hj (by omega)) (fun j hj => absurd hj (by omega))⟩)))))
  rw [h2 j hj, rs_dg_def, Nat.zero_shiftRight]
  rfl
theorem rs_chg7 {post : Int32 → St2 → Prop} {fl fd : Int32} {a1 a2 a3 a4 a5 a6 a7 a8 a9 a10 : Nat → Int32} {y : Int32} (K : post (-1) (fl, fd, a1, a2, a3, a4, a5, a6, a7, a8, a9, a10)) : wpX_change post (fl, fd, a1, a2, a3, a4, a5, a6, a7, a8, a9, a10) 7 y := by
  unfold wpX_change
  exact pk_lt 7 0 (fun z => absurd z (by omega)) (fun _ => pk_lt 6 7 (fun _ => br_t rfl K) (fun z => absurd z (by omega)))
theorem rs_chg8 {post : Int32 → St2 → Prop} {fl fd : Int32} {a1 a2 a3 a4 a5 a6 a7 a8 a9 a10 : Nat → Int32} (K : post (-1) (fl, fd, a1, a2, a3, a4, a5, a6, a7, a8, a9, a10)) : wpX_change post (fl, fd, a1, a2, a3, a4, a5, a6, a7, a8, a9, a10) 0 8 := by
  unfold wpX_change
  exact rs_plc (v := 0) (by decide) (br_f (by decide) (pk_lt 8 0 (fun z => absurd z (by omega)) (fun _ => pk_lt 7 8 (fun _ => br_t rfl K) (fun z => absurd z (by omega)))))
theorem rs_losem {post : Int32 → St2 → Prop} {fl fd : Int32} {a1 a2 a3 a4 a5 a6 a7 a8 a9 a10 : Nat → Int32} {y : Int32} (K : post (-1) (fl, fd, a1, a2, a3, a4, a5, a6, a7, a8, a9, a10)) : wpX_lose post (fl, fd, a1, a2, a3, a4, a5, a6, a7, a8, a9, a10) (-1) y := by
  unfold wpX_lose
  exact br_t (by decide) (br_t rfl K)
theorem rs_mend7 {post : Int32 → St2 → Prop} {fl fd : Int32} {a1 a2 a3 a4 a5 a6 a7 a8 a9 a10 : Nat → Int32} (K : post (-1) (fl, fd, a1, a2, a3, a4, a5, a6, a7, a8, a9, a10)) : wpX_mended post (fl, fd, a1, a2, a3, a4, a5, a6, a7, a8, a9, a10) 7 := by
  unfold wpX_mended
  exact pk_lt 7 0 (fun z => absurd z (by omega)) (fun _ => pk_lt 6 7 (fun _ => br_t rfl K) (fun z => absurd z (by omega)))
theorem rs_value {post : Int32 → Prop} {fl fd : Int32} {a1 a2 a3 a4 a5 a6 a7 a8 a9 a10 : Nat → Int32} {W M z : Nat} (hK : rs_K W M a1 a2 a3 a4) (hz : z < 8) (K : post (nI (rs_vl W z))) : wpX_value post (fl, fd, a1, a2, a3, a4, a5, a6, a7, a8, a9, a10) (nI z) := by
  unfold wpX_value
  exact rs_symb hz (br_f (by decide) (rs_val1 hK.2.2 hK.1 hz K))
theorem rs_ok_gd {C E M d : Nat} (hC : rs_sy C = 0) (h : rs_ok E M d = true) (h4 : 2 * d + rs_lo M ≤ 4) : rs_gd (C ^^^ E) M E d := by
  unfold rs_ok at h
  rw [rs_fc_e, Bool.and_eq_true] at h
  refine ⟨?_, ?_, Nat.eq_of_beq_eq_true h.2, by omega, h4⟩
  · rw [rs_sy_add C E hC]
    exact Nat.eq_of_beq_eq_true h.1
  · rw [Nat.xor_assoc, Nat.xor_self, Nat.xor_zero]
    exact hC
theorem rs_o9_gd {C E M t : Nat} (hC : rs_sy C = 0) (h : rs_o9 E M t = true) (h4 : rs_lo M ≤ 4) : ∃ F, rs_gd (C ^^^ E) M F 0 ∧ rs_dg F t = 0 := by
  unfold rs_o9 at h
  rw [rs_fc_e, rs_fc_e, Bool.and_eq_true, Bool.and_eq_true] at h
  refine ⟨rs_dc (rs_sy E) M, ⟨?_, ?_, Nat.eq_of_beq_eq_true h.2.1, by omega, by omega⟩, Nat.eq_of_beq_eq_true h.2.2⟩
  · rw [rs_sy_add C E hC]
  · refine rs_sy_same _ _ ?_
    rw [rs_sy_add C E hC]
    exact (Nat.eq_of_beq_eq_true h.1).symm
end
section
/-! ===== the law ===== -/
theorem rs_dg0 (k : Nat) : rs_dg 0 k = 0 := by
  rw [rs_dg_def, Nat.zero_shiftRight]
theorem rs_dg_ne {R k v j : Nat} (hv : v < 8) (h : j ≠ k) : rs_dg (rs_xp R k v) j = rs_dg R j := by
  rw [rs_dg_xp hv, if_neg h]
theorem rs_dg_eq {R k v : Nat} (hv : v < 8) : rs_dg (rs_xp R k v) k = rs_dg R k ^^^ v := by
  rw [rs_dg_xp hv, if_pos rfl]
theorem rs_set {M p : Nat} (h : rs_dg M p = 0) : ∀ j, j < 7 → rs_dg (rs_xp M p 1) j = if j = p then 1 else rs_dg M j := by
  intro j _
  rw [rs_dg_xp (by decide), h, Nat.zero_xor]
theorem rs_set1 {M p v : Nat} (h : rs_dg M p = v) : ∀ j, j < 7 → rs_dg M j = if j = p then v else rs_dg M j := by
  intro j _
  by_cases e : j = p
  · rw [if_pos e, e, h]
  · rw [if_neg e]
theorem rs_unset {M p v : Nat} (hv : v < 8) : ∀ j, j < 7 → rs_dg M j = if j = p then rs_dg M p else rs_dg (rs_xp M p v) j := by
  intro j _
  by_cases e : j = p
  · rw [if_pos e, e]
  · rw [if_neg e, rs_dg_ne hv e]
theorem rs_xx (C E : Nat) : (C ^^^ E) ^^^ E = C := by
  rw [Nat.xor_assoc, Nat.xor_self, Nat.xor_zero]
theorem rs_ok0 : rs_ok 0 0 0 = true := by decide +kernel
theorem rs_lo0 : rs_lo 0 = 0 := by decide +kernel
theorem rs_gd0 {C : Nat} (hC : rs_sy C = 0) : rs_gd C 0 0 0 := by
  have t := rs_ok_gd (E := 0) (M := 0) (d := 0) hC rs_ok0 (by rw [rs_lo0]; decide)
  rw [Nat.xor_zero] at t
  exact t
theorem rs_pw4 : rs_dg rs_P 1 = 2 ∧ rs_dg rs_P 2 = 4 ∧ rs_dg rs_P 3 = 3 ∧ rs_dg rs_P 4 = 6 := by decide +kernel
theorem rs_753 {post : Int32 → St0 → Prop} (hpost : post 1 ()) {mc ms kc ks : Nat} {fl fd : Int32} {a1 a2 a3 a4 a5 a6 a7 a8 a9 a10 : Nat → Int32} {C W M F d p q r s : Nat} (hC : rs_sy C = 0) (hK : rs_K W M a1 a2 a3 a4) (g : rs_gd W M F d) (hV : W ^^^ F = C) (hp : p < 7) (hq : q < 7) (hr : r < 7) (hs : s < 7) :
    wL_lawOf_753 post mc ms (nI p) (nI q) (nI (rs_dg C p)) (nI (rs_dg C q)) (nI r) (nI (rs_dg C r)) (nI s) (nI (rs_dg C s)) kc ks fl fd a1 a2 a3 a4 a5 a6 a7 a8 a9 a10 := by
  have v1 := rs_vl_of C 1 hC (by decide) (by decide)
  have v2 := rs_vl_of C 2 hC (by decide) (by decide)
  have v3 := rs_vl_of C 3 hC (by decide) (by decide)
  have v4 := rs_vl_of C 4 hC (by decide) (by decide)
  rw [rs_pw4.1] at v1
  rw [rs_pw4.2.1] at v2
  rw [rs_pw4.2.2.1] at v3
  rw [rs_pw4.2.2.2] at v4
  unfold wL_lawOf_753
  refine rs_mend hK g hV (fun f h b1 b2 b5 b6 b7 b8 b9 b10 hK2 => br_t rfl ?_)
  refine rs_at hK2 hp (br_t rfl (rs_at hK2 hq (br_t rfl (rs_at hK2 hr (br_t rfl (rs_at hK2 hs (br_t rfl ?_)))))))
  refine rs_lose (M' := 0) (v := 0) (m := 0) hK2 hs (by decide) (rs_dg0 s) (by decide) (rs_set1 (rs_dg0 s)) (fun c2 hK3 => br_t rfl ?_)
  refine rs_wrong hK3 (rs_gd0 hC) (fun f' h' c5 c6 c7 c8 c9 c10 => br_t rfl ?_)
  refine rs_value (z := 2) hK3 (by decide) (br_t (by rw [v1]; rfl) ?_)
  refine rs_value (z := 4) hK3 (by decide) (br_t (by rw [v2]; rfl) ?_)
  refine rs_value (z := 3) hK3 (by decide) (br_t (by rw [v3]; rfl) ?_)
  refine rs_value (z := 6) hK3 (by decide) (br_t (by rw [v4]; rfl) ?_)
  refine rs_chg7 (br_t rfl ?_)
  refine rs_chg8 (br_t rfl ?_)
  exact rs_losem (br_t rfl hpost)
theorem rs_586 {post : Int32 → St0 → Prop} (hpost : post 1 ()) {mc ms kc ks : Nat} {fl fd : Int32} {a1 a2 a3 a4 a5 a6 a7 a8 a9 a10 : Nat → Int32} {C E M F p q r s t x : Nat} (hC : rs_sy C = 0) (hK : rs_K (C ^^^ E) M a1 a2 a3 a4) (g : rs_gd (C ^^^ E) M E 0) (hE : rs_dg E t = 0) (hM : rs_dg M t = 0) (h5 : rs_lo (rs_xp M t 1) = 5) (g9 : rs_gd (C ^^^ rs_xp E t 1) M F 0) (hF : rs_dg F t = 0) (hEs : rs_dg (C ^^^ E) s = rs_dg C s ^^^ x) (hp : p < 7) (hq : q < 7) (hr : r < 7) (hs : s < 7) (ht : t < 7) (htp : t ≠ p) (htq : t ≠ q) (n : Nat) :
    ∀ k, k + n = t → (∀ j, k ≤ j → j < t → j = p ∨ j = q) → wL_lawOf_586 post mc ms (nI p) (nI q) (nI x) (nI (rs_dg C p)) (nI (rs_dg C q)) (nI r) (nI (rs_dg C r)) (nI s) (nI (rs_dg C s)) kc ks fl fd a1 a2 a3 a4 a5 a6 a7 a8 a9 a10 (n + 1) (nI k) := by
  induction n with
  | zero =>
    intro k hk _
    have e : k = t := hk
    subst e
    refine pk_eq k p (fun z => absurd z htp) (fun _ => pk_eq k q (fun z => absurd z htq) (fun _ => pk_le 7 k (fun z => absurd z (by omega)) (fun _ => ?_)))
    refine rs_lose (M' := rs_xp M k 1) (v := 1) (m := 0) hK ht (by decide) hM (by decide) (rs_set hM) (fun b2 hK2 => br_t rfl ?_)
    refine rs_fitsL hK2 h5 (fun b10 => br_t rfl ?_)
    refine rs_wrongL hK2 h5 (fun b10 => br_t rfl ?_)
    refine rs_mendedL (p := 4) hK2 h5 (by decide) (fun b10 => br_t rfl ?_)
    refine rs_mendL hK2 h5 (fun b10 => br_t rfl ?_)
    refine rs_at hK2 hs (br_t (by rw [hEs, nx_xor]) ?_)
    refine rs_lose (M' := M) (v := 0) (m := 1) hK2 ht (by decide) (by rw [rs_dg_eq (by decide), hM, Nat.zero_xor]) (by decide) (fun j hj => by have := rs_unset (M := M) (p := k) (v := 1) (by decide) j hj; rw [hM] at this; exact this) (fun c2 hK3 => br_t rfl ?_)
    refine rs_atE hK3 ht hE ?_
    refine rs_chE (x := 1) hK3 ht (by decide) hE (nx_xor _ 1) (fun b1 hK4 => br_t rfl ?_)
    refine rs_wrong hK4 g9 (fun f h c5 c6 c7 c8 c9 c10 => br_t rfl ?_)
    have w : rs_dg (C ^^^ rs_xp E k 1) k = rs_dg C k ^^^ 1 := by rw [rs_dg_xor, rs_dg_eq (by decide), hE, Nat.zero_xor]
    refine rs_mended hK4 g9 rfl ht (fun f h c5 c6 c7 c8 c9 c10 => br_t ?_ ?_)
    · rw [rs_dg_xor, w, hF, Nat.xor_zero]
      exact (nx_xor _ 1).symm
    refine rs_change (W' := C ^^^ E) (v := rs_dg C k) hK4 ht (rs_dg_lt _ _) rfl (fun j hj => ?_) (fun d1 hK5 => br_t ?_ ?_)
    · by_cases q : j = k
      · rw [if_pos q, q, rs_dgE hE]
      · rw [if_neg q, rs_dg_xor, rs_dg_xor, rs_dg_ne (by decide) q]
    · rw [w]
      exact (nx_xor _ 1).symm
    exact rs_753 hpost hC hK5 g (rs_xx C E) hp hq hr hs
  | succ n ih =>
    intro k hk hj
    have nx : wL_lawOf_586 post mc ms (nI p) (nI q) (nI x) (nI (rs_dg C p)) (nI (rs_dg C q)) (nI r) (nI (rs_dg C r)) (nI s) (nI (rs_dg C s)) kc ks fl fd a1 a2 a3 a4 a5 a6 a7 a8 a9 a10 (n + 1) (nI (k + 1)) := ih (k + 1) (by omega) (fun j h1 h2 => hj j (by omega) h2)
    exact pk_eq k p (fun _ => nm_r (nI_1 k) nx) (fun z => pk_eq k q (fun _ => nm_r (nI_1 k) nx) (fun y => by rcases hj k (by omega) (by omega) with w | w; exact absurd w z; exact absurd w y))
theorem rs_490 {post : Int32 → St0 → Prop} {mc ms kc ks : Nat} {fl fd : Int32} {a1 a2 a3 a4 a5 a6 a7 a8 a9 a10 : Nat → Int32} {C E M b p q r s x : Nat} (hK : rs_K (C ^^^ E) M a1 a2 a3 a4) (hE : rs_dg E s = 0) (hM : rs_dg M s = 0) (g : rs_gd (C ^^^ rs_xp E s x) (rs_xp M s 1) (rs_xp E s x) 0) (h5 : rs_dg C 5 = b) (hx : x < 8) (hp : p < 7) (hq : q < 7) (hs : s < 7) (hsp : s ≠ p) (hsq : s ≠ q)
    (K : ∀ (f h : Int32) (b1 b2 b5 b6 b7 b8 b9 b10 : Nat → Int32), rs_K (C ^^^ rs_xp E s x) (rs_xp M s 1) b1 b2 a3 a4 → ∃ fu : Nat, wL_lawOf_586 post mc ms (nI p) (nI q) (nI x) (nI (rs_dg C p)) (nI (rs_dg C q)) (nI r) (nI (rs_dg C r)) (nI s) (nI (rs_dg C s)) kc ks f h b1 b2 a3 a4 b5 b6 b7 b8 b9 b10 fu (nI (s + 1))) (n : Nat) :
    ∀ k, k + n = s → (∀ j, k ≤ j → j < s → j = p ∨ j = q) → wL_lawOf_490 post mc ms (nI b) (nI p) (nI q) (nI x) (nI (rs_dg C p)) (nI (rs_dg C q)) (nI r) (nI (rs_dg C r)) kc ks fl fd a1 a2 a3 a4 a5 a6 a7 a8 a9 a10 (n + 1) (nI k) := by
  induction n with
  | zero =>
    intro k hk _
    have e : k = s := hk
    subst e
    refine pk_eq k p (fun z => absurd z hsp) (fun _ => pk_eq k q (fun z => absurd z hsq) (fun _ => ?_))
    refine rs_atE hK hs hE ?_
    refine rs_chE (x := x) hK hs hx hE (nx_xor _ _) (fun b1 hK2 => br_t rfl ?_)
    refine rs_lose (M' := rs_xp M k 1) (v := 1) (m := 0) hK2 hs (by decide) hM (by decide) (rs_set hM) (fun b2 hK3 => br_t rfl ?_)
    refine rs_wrong hK3 g (fun f h c5 c6 c7 c8 c9 c10 => br_t rfl ?_)
    refine rs_mended hK3 g (rs_xx _ _) hs (fun f h c5 c6 c7 c8 c9 c10 => br_t rfl ?_)
    refine rs_mended (p := 5) hK3 g (rs_xx _ _) (by decide) (fun f h c5 c6 c7 c8 c9 c10 => br_t (by rw [h5]) ?_)
    exact nm_r (nI_1 k) (K f h b1 b2 c5 c6 c7 c8 c9 c10 hK3)
  | succ n ih =>
    intro k hk hj
    have nx : wL_lawOf_490 post mc ms (nI b) (nI p) (nI q) (nI x) (nI (rs_dg C p)) (nI (rs_dg C q)) (nI r) (nI (rs_dg C r)) kc ks fl fd a1 a2 a3 a4 a5 a6 a7 a8 a9 a10 (n + 1) (nI (k + 1)) := ih (k + 1) (by omega) (fun j h1 h2 => hj j (by omega) h2)
    exact pk_eq k p (fun _ => nm_r (nI_1 k) nx) (fun z => pk_eq k q (fun _ => nm_r (nI_1 k) nx) (fun y => by rcases hj k (by omega) (by omega) with w | w; exact absurd w z; exact absurd w y))
theorem rs_384 {post : Int32 → St0 → Prop} {mc ms kc ks : Nat} {fl fd : Int32} {a1 a2 a3 a4 a5 a6 a7 a8 a9 a10 : Nat → Int32} {C E M b p q r x y : Nat} (hK : rs_K (C ^^^ E) M a1 a2 a3 a4) (hE : rs_dg E r = 0) (hM : rs_dg M r = 0) (g5 : rs_gd (C ^^^ rs_xp E r y) M (rs_xp E r y) 1) (g6 : rs_gd (C ^^^ rs_xp E r y) (rs_xp M r 1) (rs_xp E r y) 0) (hy : y < 8) (hp : p < 7) (hq : q < 7) (hr : r < 7) (hrp : r ≠ p) (hrq : r ≠ q)
    (K : ∀ (f h : Int32) (b1 b2 b5 b6 b7 b8 b9 b10 : Nat → Int32), rs_K (C ^^^ rs_xp E r y) (rs_xp M r 1) b1 b2 a3 a4 → ∃ fu : Nat, wL_lawOf_490 post mc ms (nI b) (nI p) (nI q) (nI x) (nI (rs_dg C p)) (nI (rs_dg C q)) (nI r) (nI (rs_dg C r)) kc ks f h b1 b2 a3 a4 b5 b6 b7 b8 b9 b10 fu (nI (r + 1))) (n : Nat) :
    ∀ k, k + n = r → (∀ j, k ≤ j → j < r → j = p ∨ j = q) → wL_lawOf_384 post mc ms (nI b) (nI p) (nI q) (nI x) (nI y) (nI (rs_dg C p)) (nI (rs_dg C q)) kc ks fl fd a1 a2 a3 a4 a5 a6 a7 a8 a9 a10 (n + 1) (nI k) := by
  induction n with
  | zero =>
    intro k hk _
    have e : k = r := hk
    subst e
    refine pk_eq k p (fun z => absurd z hrp) (fun _ => pk_eq k q (fun z => absurd z hrq) (fun _ => ?_))
    refine rs_atE hK hr hE ?_
    refine rs_chE (x := y) hK hr hy hE (nx_xor _ _) (fun b1 hK2 => br_t rfl ?_)
    refine rs_wrong hK2 g5 (fun f h c5 c6 c7 c8 c9 c10 => br_t rfl ?_)
    refine rs_mended hK2 g5 (rs_xx _ _) hr (fun f h c5 c6 c7 c8 c9 c10 => br_t rfl ?_)
    refine rs_lose (M' := rs_xp M k 1) (v := 1) (m := 0) hK2 hr (by decide) hM (by decide) (rs_set hM) (fun b2 hK3 => br_t rfl ?_)
    refine rs_wrong hK3 g6 (fun f h c5 c6 c7 c8 c9 c10 => br_t rfl ?_)
    refine rs_mended hK3 g6 (rs_xx _ _) hr (fun f h c5 c6 c7 c8 c9 c10 => br_t rfl ?_)
    exact nm_r (nI_1 k) (K f h b1 b2 c5 c6 c7 c8 c9 c10 hK3)
  | succ n ih =>
    intro k hk hj
    have nx : wL_lawOf_384 post mc ms (nI b) (nI p) (nI q) (nI x) (nI y) (nI (rs_dg C p)) (nI (rs_dg C q)) kc ks fl fd a1 a2 a3 a4 a5 a6 a7 a8 a9 a10 (n + 1) (nI (k + 1)) := ih (k + 1) (by omega) (fun j h1 h2 => hj j (by omega) h2)
    exact pk_eq k p (fun _ => nm_r (nI_1 k) nx) (fun z => pk_eq k q (fun _ => nm_r (nI_1 k) nx) (fun y => by rcases hj k (by omega) (by omega) with w | w; exact absurd w z; exact absurd w y))
/-! the places, the sets and the errors -/
theorem rs_nx_spec (p q k : Nat) : rs_nx p q k ≠ p ∧ rs_nx p q k ≠ q ∧ k ≤ rs_nx p q k ∧ ∀ j, k ≤ j → j < rs_nx p q k → j = p ∨ j = q := by
  unfold rs_nx
  split
  · split
    · refine ⟨by omega, by omega, by omega, fun j h1 h2 => by omega⟩
    · refine ⟨by omega, by omega, by omega, fun j h1 h2 => by omega⟩
  · refine ⟨by omega, by omega, by omega, fun j h1 h2 => by omega⟩
noncomputable def rs_lk (p q : Nat) : Bool := rs_fc (rs_nx p q (nat_lit 0)) fun r => rs_fc (rs_nx p q (Nat.succ r)) fun s => rs_fc (rs_nx p q (Nat.succ s)) fun t =>
  and (Nat.ble t (nat_lit 6)) (and (Nat.beq (rs_lo (rs_xp 0 p 1)) 1) (and (Nat.beq (rs_lo (rs_xp (rs_xp 0 p 1) q 1)) 2) (and (Nat.beq (rs_lo (rs_xp (rs_xp (rs_xp 0 p 1) q 1) r 1)) 3) (and (Nat.beq (rs_lo (rs_xp (rs_xp (rs_xp (rs_xp 0 p 1) q 1) r 1) s 1)) 4) (Nat.beq (rs_lo (rs_xp (rs_xp (rs_xp (rs_xp (rs_xp 0 p 1) q 1) r 1) s 1) t 1)) 5)))))
theorem rs_lk_t : ∀ p, p < 7 → ∀ q, q < 7 → p = q ∨ rs_lk p q = true := by decide +kernel
theorem rs_facts {C p q x y : Nat} (hC : rs_sy C = 0) (hp : p < 7) (hq : q < 7) (hpq : p ≠ q) (hx : 1 ≤ x) (hx8 : x < 8) (hy : 1 ≤ y) (hy8 : y < 8) : ∃ r s t, t < 7 ∧ r < s ∧ s < t ∧ (r ≠ p ∧ r ≠ q) ∧ (s ≠ p ∧ s ≠ q) ∧ (t ≠ p ∧ t ≠ q) ∧ (∀ j, 0 ≤ j → j < r → j = p ∨ j = q) ∧ (∀ j, r + 1 ≤ j → j < s → j = p ∨ j = q) ∧ (∀ j, s + 1 ≤ j → j < t → j = p ∨ j = q) ∧
    rs_lo (rs_xp (rs_xp (rs_xp (rs_xp (rs_xp 0 p 1) q 1) r 1) s 1) t 1) = 5 ∧ rs_gd (C ^^^ rs_xp 0 p x) 0 (rs_xp 0 p x) 1 ∧ rs_gd (C ^^^ rs_xp (rs_xp 0 p x) q y) 0 (rs_xp (rs_xp 0 p x) q y) 2 ∧ rs_gd (C ^^^ rs_xp (rs_xp 0 p x) q y) (rs_xp 0 p 1) (rs_xp (rs_xp 0 p x) q y) 1 ∧ rs_gd (C ^^^ rs_xp (rs_xp 0 p x) q y) (rs_xp (rs_xp 0 p 1) q 1) (rs_xp (rs_xp 0 p x) q y) 0 ∧
    rs_gd (C ^^^ rs_xp (rs_xp (rs_xp 0 p x) q y) r y) (rs_xp (rs_xp 0 p 1) q 1) (rs_xp (rs_xp (rs_xp 0 p x) q y) r y) 1 ∧ rs_gd (C ^^^ rs_xp (rs_xp (rs_xp 0 p x) q y) r y) (rs_xp (rs_xp (rs_xp 0 p 1) q 1) r 1) (rs_xp (rs_xp (rs_xp 0 p x) q y) r y) 0 ∧
    rs_gd (C ^^^ rs_xp (rs_xp (rs_xp (rs_xp 0 p x) q y) r y) s x) (rs_xp (rs_xp (rs_xp (rs_xp 0 p 1) q 1) r 1) s 1) (rs_xp (rs_xp (rs_xp (rs_xp 0 p x) q y) r y) s x) 0 ∧
    ∃ F, rs_gd (C ^^^ rs_xp (rs_xp (rs_xp (rs_xp (rs_xp 0 p x) q y) r y) s x) t 1) (rs_xp (rs_xp (rs_xp (rs_xp 0 p 1) q 1) r 1) s 1) F 0 ∧ rs_dg F t = 0 := by
  have A := rs_all hp hq hpq hx hx8 hy hy8
  have B := rs_lk_t p hp q hq
  have B := B.resolve_left hpq
  unfold rs_lk at B
  rw [rs_fc_e, rs_fc_e, rs_fc_e] at B
  have R := rs_nx_spec p q 0
  have S := rs_nx_spec p q (rs_nx p q 0 + 1)
  have T := rs_nx_spec p q (rs_nx p q (rs_nx p q 0 + 1) + 1)
  have B' : (and (Nat.ble (rs_nx p q (rs_nx p q (rs_nx p q 0 + 1) + 1)) 6) (and (Nat.beq (rs_lo (rs_xp 0 p 1)) 1) (and (Nat.beq (rs_lo (rs_xp (rs_xp 0 p 1) q 1)) 2) (and (Nat.beq (rs_lo (rs_xp (rs_xp (rs_xp 0 p 1) q 1) (rs_nx p q 0) 1)) 3) (and (Nat.beq (rs_lo (rs_xp (rs_xp (rs_xp (rs_xp 0 p 1) q 1) (rs_nx p q 0) 1) (rs_nx p q (rs_nx p q 0 + 1)) 1)) 4) (Nat.beq (rs_lo (rs_xp (rs_xp (rs_xp (rs_xp (rs_xp 0 p 1) q 1) (rs_nx p q 0) 1) (rs_nx p q (rs_nx p q 0 + 1)) 1) (rs_nx p q (rs_nx p q (rs_nx p q 0 + 1) + 1)) 1)) 5)))))) = true := B
  clear B
  generalize rs_nx p q (rs_nx p q (rs_nx p q 0 + 1) + 1) = t at *
  generalize rs_nx p q (rs_nx p q 0 + 1) = s at *
  generalize rs_nx p q 0 = r at *
  rw [rs_st_e] at A
  simp only [Bool.and_eq_true] at A B'
  obtain ⟨A1, A2, A3, A4, A5, A6, A7, A8⟩ := A
  obtain ⟨b0, b1, b2, b3, b4, b5⟩ := B'
  have b0 := Nat.le_of_ble_eq_true b0
  have b1 := Nat.eq_of_beq_eq_true b1
  have b2 := Nat.eq_of_beq_eq_true b2
  have b3 := Nat.eq_of_beq_eq_true b3
  have b4 := Nat.eq_of_beq_eq_true b4
  have b5 := Nat.eq_of_beq_eq_true b5
  exact ⟨r, s, t, by omega, by have := S.2.2.1; omega, by have := T.2.2.1; omega, ⟨R.1, R.2.1⟩, ⟨S.1, S.2.1⟩, ⟨T.1, T.2.1⟩, R.2.2.2, S.2.2.2, T.2.2.2, b5,
    rs_ok_gd hC A1 (by rw [rs_lo0]; decide), rs_ok_gd hC A2 (by rw [rs_lo0]; decide), rs_ok_gd hC A3 (by rw [b1]; decide), rs_ok_gd hC A4 (by rw [b2]; decide), rs_ok_gd hC A5 (by rw [b2]; decide), rs_ok_gd hC A6 (by rw [b3]; decide), rs_ok_gd hC A7 (by rw [b4]; decide), rs_o9_gd hC A8 (by rw [b4]; decide)⟩
end
section
/-! ===== the top ===== -/
theorem rs_cell {post : Int32 → Prop} {L : Nat} {xs : Nat → Int32} (hL : L ≤ 5) (k : Nat) (hk : k < 100) (H : ∀ r, post r) : wpL_cellAt post L xs () (nI k) :=
  pk_le L k (fun _ => H 0) (fun z => ⟨vp_in_nI z (by omega), H _⟩)
theorem rs_and7 (x : Int32) : ∃ j : Nat, j < 8 ∧ x &&& 7 = nI j := pk_andE x 3 (by decide +kernel)
theorem rs_and255 (x : Int32) : ∃ j : Nat, j < 256 ∧ x &&& 255 = nI j := pk_andE x 8 (by decide +kernel)
theorem rs_rem7 (x : Int32) : ∃ j : Nat, j < 7 ∧ (x &&& 255) - (x &&& 255) / 7 * 7 = nI j := by
  obtain ⟨j, hj, e⟩ := rs_and255 x
  rw [e]
  exact ⟨j % 7, Nat.mod_lt _ (by decide), pk_rem (d := 7) (by omega) (by decide) (by decide)⟩
theorem rs_rem6 (x : Int32) : ∃ j : Nat, j < 6 ∧ (x &&& 255) - (x &&& 255) / 6 * 6 = nI j := by
  obtain ⟨j, hj, e⟩ := rs_and255 x
  rw [e]
  exact ⟨j % 6, Nat.mod_lt _ (by decide), pk_rem (d := 6) (by omega) (by decide) (by decide)⟩
theorem rs_placeQ {p : Nat} (hp : p < 7) (x : Int32) : ∃ q : Nat, q < 7 ∧ p ≠ q ∧ ((nI p + 1) + ((x &&& 255) - (x &&& 255) / 6 * 6)) - ((nI p + 1) + ((x &&& 255) - (x &&& 255) / 6 * 6)) / 7 * 7 = nI q := by
  obtain ⟨j, hj, e⟩ := rs_rem6 x
  rw [e, nI_1, nI_add]
  exact ⟨(p + 1 + j) % 7, Nat.mod_lt _ (by decide), by omega, pk_rem (d := 7) (by omega) (by decide) (by decide)⟩
theorem rs_sym1 (x : Int32) : ∃ j : Nat, 1 ≤ j ∧ j < 8 ∧ 1 + ((x &&& 255) - (x &&& 255) / 7 * 7) = nI j := by
  obtain ⟨j, hj, e⟩ := rs_rem7 x
  rw [e]
  exact ⟨1 + j, by omega, by omega, nI_add 1 j⟩
theorem rs_lawOf (p0 p1 p2 p3 p4 : Int32) : wpL_lawOf (fun r _ => r = 1) 11 94 () p0 p1 p2 p3 p4 := by
  obtain ⟨a, ha, ea⟩ := rs_and7 p0
  obtain ⟨b, hb, eb⟩ := rs_and7 (p0 >>> ((3 : Int32) &&& 31))
  obtain ⟨c, hc, ec⟩ := rs_and7 (p0 >>> ((6 : Int32) &&& 31))
  obtain ⟨p, hp, ep⟩ := rs_rem7 p1
  obtain ⟨q, hq, hpq, eq⟩ := rs_placeQ hp p2
  obtain ⟨x, hx, hx8, ex⟩ := rs_sym1 p3
  obtain ⟨y, hy, hy8, ey⟩ := rs_sym1 p4
  have hC := rs_cw_sy a b c ha hb hc
  have h4 : rs_dg (rs_cw a b c) 4 = a := rs_cw_dg a b c ha hb hc 4 (by decide)
  have h5 : rs_dg (rs_cw a b c) 5 = b := rs_cw_dg a b c ha hb hc 5 (by decide)
  have h6 : rs_dg (rs_cw a b c) 6 = c := rs_cw_dg a b c ha hb hc 6 (by decide)
  unfold wpL_lawOf
  refine ⟨by decide, by decide, 10, 82, by decide, by decide, rs_init (fun b3 b4 ht => ?_)⟩
  refine nm_r ea (nm_r eb (nm_r ec ⟨by decide, nm_r ep ⟨by decide, by decide, nm_r eq ⟨by decide, nm_r ex ⟨by decide, nm_r ey ?_⟩⟩⟩⟩))
  refine rs_send ht ha hb hc (fun c1 c2 hK => br_t rfl (rs_send0 (br_t rfl (rs_send1 (br_t rfl ?_)))))
  obtain ⟨r, s, t, t7, rs, st, ⟨rp, rq⟩, ⟨sp, sq⟩, ⟨tp, tq⟩, jr, js, jt, l5, g1, g2, g3, g4, g5, g6, g7, F, g9, hF⟩ := rs_facts hC hp hq hpq hx hx8 hy hy8
  generalize rs_cw a b c = C at *
  have d1q : rs_dg (rs_xp 0 p x) q = 0 := by rw [rs_dg_ne hx8 (Ne.symm hpq), rs_dg0]
  have d2r : rs_dg (rs_xp (rs_xp 0 p x) q y) r = 0 := by rw [rs_dg_ne hy8 rq, rs_dg_ne hx8 rp, rs_dg0]
  have d3s : rs_dg (rs_xp (rs_xp (rs_xp 0 p x) q y) r y) s = 0 := by rw [rs_dg_ne hy8 (by omega), rs_dg_ne hy8 sq, rs_dg_ne hx8 sp, rs_dg0]
  have d4s : rs_dg (C ^^^ rs_xp (rs_xp (rs_xp (rs_xp 0 p x) q y) r y) s x) s = rs_dg C s ^^^ x := by rw [rs_dg_xor, rs_dg_eq hx8, d3s, Nat.zero_xor]
  have d4t : rs_dg (rs_xp (rs_xp (rs_xp (rs_xp 0 p x) q y) r y) s x) t = 0 := by rw [rs_dg_ne hx8 (by omega), rs_dg_ne hy8 (by omega), rs_dg_ne hy8 tq, rs_dg_ne hx8 tp, rs_dg0]
  have m1p : rs_dg (rs_xp 0 p 1) p = 1 := by rw [rs_dg_eq (by decide), rs_dg0, Nat.zero_xor]
  have m1q : rs_dg (rs_xp 0 p 1) q = 0 := by rw [rs_dg_ne (by decide) (Ne.symm hpq), rs_dg0]
  have m2r : rs_dg (rs_xp (rs_xp 0 p 1) q 1) r = 0 := by rw [rs_dg_ne (by decide) rq, rs_dg_ne (by decide) rp, rs_dg0]
  have m3s : rs_dg (rs_xp (rs_xp (rs_xp 0 p 1) q 1) r 1) s = 0 := by rw [rs_dg_ne (by decide) (by omega), rs_dg_ne (by decide) sq, rs_dg_ne (by decide) sp, rs_dg0]
  have m4t : rs_dg (rs_xp (rs_xp (rs_xp (rs_xp 0 p 1) q 1) r 1) s 1) t = 0 := by rw [rs_dg_ne (by decide) (by omega), rs_dg_ne (by decide) (by omega), rs_dg_ne (by decide) tq, rs_dg_ne (by decide) tp, rs_dg0]
  have hK : rs_K (C ^^^ 0) 0 c1 c2 b3 b4 := by rw [Nat.xor_zero]; exact hK
  have w1p : rs_dg (C ^^^ rs_xp (rs_xp 0 p x) q y) p = rs_dg C p ^^^ x := by rw [rs_dg_xor, rs_dg_ne hy8 hpq, rs_dg_eq hx8, rs_dg0, Nat.zero_xor]
  refine rs_atE (p := 4) hK (by decide) (rs_dg0 4) (br_t (by rw [h4]) ?_)
  refine rs_atE hK hp (rs_dg0 p) (rs_atE hK hq (rs_dg0 q) ?_)
  refine rs_chE hK hp hx8 (rs_dg0 p) (nx_xor _ _) (fun d1 hK1 => br_t rfl ?_)
  refine rs_wrong hK1 g1 (fun f h e5 e6 e7 e8 e9 e10 => br_t rfl ?_)
  refine rs_mended hK1 g1 (rs_xx _ _) hp (fun f h e5 e6 e7 e8 e9 e10 => br_t rfl ?_)
  refine rs_chE hK1 hq hy8 d1q (nx_xor _ _) (fun k1 hK2 => br_t rfl ?_)
  refine rs_wrong hK2 g2 (fun f h e5 e6 e7 e8 e9 e10 => br_t rfl ?_)
  refine rs_mended hK2 g2 (rs_xx _ _) hq (fun f h e5 e6 e7 e8 e9 e10 => br_t rfl ?_)
  refine rs_fits hK2 g2 (fun f h e5 e6 e7 e8 e9 e10 => br_t rfl ?_)
  refine rs_mended (p := 4) hK2 g2 (rs_xx _ _) (by decide) (fun f h e5 e6 e7 e8 e9 e10 => br_t (by rw [h4]) ?_)
  refine rs_mended (p := 5) hK2 g2 (rs_xx _ _) (by decide) (fun f h e5 e6 e7 e8 e9 e10 => br_t (by rw [h5]) ?_)
  refine rs_mended (p := 6) hK2 g2 (rs_xx _ _) (by decide) (fun f h e5 e6 e7 e8 e9 e10 => br_t (by rw [h6]) ?_)
  refine rs_at hK2 hp (br_t (by rw [w1p, nx_xor]) ?_)
  refine rs_mend7 (br_t rfl ?_)
  refine rs_lose (M' := rs_xp 0 p 1) (v := 1) (m := 0) hK2 hp (by decide) (rs_dg0 p) (by decide) (rs_set (rs_dg0 p)) (fun n2 hK3 => br_t rfl ?_)
  refine rs_lose (M' := rs_xp 0 p 1) (v := 1) (m := 1) hK3 hp (by decide) m1p (by decide) (rs_set1 m1p) (fun n2 hK4 => br_t rfl ?_)
  refine rs_wrong hK4 g3 (fun f h e5 e6 e7 e8 e9 e10 => br_t rfl ?_)
  refine rs_mended hK4 g3 (rs_xx _ _) hp (fun f h e5 e6 e7 e8 e9 e10 => br_t rfl ?_)
  refine rs_lose (M' := rs_xp (rs_xp 0 p 1) q 1) (v := 1) (m := 0) hK4 hq (by decide) m1q (by decide) (rs_set m1q) (fun n2 hK5 => br_t rfl ?_)
  refine rs_wrong hK5 g4 (fun f h e5 e6 e7 e8 e9 e10 => br_t rfl ?_)
  refine rs_mended hK5 g4 (rs_xx _ _) hq (fun f h e5 e6 e7 e8 e9 e10 => br_t rfl ?_)
  refine ⟨r + 1, rs_384 hK5 d2r m2r g5 g6 hy8 hp hq (by omega) rp rq (fun f h i1 i2 e5 e6 e7 e8 e9 e10 hK6 => ⟨s - (r + 1) + 1, ?_⟩) r 0 (by omega) jr⟩
  refine rs_490 hK6 d3s m3s g7 h5 hx8 hp hq (by omega) sp sq (fun f h i1 i2 e5 e6 e7 e8 e9 e10 hK7 => ⟨t - (s + 1) + 1, ?_⟩) (s - (r + 1)) (r + 1) (by omega) js
  exact rs_586 rfl hC hK7 g7 d4t m4t l5 g9 hF d4s hp hq (by omega) (by omega) t7 tp tq (t - (s + 1)) (s + 1) (by omega) jt
theorem i_vc (xs : Nat → Int32) (L : Nat) (hL : L ≤ 5) : wpL_law (fun r => r = 1) L xs :=
  rs_cell hL 0 (by decide) fun r1 => rs_cell hL 1 (by decide) fun r2 => rs_cell hL 2 (by decide) fun r3 => rs_cell hL 3 (by decide) fun r4 => rs_cell hL 4 (by decide) fun r5 => ⟨11, 94, by decide, by decide, rs_lawOf r1 r2 r3 r4 r5⟩
end
