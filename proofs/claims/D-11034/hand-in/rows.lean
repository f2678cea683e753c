section
/-! numbers: an int is nI of a natural taken modulo 2^32; all steps of the machine exactly, no ranges -/
/-- evaluate a natural before it is handed on -/
noncomputable def cz_f {α : Type} (n : Nat) (k : Nat → α) : α := Nat.rec (k 0) (fun m _ => k (Nat.succ m)) n
theorem cz_f_eq {α : Type} (n : Nat) (k : Nat → α) : cz_f n k = k n := by
  cases n <;> rfl
/-- a choice by a Bool -/
noncomputable def cz_c {α : Type} (b : Bool) (x y : α) : α := Bool.rec y x b
theorem cz_c_t {α : Type} (x y : α) : cz_c true x y = x := rfl
theorem cz_c_f {α : Type} (x y : α) : cz_c false x y = y := rfl
def cz_m (a : Nat) : Nat := Nat.mod a 4294967296
def cz_k (a : Nat) : Nat := Nat.mod (Nat.add a 2147483648) 4294967296
/-- signed order -/
def cz_le (a b : Nat) : Bool := Nat.ble (cz_k a) (cz_k b)
def cz_ng (a : Nat) : Nat := Nat.mod (Nat.sub 4294967296 (Nat.mod a 4294967296)) 4294967296
theorem cz_toInt (a : Nat) : (nI a).toInt = ((cz_k a : Nat) : Int) - 2147483648 := by
  show (Int32.ofNat a).toInt = (((a + 2147483648) % 4294967296 : Nat) : Int) - 2147483648
  rw [Int32.toInt_ofNat']
  show Int.bmod (a : Int) 4294967296 = _
  rw [Int.bmod_def]
  split <;> omega
theorem cz_eqM {a b : Nat} (h : a % 4294967296 = b % 4294967296) : nI a = nI b := by
  apply Int32.toInt_inj.mp
  rw [cz_toInt, cz_toInt]
  show (((a + 2147483648) % 4294967296 : Nat) : Int) - 2147483648 = (((b + 2147483648) % 4294967296 : Nat) : Int) - 2147483648
  omega
theorem cz_nm (a : Nat) : nI (cz_m a) = nI a := by
  apply cz_eqM
  show a % 4294967296 % 4294967296 = a % 4294967296
  omega
theorem cz_m_lt (a : Nat) : cz_m a < 4294967296 := Nat.mod_lt _ (by decide)
theorem cz_ng_eq (a : Nat) : -nI a = nI (cz_ng a) := by
  have h : nI a + nI (cz_ng a) = 0 := by
    rw [nI_add, ← nI_0]
    apply cz_eqM
    show (a + (4294967296 - a % 4294967296) % 4294967296) % 4294967296 = 0 % 4294967296
    omega
  have h2 : -nI a + (nI a + nI (cz_ng a)) = -nI a + 0 := by rw [h]
  rw [← Int32.add_assoc, Int32.add_left_neg, Int32.zero_add, Int32.add_zero] at h2
  exact h2.symm
theorem cz_sub_eq (a b : Nat) : nI a - nI b = nI (a + cz_ng b) := by
  rw [Int32.sub_eq_add_neg, cz_ng_eq, nI_add]
theorem cz_le_iff (a b : Nat) : nI a ≤ nI b ↔ cz_le a b = true := by
  rw [Int32.le_iff_toInt_le, cz_toInt, cz_toInt]
  unfold cz_le
  rw [Nat.ble_eq]
  omega
theorem cz_lt_iff (a b : Nat) : nI a < nI b ↔ cz_le b a = false := by
  rw [← Int32.not_le, cz_le_iff]
  cases cz_le b a <;> simp
/-- a branch on an order -/
theorem cz_ple {x y : Int32} {A B : Prop} (a b : Nat) (f : cz_le a b = true → A) (g : cz_le a b = false → B) (hx : x = nI a := by rfl) (hy : y = nI b := by rfl) : (x ≤ y → A) ∧ (¬ x ≤ y → B) := by
  subst hx hy
  rw [cz_le_iff]
  exact ⟨f, fun z => g (Bool.eq_false_iff.mpr z)⟩
theorem cz_plt {x y : Int32} {A B : Prop} (a b : Nat) (f : cz_le b a = false → A) (g : cz_le b a = true → B) (hx : x = nI a := by rfl) (hy : y = nI b := by rfl) : (x < y → A) ∧ (¬ x < y → B) := by
  subst hx hy
  rw [cz_lt_iff]
  exact ⟨f, fun z => g (by cases h : cz_le b a with | true => rfl | false => exact absurd h z)⟩
/-- every int is such a number -/
theorem cz_of (x : Int32) : ∃ a : Nat, a < 4294967296 ∧ x = nI a := by
  refine ⟨x.toBitVec.toNat, x.toBitVec.isLt, ?_⟩
  show x = Int32.ofNat x.toBitVec.toNat
  rw [Int32.ofNat_bitVecToNat, Int32.ofBitVec_toBitVec]
/-! tables: sixteen numbers below 2^32 in one natural -/
def cz_d (t k : Nat) : Nat := Nat.mod (Nat.shiftRight t (Nat.mul 32 k)) 4294967296
def cz_st (t k v : Nat) : Nat := Nat.xor t (Nat.shiftLeft (Nat.xor (cz_d t k) v) (Nat.mul 32 k))
theorem cz_d_lt (t k : Nat) : cz_d t k < 4294967296 := Nat.mod_lt _ (by decide)
theorem cz_d_bit (t k i : Nat) : (cz_d t k).testBit i = (decide (i < 32) && t.testBit (32 * k + i)) := by
  show ((t >>> (32 * k)) % 2 ^ 32).testBit i = _
  rw [Nat.testBit_mod_two_pow, Nat.testBit_shiftRight]
theorem cz_st_bit (t k v m : Nat) : (cz_st t k v).testBit m = (t.testBit m ^^ (decide (m ≥ 32 * k) && (cz_d t k ^^^ v).testBit (m - 32 * k))) := by
  show (t ^^^ ((cz_d t k ^^^ v) <<< (32 * k))).testBit m = _
  rw [Nat.testBit_xor, Nat.testBit_shiftLeft]
theorem cz_st_same {t k v : Nat} (hv : v < 4294967296) : cz_d (cz_st t k v) k = v := by
  apply Nat.eq_of_testBit_eq
  intro i
  rw [cz_d_bit, cz_st_bit]
  by_cases hi : i < 32
  · have e1 : 32 * k + i - 32 * k = i := by omega
    have e2 : (32 * k + i ≥ 32 * k) := by omega
    rw [e1, Nat.testBit_xor, cz_d_bit]
    simp [hi, e2]
  · have h2 : v < 2 ^ i := Nat.lt_of_lt_of_le (show v < 2 ^ 32 from hv) (Nat.pow_le_pow_right (by decide) (by omega))
    rw [Nat.testBit_lt_two_pow h2]
    simp [hi]
theorem cz_st_other {t k v j : Nat} (hv : v < 4294967296) (hj : j ≠ k) : cz_d (cz_st t k v) j = cz_d t j := by
  apply Nat.eq_of_testBit_eq
  intro i
  rw [cz_d_bit, cz_d_bit, cz_st_bit]
  by_cases hi : i < 32
  · by_cases hjk : j < k
    · have e : ¬ (32 * j + i ≥ 32 * k) := by omega
      simp [e]
    · have hx : (cz_d t k ^^^ v) < 2 ^ 32 := Nat.xor_lt_two_pow (cz_d_lt t k) hv
      have h2 : (cz_d t k ^^^ v) < 2 ^ (32 * j + i - 32 * k) := Nat.lt_of_lt_of_le hx (Nat.pow_le_pow_right (by decide) (by omega))
      rw [Nat.testBit_lt_two_pow h2]
      simp
  · simp [hi]
/-- an array that holds a table -/
def cz_A (a : Nat → Int32) (t : Nat) : Prop := ∀ k, k < 16 → a k = nI (cz_d t k)
theorem cz_A_put {s : Nat → Int32} {t k v : Nat} (h : cz_A s t) (hv : v < 4294967296) : cz_A (upd s k (nI v)) (cz_st t k v) := by
  intro j hj
  by_cases e : j = k
  · rw [e, pk_us, cz_st_same hv]
  · rw [pk_un e, cz_st_other hv e]
    exact h j hj
theorem cz_A_same {s : Nat → Int32} {t k : Nat} (h : cz_A s t) : cz_A (upd s k (s k)) t := by
  intro j hj
  by_cases e : j = k
  · rw [e, pk_us, ← e]
    exact h j hj
  · rw [pk_un e]
    exact h j hj
end
section
/-! the pure picture: what the class computes over tables, and its check by evaluation -/
/-- the table of all readings -/
def cz_box : Nat := 8722064693578046623188353465103159922635240876365686556917918284990968936622132520182264361542704627444012523655790897384893896110112768
def cz_w (i j c t k : Nat) : Nat := cz_m (Nat.add (Nat.add (cz_d t (Nat.add (Nat.mul 4 (Nat.div k 4)) i)) c) (cz_d t (Nat.add (Nat.mul 4 j) (Nat.mod k 4))))
/-- one step of narrow's loop, at place k -/
noncomputable def cz_stp (i j c t k : Nat) : Nat := cz_f (cz_w i j c t k) (fun w => cz_c (cz_le (cz_d t k) w) t (cz_st t k w))
theorem cz_stp_eq (i j c t k : Nat) : cz_stp i j c t k = cz_c (cz_le (cz_d t k) (cz_w i j c t k)) t (cz_st t k (cz_w i j c t k)) := cz_f_eq _ _
/-- the table behind n steps of narrow's loop -/
noncomputable def cz_np (i j c t n : Nat) : Nat := Nat.rec (motive := fun _ => Nat) t (fun k r => cz_f r (fun r' => cz_stp i j c r' k)) n
theorem cz_np_0 (i j c t : Nat) : cz_np i j c t 0 = t := rfl
theorem cz_np_s (i j c t k : Nat) : cz_np i j c t (k + 1) = cz_stp i j c (cz_np i j c t k) k :=
  cz_f_eq (cz_np i j c t k) (fun r' => cz_stp i j c r' k)
/-- narrow: its answer, its table -/
noncomputable def cz_nr (i j c t : Nat) : Bool := cz_c (cz_le (cz_d t (Nat.add (Nat.mul 4 i) j)) c) true (cz_le 0 (Nat.add c (cz_d t (Nat.add (Nat.mul 4 j) i))))
noncomputable def cz_nt (i j c t : Nat) : Nat := cz_c (cz_le (cz_d t (Nat.add (Nat.mul 4 i) j)) c) t (cz_c (cz_le 0 (Nat.add c (cz_d t (Nat.add (Nat.mul 4 j) i)))) (cz_np i j c t 16) t)
theorem cz_nr_eq (i j c t : Nat) : cz_nr i j c t = cz_c (cz_le (cz_d t (4 * i + j)) c) true (cz_le 0 (c + cz_d t (4 * j + i))) := rfl
theorem cz_nt_eq (i j c t : Nat) : cz_nt i j c t = cz_c (cz_le (cz_d t (4 * i + j)) c) t (cz_c (cz_le 0 (c + cz_d t (4 * j + i))) (cz_np i j c t 16) t) := rfl
/-- fix: its table -/
noncomputable def cz_ft (l a t : Nat) : Nat := cz_f (cz_nt l 0 a t) (fun r => cz_c (cz_nr l 0 a t) (cz_nt 0 l (cz_ng a) r) r)
theorem cz_ft_eq (l a t : Nat) : cz_ft l a t = cz_c (cz_nr l 0 a t) (cz_nt 0 l (cz_ng a) (cz_nt l 0 a t)) (cz_nt l 0 a t) := cz_f_eq _ _
noncomputable def cz_mn (x y : Nat) : Nat := cz_f x (fun x => cz_f y (fun y => cz_c (cz_le x y) x y))
noncomputable def cz_mx (x y : Nat) : Nat := cz_f x (fun x => cz_f y (fun y => cz_c (cz_le y x) x y))
theorem cz_mn_t {x y : Nat} (h : cz_le x y = true) : cz_mn x y = x := by
  unfold cz_mn
  rw [cz_f_eq, cz_f_eq, h]
  rfl
theorem cz_mn_f {x y : Nat} (h : cz_le x y = false) : cz_mn x y = y := by
  unfold cz_mn
  rw [cz_f_eq, cz_f_eq, h]
  rfl
theorem cz_mx_t {x y : Nat} (h : cz_le y x = true) : cz_mx x y = x := by
  unfold cz_mx
  rw [cz_f_eq, cz_f_eq, h]
  rfl
theorem cz_mx_f {x y : Nat} (h : cz_le y x = false) : cz_mx x y = y := by
  unfold cz_mx
  rw [cz_f_eq, cz_f_eq, h]
  rfl
/-- spanFor -/
noncomputable def cz_hi (w a b : Nat) : Nat := cz_mn (cz_mn (cz_d w 12) (Nat.add (cz_d w 13) a)) (Nat.add (cz_d w 14) b)
noncomputable def cz_lo (w a b : Nat) : Nat := cz_mx (cz_mx (cz_ng (cz_d w 3)) (Nat.add a (cz_ng (cz_d w 7)))) (Nat.add b (cz_ng (cz_d w 11)))
noncomputable def cz_sp (w a b : Nat) : Nat := cz_f (cz_hi w a b) (fun h => cz_f (cz_lo w a b) (fun l => cz_c (cz_le l h) (cz_m (Nat.add (Nat.add h (cz_ng l)) 1)) 0))
theorem cz_sp_eq (w a b : Nat) : cz_sp w a b = cz_c (cz_le (cz_lo w a b) (cz_hi w a b)) (cz_m (cz_hi w a b + cz_ng (cz_lo w a b) + 1)) 0 := by
  unfold cz_sp
  rw [cz_f_eq, cz_f_eq]
  rfl
/-- size's inner loop: K says of the sum at its end what must hold -/
noncomputable def cz_in (w a hi : Nat) (K : Nat → Bool) (n : Nat) : Nat → Nat → Bool :=
  Nat.rec (motive := fun _ => Nat → Nat → Bool) (fun _ _ => false)
    (fun _ ih => fun s b => cz_c (cz_le b hi) (cz_f (Nat.add s (cz_sp w a b)) (fun s' => cz_f (Nat.add b 1) (fun b' => ih s' b'))) (K s)) n
theorem cz_in_0 (w a hi : Nat) (K : Nat → Bool) (s b : Nat) : cz_in w a hi K 0 s b = false := rfl
theorem cz_in_s (w a hi : Nat) (K : Nat → Bool) (n s b : Nat) : cz_in w a hi K (n + 1) s b = cz_c (cz_le b hi) (cz_in w a hi K n (s + cz_sp w a b) (b + 1)) (K s) := by
  show cz_c (cz_le b hi) (cz_f (Nat.add s (cz_sp w a b)) (fun s' => cz_f (Nat.add b 1) (fun b' => cz_in w a hi K n s' b'))) (K s) = _
  rw [cz_f_eq, cz_f_eq]
  rfl
/-- size's outer loop: it ends, and with e -/
noncomputable def cz_so (t mo e n : Nat) : Nat → Nat → Bool :=
  Nat.rec (motive := fun _ => Nat → Nat → Bool) (fun _ _ => false)
    (fun _ ih => fun s a => cz_c (cz_le a mo) (cz_f (cz_ft 1 a t) (fun w => cz_f (cz_d w 8) (fun hi => cz_f (cz_ng (cz_d w 2)) (fun b => cz_in w a hi (fun s' => cz_f (Nat.add a 1) (fun a' => ih s' a')) 20 s b)))) (Nat.beq s e)) n
theorem cz_so_0 (t mo e s a : Nat) : cz_so t mo e 0 s a = false := rfl
theorem cz_so_s (t mo e n s a : Nat) : cz_so t mo e (n + 1) s a = cz_c (cz_le a mo) (cz_in (cz_ft 1 a t) a (cz_d (cz_ft 1 a t) 8) (fun s' => cz_f (Nat.add a 1) (fun a' => cz_so t mo e n s' a')) 20 s (cz_ng (cz_d (cz_ft 1 a t) 2))) (Nat.beq s e) := by
  show cz_c (cz_le a mo) (cz_f (cz_ft 1 a t) (fun w => cz_f (cz_d w 8) (fun hi => cz_f (cz_ng (cz_d w 2)) (fun b => cz_in w a hi (fun s' => cz_f (Nat.add a 1) (fun a' => cz_so t mo e n s' a')) 20 s b)))) (Nat.beq s e) = _
  rw [cz_f_eq, cz_f_eq, cz_f_eq]
noncomputable def cz_sz (t e : Nat) : Bool := cz_f (cz_d t 4) (fun mo => cz_f (cz_ng (cz_d t 1)) (fun a => cz_so t mo e 20 0 a))
theorem cz_sz_eq (t e : Nat) : cz_sz t e = cz_so t (cz_d t 4) e 20 0 (cz_ng (cz_d t 1)) := by
  unfold cz_sz
  rw [cz_f_eq, cz_f_eq]
/-- the law's own numbers: c = m - 12, what is left, the widest -/
def cz_cc (m : Nat) : Nat := cz_m (Nat.add m 4294967284)
noncomputable def cz_n (i j m : Nat) : Nat :=
  cz_c (Nat.beq i 0) (cz_c (Nat.ble 12 m) 2197 (169 * (m + 1)))
    (cz_c (Nat.beq j 0) (cz_c (Nat.ble 12 m) (169 * (m - 11)) 0)
      (cz_c (Nat.ble 12 m) (13 * (169 - (24 - m) * (25 - m) / 2)) (13 * ((m + 1) * (m + 2) / 2))))
noncomputable def cz_top (i : Nat) : Nat := cz_c (Nat.beq i 0) 0 12
noncomputable def cz_mo (i m : Nat) : Nat := cz_mn (cz_top i) (cz_cc m)
/-- what must hold behind keep(z, i, j, m - 12) -/
noncomputable def cz_ck (i j m : Nat) : Bool :=
  cz_f (cz_cc m) (fun c => cz_f (cz_n i j m) (fun n => cz_c (Nat.ble n 2197)
    (cz_c (cz_nr i j c cz_box)
      (cz_f (cz_nt i j c cz_box) (fun t => cz_c (Nat.ble 1 n) (cz_c (cz_sz t n) (Nat.beq (cz_d t (Nat.add (Nat.mul 4 i) j)) (cz_mo i m)) false) false))
      (Nat.beq n 0)) false))
noncomputable def cz_all (n : Nat) (p : Nat → Bool) : Bool := Nat.rec (motive := fun _ => Bool) true (fun k r => cz_c (p k) r false) n
theorem cz_all_of {n : Nat} {p : Nat → Bool} (h : cz_all n p = true) : ∀ k, k < n → p k = true := by
  induction n with
  | zero => exact fun k hk => absurd hk (by omega)
  | succ n ih =>
    have h' : cz_c (p n) (cz_all n p) false = true := h
    cases e : p n with
    | false => rw [e] at h'; exact absurd h' Bool.false_ne_true
    | true =>
      rw [e] at h'
      intro k hk
      by_cases z : k = n
      · rw [z]; exact e
      · exact ih h' k (by omega)
end
section
/-! the check by evaluation -/
theorem cz_sz_box : cz_sz cz_box 2197 = true := by decide +kernel
theorem cz_box_top : ∀ i, i < 4 → ∀ j, j < 4 → i ≠ j → cz_d cz_box (4 * i + j) = cz_top i := by decide +kernel
theorem cz_ck_01 : cz_all 25 (fun m => cz_ck 0 1 m) = true := by decide +kernel
theorem cz_ck_02 : cz_all 25 (fun m => cz_ck 0 2 m) = true := by decide +kernel
theorem cz_ck_03 : cz_all 25 (fun m => cz_ck 0 3 m) = true := by decide +kernel
theorem cz_ck_10 : cz_all 25 (fun m => cz_ck 1 0 m) = true := by decide +kernel
theorem cz_ck_12 : cz_all 25 (fun m => cz_ck 1 2 m) = true := by decide +kernel
theorem cz_ck_13 : cz_all 25 (fun m => cz_ck 1 3 m) = true := by decide +kernel
theorem cz_ck_20 : cz_all 25 (fun m => cz_ck 2 0 m) = true := by decide +kernel
theorem cz_ck_21 : cz_all 25 (fun m => cz_ck 2 1 m) = true := by decide +kernel
theorem cz_ck_23 : cz_all 25 (fun m => cz_ck 2 3 m) = true := by decide +kernel
theorem cz_ck_30 : cz_all 25 (fun m => cz_ck 3 0 m) = true := by decide +kernel
theorem cz_ck_31 : cz_all 25 (fun m => cz_ck 3 1 m) = true := by decide +kernel
theorem cz_ck_32 : cz_all 25 (fun m => cz_ck 3 2 m) = true := by decide +kernel
theorem cz_ck_of {i j m : Nat} (hi : i < 4) (hj : j < 4) (hij : i ≠ j) (hm : m < 25) : cz_ck i j m = true := by
  rcases (show i = 0 ∨ i = 1 ∨ i = 2 ∨ i = 3 by omega) with rfl | rfl | rfl | rfl
  · rcases (show j = 0 ∨ j = 1 ∨ j = 2 ∨ j = 3 by omega) with rfl | rfl | rfl | rfl
    · exact absurd rfl hij
    · exact cz_all_of cz_ck_01 m hm
    · exact cz_all_of cz_ck_02 m hm
    · exact cz_all_of cz_ck_03 m hm
  · rcases (show j = 0 ∨ j = 1 ∨ j = 2 ∨ j = 3 by omega) with rfl | rfl | rfl | rfl
    · exact cz_all_of cz_ck_10 m hm
    · exact absurd rfl hij
    · exact cz_all_of cz_ck_12 m hm
    · exact cz_all_of cz_ck_13 m hm
  · rcases (show j = 0 ∨ j = 1 ∨ j = 2 ∨ j = 3 by omega) with rfl | rfl | rfl | rfl
    · exact cz_all_of cz_ck_20 m hm
    · exact cz_all_of cz_ck_21 m hm
    · exact absurd rfl hij
    · exact cz_all_of cz_ck_23 m hm
  · rcases (show j = 0 ∨ j = 1 ∨ j = 2 ∨ j = 3 by omega) with rfl | rfl | rfl | rfl
    · exact cz_all_of cz_ck_30 m hm
    · exact cz_all_of cz_ck_31 m hm
    · exact cz_all_of cz_ck_32 m hm
    · exact absurd rfl hij
end
section
/-! the walk: each method once -/
theorem cz_ix (p i : Nat) : (4 : Int32) * nI p + nI i = nI (4 * p + i) := by
  show nI 4 * nI p + nI i = _
  rw [pk_mul, nI_add]
theorem cz_i16 (z k : Nat) : (16 : Int32) * nI z + nI k = nI (16 * z + k) := by
  show nI 16 * nI z + nI k = _
  rw [pk_mul, nI_add]
theorem cz_zone {post : Int32 → Prop} {z : Nat} (hz : z < 3) (H : post 1) : wpX_isZone post () (nI z) :=
  pk_lt z 0 (fun e => absurd e (by omega)) (fun _ => pk_lt 2 z (fun e => absurd e (by omega)) (fun _ => H))
theorem cz_zoneB {post : Int32 → Prop} {p : Int32} (hz : p < 0 ∨ 2 < p) (H : post 0) : wpX_isZone post () p :=
  br_c (fun _ => H) (fun e => br_t (hz.resolve_left e) H)
theorem cz_pair {post : Int32 → Prop} {i j : Nat} (hi : i < 4) (hj : j < 4) (hij : i ≠ j) (H : post 1) : wpX_isPair post () (nI i) (nI j) :=
  pk_lt i 0 (fun e => absurd e (by omega)) (fun _ => pk_lt 3 i (fun e => absurd e (by omega)) (fun _ => pk_lt j 0 (fun e => absurd e (by omega)) (fun _ => pk_lt 3 j (fun e => absurd e (by omega)) (fun _ => pk_eq i j (fun e => absurd e hij) (fun _ => H)))))
theorem cz_pairB {post : Int32 → Prop} {i j : Int32} (h : i < 0 ∨ 3 < i ∨ j < 0 ∨ 3 < j ∨ i = j) (H : post 0) : wpX_isPair post () i j :=
  br_c (fun _ => H) (fun e1 => br_c (fun _ => H) (fun e2 => br_c (fun _ => H) (fun e3 => br_c (fun _ => H) (fun e4 => br_t ((((h.resolve_left e1).resolve_left e2).resolve_left e3).resolve_left e4) H))))
/-- zone z of the bounds holds the table t -/
def cz_T (a : Nat → Int32) (z t : Nat) : Prop := ∀ k, k < 16 → a (16 * z + k) = nI (cz_d t k)
/-- the first i places of zone z hold the table t; the other zones are those of a -/
def cz_F (a : Nat → Int32) (z t i : Nat) (s : Nat → Int32) : Prop := (∀ k, k < i → s (16 * z + k) = nI (cz_d t k)) ∧ (∀ m, m < 16 * z ∨ 16 * z + 16 ≤ m → s m = a m)
theorem cz_F_add {a s : Nat → Int32} {z t i : Nat} {x : Int32} (hi : i < 16) (h : cz_F a z t i s) (hx : x = nI (cz_d t i)) : cz_F a z t (i + 1) (upd s (16 * z + i) x) := by
  refine ⟨fun k hk => ?_, fun m hm => ?_⟩
  · by_cases e : k = i
    · rw [e, pk_us, hx]
    · rw [pk_un (by omega)]
      exact h.1 k (by omega)
  · rw [pk_un (by omega)]
    exact h.2 m hm
theorem cz_F_T {a s : Nat → Int32} {z t : Nat} (h : cz_F a z t 16 s) : cz_T s z t := h.1
theorem cz_F_O {a s : Nat → Int32} {z t y u : Nat} (h : cz_F a z t 16 s) (hy : y ≠ z) (hu : cz_T a y u) : cz_T s y u := by
  intro k hk
  rw [h.2 (16 * y + k) (by omega)]
  exact hu k hk
theorem cz_bx : ∀ k, k < 16 → cz_d cz_box k = if k / 4 = k % 4 then 0 else if k / 4 = 0 then 0 else 12 := by decide +kernel
theorem cz_all18 {post : Int32 → St2 → Prop} {a1 a2 a3 : Nat → Int32} {z : Nat} (hz : z < 3) (H : ∀ s, cz_F a1 z cz_box 16 s → post 0 (s, a2, a3)) : ∃ n, wX_all_18 post (nI z) n 0 a1 a2 a3 :=
  pk_loop (fun n i s => wX_all_18 post (nI z) n (nI i) s a2 a3) (fun i s => cz_F a1 z cz_box i s) 16 0 a1 (by omega) ⟨fun k hk => absurd hk (by omega), fun m _ => rfl⟩
    (fun n s h => pk_le 16 16 (fun _ => H s h) (fun e => absurd e (by omega)))
    (fun n i s hi h hw => pk_le 16 i (fun e => absurd e (by omega)) (fun _ => ⟨by decide, by decide, by
      have d4 : nI i / 4 = nI (i / 4) := pk_div (d := 4) (by omega) (by omega) (by omega)
      have r4 : nI i - nI i / 4 * 4 = nI (i % 4) := pk_rem (d := 4) (by omega) (by omega) (by omega)
      have fin : ∀ r : Int32, r = nI (cz_d cz_box i) → (vp_in ((16 * nI z) + nI i) 48 ∧ ∀ a1_10 : Nat → Int32, a1_10 = upd s ((16 * nI z) + nI i).toNatClampNeg r → (∀ x2_11 : Int32, x2_11 = nI i + 1 → (wX_all_18 post (nI z) n x2_11 a1_10 a2 a3))) := by
        intro r hr
        refine ⟨pk_in (16 * z + i) 48 (by omega) (cz_i16 z i), nm_e (nm_r (nI_1 i) ?_)⟩
        rw [cz_i16, nI_clamp (by omega)]
        exact hw _ (cz_F_add hi h hr)
      rw [d4]
      rw [d4] at r4
      rw [r4]
      refine pk_eq (i / 4) (i % 4) (fun e => fin 0 ?_) (fun e => pk_eq (i / 4) 0 (fun e2 => fin 0 ?_) (fun e2 => fin 12 ?_))
      · rw [cz_bx i hi, if_pos e]; rfl
      · rw [cz_bx i hi, if_neg e, if_pos e2]; rfl
      · rw [cz_bx i hi, if_neg e, if_neg e2]; rfl⟩))
theorem cz_allG {post : Int32 → St2 → Prop} {a1 a2 a3 : Nat → Int32} {z : Nat} (hz : z < 3) (H : ∀ s, cz_F a1 z cz_box 16 s → post 0 (s, upd a2 z 0, a3)) : wpX_all post (a1, a2, a3) (nI z) := by
  unfold wpX_all
  dsimp only
  exact
    cz_zone hz (br_f (by decide) ⟨pk_in z 3 hz, nm_r (e' := upd a2 z 0) (by rw [nI_clamp (by omega)]) (cz_all18 hz H)⟩)
theorem cz_allB {post : Int32 → St2 → Prop} {a1 a2 a3 : Nat → Int32} {p : Int32} (hz : p < 0 ∨ 2 < p) (H : post (-1) (a1, a2, a3)) : wpX_all post (a1, a2, a3) p := by
  unfold wpX_all
  dsimp only
  exact
    cz_zoneB hz (br_t rfl H)
/-- the first y zones are whole boxes and not marked -/
def cz_Z (y : Nat) (a1 a2 : Nat → Int32) : Prop := ∀ z, z < y → cz_T a1 z cz_box ∧ a2 z = 0
theorem cz_Z_add {y : Nat} {a1 a2 s : Nat → Int32} (h : cz_Z y a1 a2) (hs : cz_F a1 y cz_box 16 s) : cz_Z (y + 1) s (upd a2 y 0) := by
  intro z hz
  by_cases e : z = y
  · rw [e]
    exact ⟨cz_F_T hs, pk_us⟩
  · refine ⟨cz_F_O hs e (h z (by omega)).1, ?_⟩
    rw [pk_un e]
    exact (h z (by omega)).2
theorem cz_init {post : St2 → Prop} (H : ∀ a1 a2 a3, cz_Z 3 a1 a2 → post (a1, a2, a3)) : wpX_init post 3 67 () :=
  ⟨by omega, by omega, by omega, by omega, by omega, by omega,
    pk_loop (σ := St2) (fun n i s => wX_init_29 post 3 67 3 67 n (nI i) s.1 s.2.1 s.2.2) (fun i s => cz_Z i s.1 s.2.1) 3 0 (fun _ => 0, fun _ => 0, fun _ => 0) (by omega) (fun z hz => absurd hz (by omega))
      (fun n s h => pk_le 3 3 (fun _ => H s.1 s.2.1 s.2.2 h) (fun e => absurd e (by omega)))
      (fun n i s hi h hw => pk_le 3 i (fun e => absurd e (by omega)) (fun _ => cz_allG hi (fun s' hs' => nm_r (nI_1 i) (hw (s', upd s.2.1 i 0, s.2.2) (cz_Z_add h hs')))))⟩
theorem cz_take {post : St2 → Prop} {a1 a2 a3 : Nat → Int32} {z t : Nat} (hz : z < 3) (hT : cz_T a1 z t) (H : ∀ s, cz_A s t → post (a1, a2, s)) : wpX_take post (a1, a2, a3) (nI z) :=
  pk_loop (fun n i s => wX_take_2 post (nI z) n (nI i) a1 a2 s) (fun i s => ∀ k, k < i → s k = nI (cz_d t k)) 16 0 a3 (by omega) (fun k hk => absurd hk (by omega))
    (fun n s h => pk_le 16 16 (fun _ => H s h) (fun e => absurd e (by omega)))
    (fun n i s hi h hw => pk_le 16 i (fun e => absurd e (by omega)) (fun _ => ⟨pk_in (16 * z + i) 48 (by omega) (cz_i16 z i), pk_in i 16 hi, nm_r (e' := upd s i (nI (cz_d t i))) (by rw [cz_i16, nI_clamp (by omega), nI_clamp (by omega), hT i hi]) (nm_r (nI_1 i) (hw _ (by
      intro k hk
      by_cases e : k = i
      · rw [e, pk_us]
      · rw [pk_un e]
        exact h k (by omega))))⟩))
theorem cz_w36 {post : Int32 → St2 → Prop} {a1 a2 a3 : Nat → Int32} {i j c t : Nat} (hi : i < 4) (hj : j < 4) (h : cz_A a3 t) (H : ∀ s, cz_A s (cz_np i j c t 16) → post 1 (a1, a2, s)) : ∃ n, wX_narrow_36 post (nI i) (nI j) (nI c) n 0 a1 a2 a3 :=
  pk_loop (fun n k s => wX_narrow_36 post (nI i) (nI j) (nI c) n (nI k) a1 a2 s) (fun k s => cz_A s (cz_np i j c t k)) 16 0 a3 (by omega) h
    (fun n s hs => pk_le 16 16 (fun _ => H s hs) (fun e => absurd e (by omega)))
    (fun n k s hk hs hw => pk_le 16 k (fun e => absurd e (by omega)) (fun _ => ⟨by decide, nm_r (e' := nI (k / 4)) (pk_div (d := 4) (by omega) (by omega) (by omega)) ⟨by decide, nm_r (e' := nI (k % 4)) (pk_rem (d := 4) (by omega) (by omega) (by omega))
      ⟨pk_in (4 * (k / 4) + i) 16 (by omega) (cz_ix _ _), pk_in (4 * j + k % 4) 16 (by omega) (cz_ix _ _), nm_r (e' := nI (cz_w i j c (cz_np i j c t k) k)) (by
        rw [cz_ix, cz_ix, nI_clamp (by omega), nI_clamp (by omega), hs _ (by omega), hs _ (by omega), nI_add, nI_add]
        exact (cz_nm _).symm)
        ⟨pk_in k 16 hk, cz_ple (cz_d (cz_np i j c t k) k) (cz_w i j c (cz_np i j c t k) k)
          (fun e => ⟨pk_in k 16 hk, pk_in k 16 hk, nm_e (nm_r (nI_1 k) (hw _ (by
            rw [cz_np_s, cz_stp_eq, e, cz_c_t, nI_clamp (by omega)]
            exact cz_A_same hs)))⟩)
          (fun e => ⟨pk_in k 16 hk, nm_e (nm_r (nI_1 k) (hw _ (by
            rw [cz_np_s, cz_stp_eq, e, cz_c_f, nI_clamp (by omega)]
            exact cz_A_put hs (cz_m_lt _))))⟩)
          (by rw [nI_clamp (by omega)]; exact hs k hk) rfl⟩⟩⟩⟩))
theorem cz_narrow {post : Int32 → St2 → Prop} {a1 a2 a3 : Nat → Int32} {i j c t : Nat} (hi : i < 4) (hj : j < 4) (h : cz_A a3 t) (H : ∀ s, cz_A s (cz_nt i j c t) → post (cz_c (cz_nr i j c t) 1 0) (a1, a2, s)) : wpX_narrow post (a1, a2, a3) (nI i) (nI j) (nI c) := by
  rw [cz_nt_eq, cz_nr_eq] at H
  refine ⟨pk_in (4 * i + j) 16 (by omega) (cz_ix _ _), cz_plt c (cz_d t (4 * i + j)) (fun e1 => ⟨pk_in (4 * j + i) 16 (by omega) (cz_ix _ _), cz_ple 0 (c + cz_d t (4 * j + i)) (fun e2 => cz_w36 hi hj h (fun s hs => ?_)) (fun e2 => ?_) rfl (by rw [cz_ix, nI_clamp (by omega), h _ (by omega), nI_add])⟩) (fun e1 => ?_) rfl (by rw [cz_ix, nI_clamp (by omega), h _ (by omega)])⟩
  · rw [e1, e2] at H
    exact H s hs
  · rw [e1, e2] at H
    exact H a3 h
  · rw [e1] at H
    exact H a3 h
theorem cz_fix {post : Int32 → St2 → Prop} {a1 a2 a3 : Nat → Int32} {l a t : Nat} (hl : l < 4) (h : cz_A a3 t) (H : ∀ r s, cz_A s (cz_ft l a t) → post r (a1, a2, s)) : wpX_fix post (a1, a2, a3) (nI l) (nI a) := by
  rw [cz_ft_eq] at H
  unfold wpX_fix
  dsimp only
  refine cz_narrow (j := 0) hl (by omega) h (fun s hs => ?_)
  cases e : cz_nr l 0 a t with
  | false =>
    rw [e, cz_c_f] at H
    exact br_t rfl (H 0 s hs)
  | true =>
    rw [e, cz_c_t] at H
    refine br_f (by decide) ?_
    rw [cz_ng_eq]
    refine cz_narrow (i := 0) (by omega) hl hs (fun s' hs' => ?_)
    exact br_c (fun _ => H _ s' hs') (fun _ => H _ s' hs')
theorem cz_span {post : Int32 → Prop} {a1 a2 s : Nat → Int32} {w a b : Nat} (h : cz_A s w) (H : post (nI (cz_sp w a b))) : wpX_spanFor post (a1, a2, s) (nI a) (nI b) := by
  have k117 : wX_spanFor_117 post (nI (cz_hi w a b)) (nI (cz_lo w a b)) a1 a2 s := by
    rw [cz_sp_eq] at H
    refine cz_plt (cz_hi w a b) (cz_lo w a b) (fun e => ?_) (fun e => ?_)
    · rw [e] at H
      exact H
    · rw [e, cz_c_t, cz_nm] at H
      rw [cz_sub_eq, nI_1]
      exact H
  have k101 : wX_spanFor_101 post (nI (cz_hi w a b)) (nI (b + cz_ng (cz_d w 11))) (nI (cz_mx (cz_ng (cz_d w 3)) (a + cz_ng (cz_d w 7)))) a1 a2 s := by
    refine cz_ple (b + cz_ng (cz_d w 11)) (cz_mx (cz_ng (cz_d w 3)) (a + cz_ng (cz_d w 7))) (fun e => ?_) (fun e => ?_)
    · have q : cz_lo w a b = _ := cz_mx_t e
      rw [q] at k117
      exact k117
    · have q : cz_lo w a b = _ := cz_mx_f e
      rw [q] at k117
      exact k117
  have k55 : wX_spanFor_55 post (nI a) (nI b) (nI (cz_hi w a b)) a1 a2 s := by
    refine nm_r (e' := nI (cz_ng (cz_d w 3))) (by rw [h 3 (by omega), cz_ng_eq]) (nm_r (e' := nI (a + cz_ng (cz_d w 7))) (by rw [h 7 (by omega), cz_sub_eq]) (nm_r (e' := nI (b + cz_ng (cz_d w 11))) (by rw [h 11 (by omega), cz_sub_eq]) (cz_ple (a + cz_ng (cz_d w 7)) (cz_ng (cz_d w 3)) (fun e => ?_) (fun e => ?_))))
    · rw [cz_mx_t e] at k101
      exact k101
    · rw [cz_mx_f e] at k101
      exact k101
  have k42 : wX_spanFor_42 post (nI a) (nI b) (nI (cz_d w 14 + b)) (nI (cz_mn (cz_d w 12) (cz_d w 13 + a))) a1 a2 s := by
    refine cz_ple (cz_mn (cz_d w 12) (cz_d w 13 + a)) (cz_d w 14 + b) (fun e => ?_) (fun e => ?_)
    · have q : cz_hi w a b = _ := cz_mn_t e
      rw [q] at k55
      exact k55
    · have q : cz_hi w a b = _ := cz_mn_f e
      rw [q] at k55
      exact k55
  refine nm_r (e' := nI (cz_d w 12)) (h 12 (by omega)) (nm_r (e' := nI (cz_d w 13 + a)) (by rw [h 13 (by omega), nI_add]) (nm_r (e' := nI (cz_d w 14 + b)) (by rw [h 14 (by omega), nI_add]) (cz_ple (cz_d w 12) (cz_d w 13 + a) (fun e => ?_) (fun e => ?_))))
  · rw [cz_mn_t e] at k42
    exact k42
  · rw [cz_mn_f e] at k42
    exact k42
theorem cz_inner {post : Int32 → St2 → Prop} {J : Int32 → Int32 → (Nat → Int32) → (Nat → Int32) → (Nat → Int32) → Prop} {x1 x3 : Int32} {a1 a2 s : Nat → Int32} {w a hi : Nat} {K : Nat → Bool} (h : cz_A s w) (HK : ∀ q, K q = true → J (nI q) (nI (a + 1)) a1 a2 s) :
    ∀ n q b, cz_in w a hi K n q b = true → wX_size_85 post J x1 x3 (nI a) (nI hi) a1 a2 s n (nI q) (nI b) := by
  intro n
  induction n with
  | zero =>
    intro q b e
    exact absurd e Bool.false_ne_true
  | succ n ih =>
    intro q b e
    rw [cz_in_s] at e
    refine cz_plt hi b (fun z => nm_r (nI_1 a) (HK q ?_)) (fun z => cz_span h (nm_r (nI_add _ _) (nm_r (nI_1 b) (ih _ _ ?_))))
    · rw [z] at e
      exact e
    · rw [z] at e
      exact e
theorem cz_outer {post : Int32 → St2 → Prop} {a1 a2 : Nat → Int32} {z t mo e : Nat} (hz : z < 3) (hT : cz_T a1 z t) (H : ∀ s, post (nI e) (a1, a2, s)) :
    ∀ n q a s, cz_so t mo e n q a = true → wX_size_48 post (nI z) (nI mo) n (nI q) (nI a) a1 a2 s := by
  intro n
  induction n with
  | zero =>
    intro q a s g
    exact absurd g Bool.false_ne_true
  | succ n ih =>
    intro q a s g
    rw [cz_so_s] at g
    refine cz_plt mo a (fun y => ?_) (fun y => cz_take hz hT (fun s1 h1 => cz_fix (l := 1) (by omega) h1 (fun r s2 h2 => nm_r (e' := nI (cz_d (cz_ft 1 a t) 8)) (h2 8 (by omega)) (nm_r (e' := nI (cz_ng (cz_d (cz_ft 1 a t) 2))) (by rw [h2 2 (by omega), cz_ng_eq]) ⟨20, cz_inner (K := fun s' => cz_f (Nat.add a 1) (fun a' => cz_so t mo e n s' a')) h2 (fun q' hq' => ih q' (a + 1) s2 ?_) 20 q _ ?_⟩))))
    · rw [y] at g
      have g' : q = e := Nat.eq_of_beq_eq_true g
      rw [g']
      exact H s
    · rw [cz_f_eq] at hq'
      exact hq'
    · rw [y, cz_c_t] at g
      exact g
theorem cz_sizeG {post : Int32 → St2 → Prop} {a1 a2 a3 : Nat → Int32} {z t e : Nat} (hz : z < 3) (hE : a2 z = 0) (hT : cz_T a1 z t) (g : cz_sz t e = true) (H : ∀ s, post (nI e) (a1, a2, s)) : wpX_size post (a1, a2, a3) (nI z) := by
  rw [cz_sz_eq] at g
  unfold wpX_size
  dsimp only
  exact cz_zone hz (br_f (by decide) ⟨pk_in z 3 hz, br_t (by rw [nI_clamp (by omega)]; exact hE) ⟨pk_in (16 * z + 4) 48 (by omega) (cz_i16 z 4), nm_r (e' := nI (cz_d t 4)) (by
    show a1 (16 * nI z + nI 4).toNatClampNeg = _
    rw [cz_i16, nI_clamp (by omega)]; exact hT 4 (by omega)) ⟨pk_in (16 * z + 1) 48 (by omega) (cz_i16 z 1), nm_r (e' := nI (cz_ng (cz_d t 1))) (by
    show -(a1 (16 * nI z + nI 1).toNatClampNeg) = _
    rw [cz_i16, nI_clamp (by omega), hT 1 (by omega), cz_ng_eq]) ⟨20, cz_outer hz hT H 20 0 _ a3 g⟩⟩⟩⟩)
theorem cz_sizeN {post : Int32 → St2 → Prop} {a1 a2 a3 : Nat → Int32} {z : Nat} (hz : z < 3) (hE : ¬ a2 z = 0) (H : post 0 (a1, a2, a3)) : wpX_size post (a1, a2, a3) (nI z) := by
  unfold wpX_size
  dsimp only
  exact
    cz_zone hz (br_f (by decide) ⟨pk_in z 3 hz, br_f (by rw [nI_clamp (by omega)]; exact hE) H⟩)
theorem cz_sizeB {post : Int32 → St2 → Prop} {a1 a2 a3 : Nat → Int32} {p : Int32} (hz : p < 0 ∨ 2 < p) (H : post (-1) (a1, a2, a3)) : wpX_size post (a1, a2, a3) p := by
  unfold wpX_size
  dsimp only
  exact
    cz_zoneB hz (br_t rfl H)
end
section
/-! keep and widest -/
theorem cz_t44 {post : St2 → Prop} {a1 a2 a3 : Nat → Int32} {z t : Nat} (hz : z < 3) (h : cz_A a3 t) (H : ∀ s, cz_F a1 z t 16 s → post (s, a2, a3)) : ∃ n, wX_tighten_44 post (nI z) 1 n 0 a1 a2 a3 :=
  pk_loop (fun n i s => wX_tighten_44 post (nI z) 1 n (nI i) s a2 a3) (fun i s => cz_F a1 z t i s) 16 0 a1 (by omega) ⟨fun k hk => absurd hk (by omega), fun m _ => rfl⟩
    (fun n s hs => pk_le 16 16 (fun _ => H s hs) (fun e => absurd e (by omega)))
    (fun n i s hi hs hw => pk_le 16 i (fun e => absurd e (by omega)) (fun _ => br_f (by decide) ⟨pk_in i 16 hi, pk_in (16 * z + i) 48 (by omega) (cz_i16 z i), nm_r (e' := upd s (16 * z + i) (a3 i)) (by rw [cz_i16, nI_clamp (by omega), nI_clamp (by omega)]) (nm_r (nI_1 i) (hw _ (cz_F_add hi hs (h i hi))))⟩))
theorem cz_t44N {post : St2 → Prop} {a1 a2 a3 : Nat → Int32} {p : Int32} (H : post (a1, a2, a3)) : ∃ n, wX_tighten_44 post p 0 n 0 a1 a2 a3 :=
  ⟨1, pk_le 16 0 (fun e => absurd e (by omega)) (fun _ => br_t rfl H)⟩
theorem cz_tighten {post : St2 → Prop} {a1 a2 a3 : Nat → Int32} {z i j c t : Nat} (hz : z < 3) (hi : i < 4) (hj : j < 4) (hE : a2 z = 0) (hT : cz_T a1 z t)
    (H1 : cz_nr i j c t = true → ∀ b s, cz_F a1 z (cz_nt i j c t) 16 b → post (b, upd a2 z 0, s)) (H0 : cz_nr i j c t = false → ∀ s, post (a1, upd a2 z 1, s)) : wpX_tighten post (a1, a2, a3) (nI z) (nI i) (nI j) (nI c) := by
  refine ⟨pk_in z 3 hz, br_t (by rw [nI_clamp (by omega)]; exact hE) (cz_take hz hT (fun s hs => cz_narrow hi hj hs (fun s' hs' => ?_)))⟩
  cases e : cz_nr i j c t with
  | false => exact br_t rfl ⟨pk_in z 3 hz, nm_r (e' := upd a2 z 1) (by rw [nI_clamp (by omega)]) (cz_t44N (H0 e s'))⟩
  | true => exact br_f (by decide) ⟨pk_in z 3 hz, nm_r (e' := upd a2 z 0) (by rw [nI_clamp (by omega)]) (cz_t44 hz hs' (fun b hb => H1 e b s' hb))⟩
theorem cz_keep {post : Int32 → St2 → Prop} {a1 a2 a3 : Nat → Int32} {z i j c t : Nat} (hz : z < 3) (hi : i < 4) (hj : j < 4) (hij : i ≠ j) (hc1 : ¬ nI c < (-12)) (hc2 : nI c ≤ 12) (hE : a2 z = 0) (hT : cz_T a1 z t)
    (H1 : cz_nr i j c t = true → ∀ b s, cz_F a1 z (cz_nt i j c t) 16 b → post 1 (b, upd a2 z 0, s)) (H0 : cz_nr i j c t = false → ∀ s, post 0 (a1, upd a2 z 1, s)) : wpX_keep post (a1, a2, a3) (nI z) (nI i) (nI j) (nI c) := by
  unfold wpX_keep
  dsimp only
  exact
    cz_zone hz (br_f (by decide) (cz_pair hi hj hij (br_f (by decide) (br_f hc1 (br_t hc2 (cz_tighten hz hi hj hE hT
    (fun e b s hb => ⟨pk_in z 3 hz, br_t (by rw [nI_clamp (by omega)]; exact pk_us) (H1 e b s hb)⟩)
    (fun e s => ⟨pk_in z 3 hz, br_f (by rw [nI_clamp (by omega)]; show ¬ upd a2 z 1 z = 0; rw [pk_us]; decide) (H0 e s)⟩)))))))
theorem cz_keepB {post : Int32 → St2 → Prop} {a1 a2 a3 : Nat → Int32} {p i j c : Int32} (hz : p < 0 ∨ 2 < p) (H : post (-1) (a1, a2, a3)) : wpX_keep post (a1, a2, a3) p i j c := by
  unfold wpX_keep
  dsimp only
  exact
    cz_zoneB hz (br_t rfl H)
theorem cz_keepP {post : Int32 → St2 → Prop} {a1 a2 a3 : Nat → Int32} {z : Nat} {i j c : Int32} (hz : z < 3) (h : i < 0 ∨ 3 < i ∨ j < 0 ∨ 3 < j ∨ i = j) (H : post (-2) (a1, a2, a3)) : wpX_keep post (a1, a2, a3) (nI z) i j c := by
  unfold wpX_keep
  dsimp only
  exact
    cz_zone hz (br_f (by decide) (cz_pairB h (br_t rfl H)))
theorem cz_keepC {post : Int32 → St2 → Prop} {a1 a2 a3 : Nat → Int32} {z i j : Nat} {c : Int32} (hz : z < 3) (hi : i < 4) (hj : j < 4) (hij : i ≠ j) (h : c < (-12) ∨ 12 < c) (H : post (-3) (a1, a2, a3)) : wpX_keep post (a1, a2, a3) (nI z) (nI i) (nI j) c := by
  unfold wpX_keep
  dsimp only
  exact
    cz_zone hz (br_f (by decide) (cz_pair hi hj hij (br_f (by decide) (br_c (fun _ => H) (fun e => br_f (by
    rw [Int32.not_le]
    exact h.resolve_left e) H)))))
theorem cz_widest {post : Int32 → Prop} {a1 a2 a3 : Nat → Int32} {z i j t : Nat} (hz : z < 3) (hi : i < 4) (hj : j < 4) (hij : i ≠ j) (hE : a2 z = 0) (hT : cz_T a1 z t) (H : post (nI (cz_d t (4 * i + j)))) : wpX_widest post (a1, a2, a3) (nI z) (nI i) (nI j) := by
  have q : (16 : Int32) * nI z + 4 * nI i + nI j = nI (16 * z + (4 * i + j)) := by
    rw [← cz_i16, ← cz_ix, Int32.add_assoc]
  unfold wpX_widest
  dsimp only
  refine cz_zone hz (br_f (by decide) (cz_pair hi hj hij (br_f (by decide) ⟨pk_in z 3 hz, br_t (by rw [nI_clamp (by omega)]; exact hE) ⟨pk_in (16 * z + (4 * i + j)) 48 (by omega) q, ?_⟩⟩)))
  rw [q, nI_clamp (by omega), hT (4 * i + j) (by omega)]
  exact H
theorem cz_widestN {post : Int32 → Prop} {a1 a2 a3 : Nat → Int32} {z i j : Nat} (hz : z < 3) (hi : i < 4) (hj : j < 4) (hij : i ≠ j) (hE : ¬ a2 z = 0) (H : post (-300)) : wpX_widest post (a1, a2, a3) (nI z) (nI i) (nI j) := by
  unfold wpX_widest
  dsimp only
  exact
    cz_zone hz (br_f (by decide) (cz_pair hi hj hij (br_f (by decide) ⟨pk_in z 3 hz, br_f (by rw [nI_clamp (by omega)]; exact hE) H⟩)))
theorem cz_widestB {post : Int32 → Prop} {a1 a2 a3 : Nat → Int32} {p i j : Int32} (hz : p < 0 ∨ 2 < p) (H : post (-100)) : wpX_widest post (a1, a2, a3) p i j := by
  unfold wpX_widest
  dsimp only
  exact
    cz_zoneB hz (br_t rfl H)
theorem cz_widestP {post : Int32 → Prop} {a1 a2 a3 : Nat → Int32} {z : Nat} {i j : Int32} (hz : z < 3) (h : i < 0 ∨ 3 < i ∨ j < 0 ∨ 3 < j ∨ i = j) (H : post (-200)) : wpX_widest post (a1, a2, a3) (nI z) i j := by
  unfold wpX_widest
  dsimp only
  exact
    cz_zone hz (br_f (by decide) (cz_pairB h (br_t rfl H)))
/-- the law's own count -/
def cz_lf (p0 p1 p2 : Int32) : Int32 := if p0 = 0 then (if p2 < 0 then 169 * (13 + p2) else 2197) else if p1 = 0 then (if 0 ≤ p2 then 169 * (p2 + 1) else 0) else if p2 < 0 then 13 * (((13 + p2) * (14 + p2)) / 2) else 13 * (169 - (((12 - p2) * (13 - p2)) / 2))
theorem cz_left {post : Int32 → Prop} {p0 p1 p2 : Int32} (H : post (cz_lf p0 p1 p2)) : wpL_left post () p0 p1 p2 := by
  unfold cz_lf at H
  refine br_c (fun e1 => ?_) (fun e1 => ?_)
  · rw [if_pos e1] at H
    refine br_c (fun e2 => ?_) (fun e2 => ?_)
    · rw [if_pos e2] at H; exact H
    · rw [if_neg e2] at H; exact H
  · rw [if_neg e1] at H
    refine br_c (fun e2 => ?_) (fun e2 => ?_)
    · rw [if_pos e2] at H
      refine br_c (fun e3 => ?_) (fun e3 => ?_)
      · rw [if_pos e3] at H; exact H
      · rw [if_neg e3] at H; exact H
    · rw [if_neg e2] at H
      refine br_c (fun e3 => ⟨by decide, ?_⟩) (fun e3 => ⟨by decide, ?_⟩)
      · rw [if_pos e3] at H; exact H
      · rw [if_neg e3] at H; exact H
theorem cz_lf_n : ∀ i, i < 4 → ∀ j, j < 4 → ∀ m, m < 25 → cz_lf (nI i) (nI j) (nI (cz_cc m)) = nI (cz_n i j m) := by decide +kernel
end
section
/-! the law -/
abbrev cz_P : Int32 → St0 → Prop := fun r _ => r = 1
theorem cz_280B {mc ms kc ks : Nat} {a1 a2 a3 : Nat → Int32} {p v : Int32} (hz : p < 0 ∨ 2 < p) : wL_lawOf_280 cz_P mc ms p 0 v v kc ks a1 a2 a3 :=
  br_t rfl (cz_allB hz (br_t rfl (br_t rfl (cz_sizeB hz (br_t rfl (br_t rfl rfl))))))
theorem cz_280G {mc ms kc ks : Nat} {a1 a2 a3 : Nat → Int32} {z : Nat} {v u : Int32} (hz : z < 3) (hv : v = u) : wL_lawOf_280 cz_P mc ms (nI z) 1 v u kc ks a1 a2 a3 :=
  br_t hv (cz_allG hz (fun s hs => br_f (by decide) (br_t rfl (cz_sizeG hz pk_us (cz_F_T hs) cz_sz_box (fun s' => br_f (by decide) (br_t rfl rfl))))))
theorem cz_189 {mc ms kc ks : Nat} {x0 x1 x2 x3 x4 x5 x6 x8 : Int32} {a1 a2 a3 : Nat → Int32} {o : Nat} (ho : o < 3) (hE : a2 o = 0) (hT : cz_T a1 o cz_box)
    (H : ∀ s, (x1 = 0 → wL_lawOf_220 cz_P mc ms x0 x1 x2 x3 x4 x5 x6 x8 0 kc ks a1 a2 s) ∧ (¬ x1 = 0 → wL_lawOf_220 cz_P mc ms x0 x1 x2 x3 x4 x5 x6 x8 12 kc ks a1 a2 s)) : wL_lawOf_189 cz_P mc ms x0 x1 x2 x3 x4 x5 x6 x8 (nI o) kc ks a1 a2 a3 :=
  cz_sizeG ho hE hT cz_sz_box (fun s => br_t rfl (H s))
/-- the zone is none -/
theorem cz_lawB {mc ms kc ks : Nat} {x1 x2 x3 x5 x8 : Int32} {a1 a2 a3 : Nat → Int32} {p : Int32} (hz : p < 0 ∨ 2 < p) (h : cz_Z 3 a1 a2) : wL_lawOf_93 cz_P mc ms p x1 x2 x3 0 x5 0 x8 kc ks a1 a2 a3 := by
  have k236 : ∀ s v, wL_lawOf_236 cz_P mc ms p x1 x2 0 x5 x8 v kc ks a1 a2 s := fun s v => cz_widestB hz (br_t rfl (cz_280B hz))
  have k189 : ∀ o s, o < 3 → wL_lawOf_189 cz_P mc ms p x1 x2 x3 0 x5 0 x8 (nI o) kc ks a1 a2 s := fun o s ho => cz_189 ho (h o ho).2 (h o ho).1 (fun s' => br_c (fun _ => br_t rfl (k236 s' 0)) (fun _ => br_t rfl (k236 s' 12)))
  exact br_t rfl (cz_keepB hz (br_t rfl (cz_sizeB hz (br_t rfl (br_t rfl (br_c (fun _ => k189 1 a3 (by omega)) (fun _ => k189 0 a3 (by omega))))))))
/-- the other zone -/
theorem cz_other {A B : Prop} {z : Nat} (hz : z < 3) (H : ∀ o, o < 3 → o ≠ z → (o = 1 → A) ∧ (o = 0 → B)) : (nI z = 0 → A) ∧ (¬ nI z = 0 → B) :=
  pk_eq z 0 (fun e => (H 1 (by omega) (by omega)).1 rfl) (fun e => (H 0 (by omega) (by omega)).2 rfl)
/-- no pair of clocks -/
theorem cz_lawP {mc ms kc ks : Nat} {x1 x2 x3 : Int32} {a1 a2 a3 : Nat → Int32} {z : Nat} (hz : z < 3) (hp : x1 < 0 ∨ 3 < x1 ∨ x2 < 0 ∨ 3 < x2 ∨ x1 = x2) (h : cz_Z 3 a1 a2) : wL_lawOf_93 cz_P mc ms (nI z) x1 x2 x3 1 0 0 2197 kc ks a1 a2 a3 := by
  have k236 : ∀ s v, wL_lawOf_236 cz_P mc ms (nI z) x1 x2 1 0 2197 v kc ks a1 a2 s := fun s v => cz_widestP hz hp (br_f (by decide) (br_t rfl (cz_280G hz rfl)))
  have k189 : ∀ o s, o < 3 → wL_lawOf_189 cz_P mc ms (nI z) x1 x2 x3 1 0 0 2197 (nI o) kc ks a1 a2 s := fun o s ho => cz_189 ho (h o ho).2 (h o ho).1 (fun s' => br_c (fun _ => br_t rfl (k236 s' 0)) (fun _ => br_t rfl (k236 s' 12)))
  exact br_f (by decide) (br_t rfl (cz_keepP hz hp (br_t rfl (cz_sizeG hz (h z hz).2 (h z hz).1 cz_sz_box (fun s => br_f (by decide) (br_t rfl (br_c (fun _ => k189 1 s (by omega)) (fun _ => k189 0 s (by omega)))))))))
theorem cz_topE (i : Nat) (hi : i < 4) : nI (cz_top i) = if nI i = 0 then 0 else 12 := by
  rcases (show i = 0 ∨ i = 1 ∨ i = 2 ∨ i = 3 by omega) with rfl | rfl | rfl | rfl <;> decide +kernel
/-- a bound that is out of range -/
theorem cz_lawC {mc ms kc ks : Nat} {x3 : Int32} {a1 a2 a3 : Nat → Int32} {z i j : Nat} (hz : z < 3) (hi : i < 4) (hj : j < 4) (hij : i ≠ j) (hc : x3 < (-12) ∨ 12 < x3) (h : cz_Z 3 a1 a2) : wL_lawOf_93 cz_P mc ms (nI z) (nI i) (nI j) x3 1 1 0 2197 kc ks a1 a2 a3 := by
  have k236 : ∀ s, wL_lawOf_236 cz_P mc ms (nI z) (nI i) (nI j) 1 1 2197 (nI (cz_top i)) kc ks a1 a2 s := fun s => cz_widest hz hi hj hij (h z hz).2 (h z hz).1 (br_f (by decide) (br_f (by decide) (br_f (by decide) (cz_280G hz (by rw [cz_box_top i hi j hj hij])))))
  have k189 : ∀ o s, o < 3 → wL_lawOf_189 cz_P mc ms (nI z) (nI i) (nI j) x3 1 1 0 2197 (nI o) kc ks a1 a2 s := fun o s ho => cz_189 ho (h o ho).2 (h o ho).1 (fun s' => by
    have k := k236 s'
    rw [cz_topE i hi] at k
    refine br_c (fun e => br_t rfl ?_) (fun e => br_t rfl ?_)
    · rw [if_pos e] at k; exact k
    · rw [if_neg e] at k; exact k)
  exact br_f (by decide) (br_f (by decide) (br_t rfl (cz_keepC hz hi hj hij hc (br_t rfl (cz_sizeG hz (h z hz).2 (h z hz).1 cz_sz_box (fun s => br_f (by decide) (br_t rfl (br_c (fun _ => k189 1 s (by omega)) (fun _ => k189 0 s (by omega))))))))))
theorem cz_cut {a b : Bool} (h : cz_c a b false = true) : a = true ∧ b = true := by
  cases a with
  | false => exact absurd h Bool.false_ne_true
  | true => exact ⟨rfl, h⟩
theorem cz_ck_use {i j m : Nat} (h : cz_ck i j m = true) : cz_n i j m ≤ 2197 ∧
    (cz_nr i j (cz_cc m) cz_box = true → 1 ≤ cz_n i j m ∧ cz_sz (cz_nt i j (cz_cc m) cz_box) (cz_n i j m) = true ∧ cz_d (cz_nt i j (cz_cc m) cz_box) (4 * i + j) = cz_mo i m) ∧
    (cz_nr i j (cz_cc m) cz_box = false → cz_n i j m = 0) := by
  unfold cz_ck at h
  rw [cz_f_eq, cz_f_eq] at h
  obtain ⟨h1, h2⟩ := cz_cut h
  refine ⟨Nat.le_of_ble_eq_true h1, fun e => ?_, fun e => ?_⟩
  · rw [e, cz_c_t, cz_f_eq] at h2
    obtain ⟨h3, h4⟩ := cz_cut h2
    obtain ⟨h5, h6⟩ := cz_cut h4
    exact ⟨Nat.le_of_ble_eq_true h3, h5, Nat.eq_of_beq_eq_true h6⟩
  · rw [e, cz_c_f] at h2
    exact Nat.eq_of_beq_eq_true h2
/-- a bound is kept -/
theorem cz_lawD {mc ms kc ks : Nat} {a1 a2 a3 : Nat → Int32} {z i j m : Nat} (hz : z < 3) (hi : i < 4) (hj : j < 4) (hij : i ≠ j) (hm : m < 25) (hc1 : ¬ nI (cz_cc m) < (-12)) (hc2 : nI (cz_cc m) ≤ 12) (h : cz_Z 3 a1 a2) : wL_lawOf_93 cz_P mc ms (nI z) (nI i) (nI j) (nI (cz_cc m)) 1 1 1 (nI (cz_n i j m)) kc ks a1 a2 a3 := by
  obtain ⟨hn, g1, g0⟩ := cz_ck_use (cz_ck_of hi hj hij hm)
  refine br_f (by decide) (br_f (by decide) (br_f (by decide) ?_))
  have oT : ∀ o, o < 3 → cz_T a1 o cz_box := fun o ho => (h o ho).1
  have oE : ∀ o, o < 3 → a2 o = 0 := fun o ho => (h o ho).2
  cases e : cz_nr i j (cz_cc m) cz_box with
  | false =>
    have n0 := g0 e
    rw [n0]
    refine pk_le 0 0 (fun _ => ?_) (fun y => absurd y (by omega))
    refine cz_keep hz hi hj hij hc1 hc2 (oE z hz) (oT z hz) (fun e' => absurd (e.symm.trans e') Bool.false_ne_true) (fun _ s => br_t rfl ?_)
    have ez : ¬ upd a2 z 1 z = 0 := by rw [pk_us]; decide
    have k236 : ∀ s v, wL_lawOf_236 cz_P mc ms (nI z) (nI i) (nI j) 1 1 (nI 0) v kc ks a1 (upd a2 z 1) s := fun s v => cz_widestN hz hi hj hij ez (br_f (by decide) (br_f (by decide) (br_t rfl (cz_280G hz rfl))))
    have k189 : ∀ o s, o < 3 → o ≠ z → wL_lawOf_189 cz_P mc ms (nI z) (nI i) (nI j) (nI (cz_cc m)) 1 1 1 (nI 0) (nI o) kc ks a1 (upd a2 z 1) s := fun o s ho hoz => cz_189 ho (by rw [pk_un hoz]; exact oE o ho) (oT o ho) (fun s' => br_c (fun _ => br_f (by decide) (br_c (fun _ => k236 s' _) (fun _ => k236 s' _))) (fun _ => br_f (by decide) (br_c (fun _ => k236 s' _) (fun _ => k236 s' _))))
    exact cz_sizeN hz ez (br_f (by decide) (br_t rfl (cz_other hz (fun o ho hoz => ⟨fun eo => by
      have k := k189 o s ho hoz
      rw [eo] at k
      exact k, fun eo => by
      have k := k189 o s ho hoz
      rw [eo] at k
      exact k⟩))))
  | true =>
    obtain ⟨n1, gs, gm⟩ := g1 e
    refine pk_le (cz_n i j m) 0 (fun y => absurd y (by omega)) (fun _ => ?_)
    refine cz_keep hz hi hj hij hc1 hc2 (oE z hz) (oT z hz) (fun _ b s hb => br_t rfl ?_) (fun e' => absurd (e'.symm.trans e) Bool.false_ne_true)
    have ez : upd a2 z 0 z = 0 := pk_us
    have k236 : ∀ s, wL_lawOf_236 cz_P mc ms (nI z) (nI i) (nI j) 1 1 (nI (cz_n i j m)) (nI (cz_mo i m)) kc ks b (upd a2 z 0) s := fun s => cz_widest hz hi hj hij ez (cz_F_T hb) (br_f (by decide) (br_f (by decide) (br_f (nI_ne0 (by omega) (by omega)) (cz_280G hz (by rw [gm])))))
    have k220 : ∀ s, wL_lawOf_220 cz_P mc ms (nI z) (nI i) (nI j) (nI (cz_cc m)) 1 1 1 (nI (cz_n i j m)) (nI (cz_top i)) kc ks b (upd a2 z 0) s := by
      intro s
      have k := k236 s
      refine br_f (by decide) (cz_ple (cz_top i) (cz_cc m) (fun y => ?_) (fun y => ?_))
      · have q : cz_mo i m = _ := cz_mn_t y
        rw [q] at k
        exact k
      · have q : cz_mo i m = _ := cz_mn_f y
        rw [q] at k
        exact k
    have k189 : ∀ o s, o < 3 → o ≠ z → wL_lawOf_189 cz_P mc ms (nI z) (nI i) (nI j) (nI (cz_cc m)) 1 1 1 (nI (cz_n i j m)) (nI o) kc ks b (upd a2 z 0) s := fun o s ho hoz => cz_189 ho (by rw [pk_un hoz]; exact oE o ho) (cz_F_O hb hoz (oT o ho)) (fun s' => by
      have k := k220 s'
      rw [cz_topE i hi] at k
      refine br_c (fun y => ?_) (fun y => ?_)
      · rw [if_pos y] at k; exact k
      · rw [if_neg y] at k; exact k)
    exact cz_sizeG hz ez (cz_F_T hb) gs (fun s' => br_f (by decide) (br_t rfl (cz_other hz (fun o ho hoz => ⟨fun eo => by
      have k := k189 o s' ho hoz
      rw [eo] at k
      exact k, fun eo => by
      have k := k189 o s' ho hoz
      rw [eo] at k
      exact k⟩))))
theorem cz_64 {x0 x1 x2 x3 x4 x5 : Int32} {p : Int32} (H0 : p = 0 → ∀ a1 a2 a3, cz_Z 3 a1 a2 → wL_lawOf_93 cz_P 42 672 x0 x1 x2 x3 x4 x5 p 2197 4 70 a1 a2 a3)
    (H1 : ¬ p = 0 → ∀ a1 a2 a3, cz_Z 3 a1 a2 → wL_lawOf_93 cz_P 42 672 x0 x1 x2 x3 x4 x5 p (cz_lf x1 x2 x3) 4 70 a1 a2 a3) : wL_lawOf_64 cz_P 42 672 x0 x1 x2 x3 x4 x5 p 0 0 :=
  ⟨by omega, by omega, 3, 67, by omega, by omega, cz_init (fun a1 a2 a3 h => br_c (fun e => H0 e a1 a2 a3 h) (fun e => cz_left (H1 e a1 a2 a3 h)))⟩
theorem cz_64_0 {x0 x1 x2 x3 x4 x5 : Int32} (H0 : ∀ a1 a2 a3, cz_Z 3 a1 a2 → wL_lawOf_93 cz_P 42 672 x0 x1 x2 x3 x4 x5 0 2197 4 70 a1 a2 a3) : wL_lawOf_64 cz_P 42 672 x0 x1 x2 x3 x4 x5 0 0 0 :=
  cz_64 (fun _ => H0) (fun e => absurd rfl e)
theorem cz_inr {post : Int32 → Prop} {p a b : Int32} (H1 : ¬ p < a → ¬ b < p → post 1) (H0 : p < a ∨ b < p → post 0) : wpL_in post () p a b :=
  br_c (fun e => H0 (Or.inl e)) (fun e => br_c (fun e2 => H0 (Or.inr e2)) (fun e2 => H1 e e2))
theorem cz_to {x M : Int32} {n : Nat} (hM : M.toInt = n) (h : ¬ x < 0) (h5 : ¬ M < x) : ∃ j : Nat, j < n + 1 ∧ x = nI j := by
  obtain ⟨j, hj, e⟩ := nI_of2 hM h (Int32.not_lt.mp h5)
  exact ⟨j, by omega, e⟩
theorem cz_toC {x : Int32} (h : ¬ x < (-12)) (h5 : ¬ 12 < x) : ∃ m : Nat, m < 25 ∧ x = nI (cz_cc m) := by
  obtain ⟨a, ha, e⟩ := cz_of x
  have q : (-12 : Int32) = nI 4294967284 := by decide
  rw [e, q, cz_lt_iff] at h
  rw [e, show (12 : Int32) = nI 12 from rfl, cz_lt_iff] at h5
  have h' : cz_le 4294967284 a = true := by cases y : cz_le 4294967284 a with | true => rfl | false => exact absurd y h
  have h5' : cz_le a 12 = true := by cases y : cz_le a 12 with | true => rfl | false => exact absurd y h5
  have r1 : (4294967284 + 2147483648) % 4294967296 ≤ (a + 2147483648) % 4294967296 := Nat.le_of_ble_eq_true h'
  have r2 : (a + 2147483648) % 4294967296 ≤ (12 + 2147483648) % 4294967296 := Nat.le_of_ble_eq_true h5'
  refine ⟨(a + 12) % 4294967296, by omega, ?_⟩
  rw [e]
  apply cz_eqM
  show a % 4294967296 = ((a + 12) % 4294967296 + 4294967284) % 4294967296 % 4294967296
  omega
theorem cz_36 {z : Nat} {i j c : Int32} (hz : z < 3) (h1 : ¬ i < 0) (h2 : ¬ 3 < i) (h3 : ¬ j < 0) (h4 : ¬ 3 < j) (h5 : ¬ i = j) : wL_lawOf_36 cz_P 42 672 (nI z) i j c 1 1 0 0 := by
  obtain ⟨a, ha, rfl⟩ := cz_to (n := 3) (by decide) h1 h2
  obtain ⟨b, hb, rfl⟩ := cz_to (n := 3) (by decide) h3 h4
  have hab : a ≠ b := fun e => h5 (by rw [e])
  refine br_f (by decide) (br_f (by decide) (cz_inr (fun c1 c2 => br_f (by decide) ?_) (fun hc => br_t rfl ?_)))
  · obtain ⟨m, hm, rfl⟩ := cz_toC c1 c2
    refine cz_64 (fun e => absurd e (by decide)) (fun _ a1 a2 a3 h => ?_)
    rw [cz_lf_n a ha b hb m hm]
    exact cz_lawD hz ha hb hab hm c1 (Int32.not_lt.mp c2) h
  · exact cz_64_0 (fun a1 a2 a3 h => cz_lawC hz ha hb hab hc h)
theorem cz_35 {z : Nat} {i j c : Int32} (hz : z < 3) (hp : i < 0 ∨ 3 < i ∨ j < 0 ∨ 3 < j ∨ i = j) : wL_lawOf_35 cz_P 42 672 (nI z) i j c 1 0 0 :=
  br_f (by decide) (br_t rfl (cz_64_0 (fun a1 a2 a3 h => cz_lawP hz hp h)))
theorem cz_36B {p i j c x5 : Int32} (hz : p < 0 ∨ 2 < p) : wL_lawOf_36 cz_P 42 672 p i j c 0 x5 0 0 :=
  br_t rfl (cz_64_0 (fun a1 a2 a3 h => cz_lawB hz h))
theorem cz_lawOf (z i j c : Int32) : wpL_lawOf cz_P 42 672 () z i j c := by
  refine cz_inr (fun z1 z2 => ?_) (fun hz => ?_)
  · obtain ⟨y, hy, rfl⟩ := cz_to (n := 2) (by decide) z1 z2
    refine cz_inr (fun i1 i2 => br_f (by decide) (cz_inr (fun j1 j2 => br_f (by decide) (br_c (fun e => ?_) (fun e => ?_))) (fun hj => br_t rfl ?_))) (fun hi => br_t rfl ?_)
    · exact cz_35 hy (Or.inr (Or.inr (Or.inr (Or.inr e))))
    · exact cz_36 hy i1 i2 j1 j2 e
    · exact cz_35 hy (Or.inr (Or.inr (hj.elim Or.inl (fun q => Or.inr (Or.inl q)))))
    · exact cz_35 hy (hi.elim Or.inl (fun q => Or.inr (Or.inl q)))
  · exact cz_inr (fun i1 i2 => br_f (by decide) (cz_inr (fun j1 j2 => br_f (by decide) (br_c (fun e => cz_36B hz) (fun e => cz_36B hz))) (fun hj => br_t rfl (cz_36B hz)))) (fun hi => br_t rfl (cz_36B hz))
theorem cz_cell {post : Int32 → Prop} {L : Nat} {xs : Nat → Int32} {k : Nat} (hL : L ≤ 4) (hk : k < 4) (H : ∀ v, post v) : wpL_cellAt post L xs () (nI k) :=
  pk_le L k (fun _ => H 0) (fun e => ⟨pk_in k L e, H _⟩)
end
section
theorem i_vc (xs : Nat → Int32) (L : Nat) (hL : L ≤ 4) : wpL_law (fun r => r = 1) L xs :=
  cz_cell (k := 0) hL (by omega) (fun r1 => cz_cell (k := 1) hL (by omega) (fun r2 => cz_cell (k := 2) hL (by omega) (fun r3 => cz_cell (k := 3) hL (by omega) (fun r4 => ⟨42, 672, by omega, by omega, cz_lawOf r1 r2 r3 r4⟩))))
end
