section
/-! numbers: rows of kit/rows (pk_, s_l, nx_) and small tables -/
theorem pk_us {f : Nat → Int32} {k : Nat} {x : Int32} : upd f k x k = x := if_pos rfl
theorem pk_un {f : Nat → Int32} {k j : Nat} {x : Int32} (h : j ≠ k) : upd f k x j = f j := if_neg h
theorem pk_m1 (n : Nat) : nI (n + 1) + (-1) = nI n := by
  rw [← nI_1, Int32.add_assoc, show (1 : Int32) + (-1) = 0 from rfl, Int32.add_zero]
theorem pk_le {x y : Int32} {A B : Prop} (a b : Nat) (f : a ≤ b → A) (g : b < a → B) (hx : x = nI a := by rfl) (hy : y = nI b := by rfl) (ha : a < 2 ^ 31 := by omega) (hb : b < 2 ^ 31 := by omega) : (x ≤ y → A) ∧ (¬ x ≤ y → B) := by
  subst hx hy
  rw [nI_leI ha hb]
  exact ⟨f, fun z => g (by omega)⟩
theorem pk_lt {x y : Int32} {A B : Prop} (a b : Nat) (f : a < b → A) (g : b ≤ a → B) (hx : x = nI a := by rfl) (hy : y = nI b := by rfl) (ha : a < 2 ^ 31 := by omega) (hb : b < 2 ^ 31 := by omega) : (x < y → A) ∧ (¬ x < y → B) := by
  subst hx hy
  rw [nI_ltI ha hb]
  exact ⟨f, fun z => g (by omega)⟩
theorem pk_eq {x y : Int32} {A B : Prop} (a b : Nat) (f : a = b → A) (g : a ≠ b → B) (hx : x = nI a := by rfl) (hy : y = nI b := by rfl) (ha : a < 2 ^ 31 := by omega) (hb : b < 2 ^ 31 := by omega) : (x = y → A) ∧ (¬ x = y → B) := by
  subst hx hy
  rw [nI_eq ha hb]
  exact ⟨f, g⟩
theorem pk_in {x : Int32} (n N : Nat) (h : n < N) (hx : x = nI n := by rfl) (hN : N < 2 ^ 31 := by omega) : vp_in x N := by
  subst hx
  exact vp_in_nI h hN
theorem pk_cl {x : Int32} (n : Nat) (hx : x = nI n := by rfl) (h : n < 2 ^ 31 := by omega) : x.toNatClampNeg = n := by
  subst hx
  exact nI_clamp h
theorem pk_tn {n : Nat} (h : n < 2 ^ 32) : (nI n).toBitVec.toNat = n := Nat.mod_eq_of_lt h
theorem pk_and (x : Int32) {m : Int32} (k : Nat) (hm : m.toBitVec.toNat = 2 ^ k - 1) : x &&& m = nI (x.toBitVec.toNat % 2 ^ k) := by
  apply Int32.toBitVec_inj.mp
  apply BitVec.eq_of_toNat_eq
  rw [Int32.toBitVec_and, BitVec.toNat_and, hm, Nat.and_two_pow_sub_one_eq_mod]
  show _ = (BitVec.ofNat 32 _).toNat
  rw [BitVec.toNat_ofNat]
  exact (Nat.mod_eq_of_lt (Nat.lt_of_le_of_lt (Nat.mod_le _ _) x.toBitVec.isLt)).symm
theorem pk_andN {n : Nat} (h : n < 2 ^ 32) {m : Int32} (k : Nat) (hm : m.toBitVec.toNat = 2 ^ k - 1) : nI n &&& m = nI (n % 2 ^ k) := by
  rw [pk_and _ k hm, pk_tn h]
theorem pk_shl (a s : Int32) (k : Nat) (hs : (s.toBitVec.smod 32).toNat = k) : (a <<< s).toBitVec.toNat = a.toBitVec.toNat * 2 ^ k % 2 ^ 32 := by
  show (a.toBitVec <<< (s.toBitVec.smod 32).toNat).toNat = _
  rw [hs, BitVec.toNat_shiftLeft, Nat.shiftLeft_eq]
theorem pk_shlN {n : Nat} (s : Int32) (k : Nat) (hs : (s.toBitVec.smod 32).toNat = k) (h : n * 2 ^ k < 2 ^ 32) : nI n <<< s = nI (n * 2 ^ k) := by
  apply Int32.toBitVec_inj.mp
  apply BitVec.eq_of_toNat_eq
  have hn : n < 2 ^ 32 := Nat.lt_of_le_of_lt (Nat.le_mul_of_pos_right n (Nat.two_pow_pos k)) h
  rw [pk_shl _ _ k hs, pk_tn hn, pk_tn h, Nat.mod_eq_of_lt h]
theorem pk_shr (a s : Int32) (k : Nat) (hs : (s.toBitVec.smod 32).toNat = k) : (a >>> s).toInt = a.toInt >>> k := by
  show (a.toBitVec.sshiftRight (s.toBitVec.smod 32).toNat).toInt = _
  rw [hs, BitVec.toInt_sshiftRight]
  rfl
theorem pk_shrN {n : Nat} (h : n < 2 ^ 31) (s : Int32) (k : Nat) (hs : (s.toBitVec.smod 32).toNat = k) : nI n >>> s = nI (n / 2 ^ k) := by
  apply Int32.toInt_inj.mp
  have h2 : n / 2 ^ k ≤ n := Nat.div_le_self _ _
  rw [pk_shr _ _ k hs, nI_toInt h, nI_toInt (by omega), Int.shiftRight_eq_div_pow]
  rfl
theorem pk_vb (z : Int32) : vp_nar .byte z.toInt8.toInt32 = z.toInt8.toInt32 := by rw [vp_nar_byte]; simp
theorem s_l : ∀ n, n < 32 → ((nI n &&& 31).toBitVec.smod 32).toNat = n := by decide +kernel
theorem nx_and (a b : Nat) : nI a &&& nI b = nI (a &&& b) := by
  apply Int32.toBitVec_inj.1
  show BitVec.ofNat 32 a &&& BitVec.ofNat 32 b = BitVec.ofNat 32 (a &&& b)
  apply BitVec.eq_of_getLsbD_eq
  intro i hi
  simp [hi]
theorem nx_xor (a b : Nat) : nI a ^^^ nI b = nI (a ^^^ b) := by
  apply Int32.toBitVec_inj.1
  show BitVec.ofNat 32 a ^^^ BitVec.ofNat 32 b = BitVec.ofNat 32 (a ^^^ b)
  apply BitVec.eq_of_getLsbD_eq
  intro i hi
  simp [hi]
theorem bb_or (a b : Nat) : nI a ||| nI b = nI (a ||| b) := by
  apply Int32.toBitVec_inj.1
  show BitVec.ofNat 32 a ||| BitVec.ofNat 32 b = BitVec.ofNat 32 (a ||| b)
  apply BitVec.eq_of_getLsbD_eq
  intro i hi
  simp [hi]
/-- one bit of a number, as the program asks for it -/
theorem bb_bit {f m : Nat} (hf : f < 2 ^ 31) (hm : m < 31) : ((nI f >>> (nI m &&& 31)) &&& 1) = nI (f.testBit m).toNat := by
  have h2 : f / 2 ^ m ≤ f := Nat.div_le_self _ _
  rw [pk_shrN hf _ m (s_l m (by omega)), pk_andN (m := 1) (by omega) 1 (by decide), Nat.toNat_testBit, Nat.pow_one]
theorem bb_sh : ∀ k, k < 31 → (1 : Int32) <<< (nI k &&& 31) = nI (2 ^ k) := by decide +kernel
theorem bb_b0 {x y : Int32} {A B : Prop} (f m : Nat) (hf : f < 65536) (hm : m < 16) (h0 : f.testBit m = false → A) (h1 : f.testBit m = true → B) (hx : x = nI f := by rfl) (hy : y = nI m := by rfl) : (((x >>> (y &&& 31)) &&& 1) = 0 → A) ∧ (¬ ((x >>> (y &&& 31)) &&& 1) = 0 → B) := by
  subst hx hy
  rw [bb_bit (by omega) (by omega)]
  cases h : f.testBit m with
  | false => exact br_t (by decide) (h0 h)
  | true => exact br_f (by decide) (h1 h)
theorem bb_b1 {x y : Int32} {A B : Prop} (f m : Nat) (hf : f < 65536) (hm : m < 16) (h1 : f.testBit m = true → A) (h0 : f.testBit m = false → B) (hx : x = nI f := by rfl) (hy : y = nI m := by rfl) : (((x >>> (y &&& 31)) &&& 1) = 1 → A) ∧ (¬ ((x >>> (y &&& 31)) &&& 1) = 1 → B) := by
  subst hx hy
  rw [bb_bit (by omega) (by omega)]
  cases h : f.testBit m with
  | false => exact br_f (by decide) (h0 h)
  | true => exact br_t (by decide) (h1 h)
/-- the difference of two masks of four bits; 0: the first is part of the second -/
def bb_df (a b : Nat) : Nat := a &&& (15 ^^^ b)
theorem bb_dfI : ∀ a, a < 16 → ∀ b, b < 16 → nI a &&& (nI b ^^^ (-1)) = nI (bb_df a b) := by decide +kernel
theorem bb_dfl : ∀ a, a < 16 → ∀ b, b < 16 → bb_df a b < 16 := by decide +kernel
theorem bb_sub {x y : Int32} {A B : Prop} (a b : Nat) (ha : a < 16) (hb : b < 16) (f : bb_df a b = 0 → A) (g : bb_df a b ≠ 0 → B) (hx : x = nI a := by rfl) (hy : y = nI b := by rfl) : ((x &&& (y ^^^ (-1))) = 0 → A) ∧ (¬ (x &&& (y ^^^ (-1))) = 0 → B) := by
  subst hx hy
  have := bb_dfl a ha b hb
  rw [bb_dfI a ha b hb]
  exact pk_eq (bb_df a b) 0 f g
/-- an array of numbers -/
def bb_A (g : Nat → Nat) : Nat → Int32 := fun i => nI (g i)
def bb_up (g : Nat → Nat) (k x : Nat) : Nat → Nat := fun j => if j = k then x else g j
theorem bb_ups {g : Nat → Nat} {k x : Nat} : bb_up g k x k = x := if_pos rfl
theorem bb_upn {g : Nat → Nat} {k x j : Nat} (h : j ≠ k) : bb_up g k x j = g j := if_neg h
theorem bb_at {g : Nat → Nat} {i : Nat} (h : i < 2 ^ 31) : bb_A g (nI i).toNatClampNeg = nI (g i) := by
  rw [nI_clamp h]; rfl
theorem bb_upA {g : Nat → Nat} {k x : Nat} (h : k < 2 ^ 31) : upd (bb_A g) (nI k).toNatClampNeg (nI x) = bb_A (bb_up g k x) := by
  rw [nI_clamp h]
  funext j
  unfold upd bb_A bb_up
  by_cases e : j = k
  · rw [if_pos e, if_pos e]
  · rw [if_neg e, if_neg e]
theorem bb_A0 : (fun _ => 0 : Nat → Int32) = bb_A (fun _ => 0) := by funext j; rfl
end
section
/-! polynomials of four variables that are 0 or 1: a number below 65536 is a set of monomials, a monomial a mask of four bits -/
theorem bb_x4 (a b c d : Nat) : (a ^^^ b) ^^^ (c ^^^ d) = (a ^^^ c) ^^^ (b ^^^ d) := by
  apply Nat.eq_of_testBit_eq
  intro i
  simp only [Nat.testBit_xor]
  cases a.testBit i <;> cases b.testBit i <;> cases c.testBit i <;> cases d.testBit i <;> rfl
theorem bb_x3 (f t r : Nat) : ((f ^^^ t) ^^^ r) ^^^ t = f ^^^ r := by
  apply Nat.eq_of_testBit_eq
  intro i
  simp only [Nat.testBit_xor]
  cases f.testBit i <;> cases t.testBit i <;> cases r.testBit i <;> rfl
theorem bb_xx (a b : Nat) : (a ^^^ b) ^^^ b = a := by
  rw [Nat.xor_assoc, Nat.xor_self, Nat.xor_zero]
theorem bb_xl (a b : Nat) : a ^^^ (a ^^^ b) = b := by
  rw [← Nat.xor_assoc, Nat.xor_self, Nat.zero_xor]
def bb_sel (c : Bool) (x : Nat) : Nat := cond c x 0
theorem bb_selx (c d : Bool) (x : Nat) : bb_sel (c ^^ d) x = bb_sel c x ^^^ bb_sel d x := by
  cases c <;> cases d <;> simp [bb_sel]
theorem bb_sellt {c : Bool} {x N : Nat} (hN : 0 < N) (h : x < N) : bb_sel c x < N := by
  cases c
  · exact hN
  · exact h
theorem bb_tb {f k j : Nat} (h : f < 2 ^ k) (hj : k ≤ j) : f.testBit j = false :=
  Nat.testBit_lt_two_pow (Nat.lt_of_lt_of_le h (Nat.pow_le_pow_right (by decide) hj))
theorem bb_ltb {f k : Nat} (h : ∀ n, f.testBit n = true → n < k) : f < 2 ^ k := by
  apply Nat.lt_pow_two_of_testBit
  intro i hi
  cases e : f.testBit i with
  | false => rfl
  | true => have := h i e; omega
theorem bb_clr {k f g : Nat} (hf : f < 2 ^ (k + 1)) (hg : g < 2 ^ (k + 1)) (h : f.testBit k = g.testBit k) : f ^^^ g < 2 ^ k := by
  apply Nat.lt_pow_two_of_testBit
  intro i hi
  rw [Nat.testBit_xor]
  rcases Nat.eq_or_lt_of_le hi with e | e
  · subst e; rw [h, Bool.xor_self]
  · rw [bb_tb hf e, bb_tb hg e]; rfl
theorem bb_low {k f : Nat} (hf : f < 2 ^ (k + 1)) (h : f.testBit k = false) : f < 2 ^ k := by
  have := bb_clr (g := 0) hf (Nat.two_pow_pos _) (by rw [h, Nat.zero_testBit])
  rwa [Nat.xor_zero] at this
theorem bb_pq {k m : Nat} (h : k ≤ m) : 2 ^ k ≤ 2 ^ m := Nat.pow_le_pow_right (by decide) h
theorem bb_pl {k m : Nat} (h : k < m) : 2 ^ k < 2 ^ m := Nat.pow_lt_pow_right (by decide) h
/-- what holds of 0 and of the monomials and is kept by sums holds of every polynomial -/
theorem bb_li {P : Nat → Prop} (h0 : P 0) (hx : ∀ a b, P a → P b → P (a ^^^ b)) : ∀ k, (∀ m, m < k → P (2 ^ m)) → ∀ f, f < 2 ^ k → P f := by
  intro k
  induction k with
  | zero =>
    intro _ f hf
    have : f = 0 := by simp at hf; exact hf
    rw [this]; exact h0
  | succ k ih =>
    intro hm f hf
    have ih' := ih (fun m h => hm m (by omega))
    cases e : f.testBit k with
    | false => exact ih' f (bb_low hf e)
    | true =>
      have h2 : f ^^^ 2 ^ k < 2 ^ k := bb_clr hf (bb_pl (Nat.lt_succ_self k)) (by rw [e, Nat.testBit_two_pow_self])
      have := hx _ _ (ih' _ h2) (hm k (by omega))
      rwa [bb_xx] at this
theorem bb_li16 {P : Nat → Prop} (h0 : P 0) (hx : ∀ a b, P a → P b → P (a ^^^ b)) (hm : ∀ m, m < 16 → P (2 ^ m)) {f : Nat} (hf : f < 65536) : P f :=
  bb_li h0 hx 16 hm f hf
/-! times a monomial -/
def bb_tmr (f t : Nat) : Nat → Nat
  | 0 => 0
  | m + 1 => bb_tmr f t m ^^^ bb_sel (f.testBit m) (2 ^ (m ||| t))
def bb_tm (f t : Nat) : Nat := bb_tmr f t 16
theorem bb_or16 {a b : Nat} (ha : a < 16) (hb : b < 16) : a ||| b < 16 := Nat.or_lt_two_pow (n := 4) ha hb
theorem bb_and16 {a b : Nat} (hb : b < 16) : a &&& b < 16 := Nat.and_lt_two_pow (n := 4) a hb
theorem bb_xlt {a b : Nat} (ha : a < 65536) (hb : b < 65536) : a ^^^ b < 65536 := Nat.xor_lt_two_pow (n := 16) ha hb
theorem bb_p16 {m : Nat} (h : m < 16) : 2 ^ m < 65536 := bb_pl (m := 16) h
theorem bb_tmr_lt {f t : Nat} (ht : t < 16) : ∀ k, k ≤ 16 → bb_tmr f t k < 65536 := by
  intro k
  induction k with
  | zero => intro _; show 0 < 65536; omega
  | succ k ih =>
    intro hk
    exact bb_xlt (ih (by omega)) (bb_sellt (by omega) (bb_p16 (bb_or16 (by omega) ht)))
theorem bb_tm_lt {f t : Nat} (ht : t < 16) : bb_tm f t < 65536 := bb_tmr_lt ht 16 (by omega)
theorem bb_tmr_x (f g t : Nat) : ∀ k, bb_tmr (f ^^^ g) t k = bb_tmr f t k ^^^ bb_tmr g t k := by
  intro k
  induction k with
  | zero => exact (Nat.xor_self 0).symm
  | succ k ih =>
    show bb_tmr (f ^^^ g) t k ^^^ bb_sel ((f ^^^ g).testBit k) _ = (bb_tmr f t k ^^^ bb_sel _ _) ^^^ (bb_tmr g t k ^^^ bb_sel _ _)
    rw [ih, Nat.testBit_xor, bb_selx, bb_x4]
theorem bb_tm_x (f g t : Nat) : bb_tm (f ^^^ g) t = bb_tm f t ^^^ bb_tm g t := bb_tmr_x f g t 16
theorem bb_tm_0 (t : Nat) : bb_tm 0 t = 0 := by
  have := bb_tm_x 0 0 t
  rwa [Nat.xor_self, Nat.xor_self] at this
theorem bb_tm_m : ∀ m, m < 16 → ∀ t, t < 16 → bb_tm (2 ^ m) t = 2 ^ (m ||| t) := by decide +kernel
theorem bb_tmr_b {f t n : Nat} : ∀ k, (bb_tmr f t k).testBit n = true → ∃ m, m < k ∧ f.testBit m = true ∧ n = m ||| t := by
  intro k
  induction k with
  | zero => intro h; rw [show bb_tmr f t 0 = 0 from rfl, Nat.zero_testBit] at h; cases h
  | succ k ih =>
    intro h
    rw [show bb_tmr f t (k + 1) = bb_tmr f t k ^^^ bb_sel (f.testBit k) (2 ^ (k ||| t)) from rfl, Nat.testBit_xor] at h
    cases e : (bb_tmr f t k).testBit n with
    | true => obtain ⟨m, h1, h2⟩ := ih e; exact ⟨m, by omega, h2⟩
    | false =>
      rw [e, Bool.false_xor] at h
      cases c : f.testBit k with
      | false => rw [c, show bb_sel false (2 ^ (k ||| t)) = 0 from rfl, Nat.zero_testBit] at h; cases h
      | true =>
        rw [c, show bb_sel true (2 ^ (k ||| t)) = 2 ^ (k ||| t) from rfl, Nat.testBit_two_pow] at h
        exact ⟨k, by omega, c, (of_decide_eq_true h).symm⟩
theorem bb_tm_b {f t n : Nat} (h : (bb_tm f t).testBit n = true) : ∃ m, m < 16 ∧ f.testBit m = true ∧ n = m ||| t := bb_tmr_b 16 h
/-! the value at a point -/
def bb_evr (f p : Nat) : Nat → Bool
  | 0 => false
  | m + 1 => bb_evr f p m ^^ (f.testBit m && decide (bb_df m p = 0))
def bb_ev (f p : Nat) : Bool := bb_evr f p 16
theorem bb_evr_x (f g p : Nat) : ∀ k, bb_evr (f ^^^ g) p k = (bb_evr f p k ^^ bb_evr g p k) := by
  intro k
  induction k with
  | zero => rfl
  | succ k ih =>
    show (bb_evr (f ^^^ g) p k ^^ ((f ^^^ g).testBit k && _)) = ((bb_evr f p k ^^ (f.testBit k && _)) ^^ (bb_evr g p k ^^ (g.testBit k && _)))
    rw [ih, Nat.testBit_xor]
    generalize bb_evr f p k = a
    generalize bb_evr g p k = b
    generalize f.testBit k = c
    generalize g.testBit k = d
    generalize decide (bb_df k p = 0) = e
    cases a <;> cases b <;> cases c <;> cases d <;> cases e <;> rfl
theorem bb_ev_x (f g p : Nat) : bb_ev (f ^^^ g) p = (bb_ev f p ^^ bb_ev g p) := bb_evr_x f g p 16
theorem bb_ev_0 (p : Nat) : bb_ev 0 p = false := by
  have := bb_ev_x 0 0 p
  rwa [Nat.xor_self, Bool.xor_self] at this
theorem bb_ev_m : ∀ m, m < 16 → ∀ p, p < 16 → bb_ev (2 ^ m) p = decide (bb_df m p = 0) := by decide +kernel
theorem bb_df_or : ∀ m, m < 16 → ∀ t, t < 16 → ∀ p, p < 16 → decide (bb_df (m ||| t) p = 0) = (decide (bb_df m p = 0) && decide (bb_df t p = 0)) := by decide +kernel
theorem bb_ev_tm {f t p : Nat} (hf : f < 65536) (ht : t < 16) (hp : p < 16) : bb_ev (bb_tm f t) p = (bb_ev f p && decide (bb_df t p = 0)) := by
  refine bb_li16 (P := fun f => bb_ev (bb_tm f t) p = (bb_ev f p && decide (bb_df t p = 0))) ?_ ?_ ?_ hf
  · show bb_ev (bb_tm 0 t) p = (bb_ev 0 p && _)
    rw [bb_tm_0, bb_ev_0]; rfl
  · intro a b ha hb
    show bb_ev (bb_tm (a ^^^ b) t) p = (bb_ev (a ^^^ b) p && _)
    rw [bb_tm_x, bb_ev_x, bb_ev_x, ha, hb]
    cases bb_ev a p <;> cases bb_ev b p <;> cases decide (bb_df t p = 0) <;> rfl
  · intro m hm
    show bb_ev (bb_tm (2 ^ m) t) p = (bb_ev (2 ^ m) p && _)
    rw [bb_tm_m m hm t ht, bb_ev_m _ (bb_or16 hm ht) p hp, bb_ev_m m hm p hp, bb_df_or m hm t ht p hp]
/-! the polynomial that is 1 at one point alone; a polynomial is what its values are -/
def bb_dlr (p : Nat) : Nat → Nat
  | 0 => 0
  | m + 1 => bb_dlr p m ^^^ bb_sel (decide (bb_df p m = 0)) (2 ^ m)
def bb_dl (p : Nat) : Nat := bb_dlr p 16
theorem bb_dl_ev : ∀ p, p < 16 → ∀ q, q < 16 → bb_ev (bb_dl p) q = decide (p = q) := by decide +kernel
theorem bb_dl_lt : ∀ p, p < 16 → bb_dl p < 65536 := by decide +kernel
def bb_inv (e : Nat → Bool) : Nat → Nat
  | 0 => 0
  | p + 1 => bb_inv e p ^^^ bb_sel (e p) (bb_dl p)
theorem bb_inv_m : ∀ m, m < 16 → bb_inv (bb_ev (2 ^ m)) 16 = 2 ^ m := by decide +kernel
theorem bb_inv_x (f g : Nat) : ∀ k, bb_inv (bb_ev (f ^^^ g)) k = bb_inv (bb_ev f) k ^^^ bb_inv (bb_ev g) k := by
  intro k
  induction k with
  | zero => exact (Nat.xor_self 0).symm
  | succ k ih =>
    show bb_inv (bb_ev (f ^^^ g)) k ^^^ bb_sel (bb_ev (f ^^^ g) k) _ = (bb_inv (bb_ev f) k ^^^ bb_sel _ _) ^^^ (bb_inv (bb_ev g) k ^^^ bb_sel _ _)
    rw [ih, bb_ev_x, bb_selx, bb_x4]
theorem bb_inv_ev {f : Nat} (hf : f < 65536) : bb_inv (bb_ev f) 16 = f := by
  refine bb_li16 (P := fun f => bb_inv (bb_ev f) 16 = f) ?_ ?_ bb_inv_m hf
  · have := bb_inv_x 0 0 16
    rwa [Nat.xor_self, Nat.xor_self] at this
  · intro a b ha hb
    show bb_inv (bb_ev (a ^^^ b)) 16 = a ^^^ b
    rw [bb_inv_x, ha, hb]
theorem bb_inv_c {e e' : Nat → Bool} : ∀ k, (∀ p, p < k → e p = e' p) → bb_inv e k = bb_inv e' k := by
  intro k
  induction k with
  | zero => intro _; rfl
  | succ k ih =>
    intro h
    show bb_inv e k ^^^ bb_sel (e k) _ = bb_inv e' k ^^^ bb_sel (e' k) _
    rw [ih (fun p hp => h p (by omega)), h k (by omega)]
theorem bb_ev_inj {f g : Nat} (hf : f < 65536) (hg : g < 65536) (h : ∀ p, p < 16 → bb_ev f p = bb_ev g p) : f = g := by
  rw [← bb_inv_ev hf, ← bb_inv_ev hg]
  exact bb_inv_c 16 h
theorem bb_tm_tm {f s t : Nat} (hf : f < 65536) (hs : s < 16) (ht : t < 16) : bb_tm (bb_tm f s) t = bb_tm f (s ||| t) := by
  refine bb_ev_inj (bb_tm_lt ht) (bb_tm_lt (bb_or16 hs ht)) (fun p hp => ?_)
  rw [bb_ev_tm (bb_tm_lt hs) ht hp, bb_ev_tm hf hs hp, bb_ev_tm hf (bb_or16 hs ht) hp, bb_df_or s hs t ht p hp, Bool.and_assoc]
theorem bb_df0 : ∀ p, p < 16 → bb_df 0 p = 0 := by decide +kernel
theorem bb_tm_1 {f : Nat} (hf : f < 65536) : bb_tm f 0 = f := by
  refine bb_ev_inj (bb_tm_lt (by omega)) hf (fun p hp => ?_)
  rw [bb_ev_tm hf (by omega) hp, bb_df0 p hp, decide_eq_true rfl, Bool.and_true]
/-! the product -/
def bb_mlr (f g : Nat) : Nat → Nat
  | 0 => 0
  | m + 1 => bb_mlr f g m ^^^ bb_sel (g.testBit m) (bb_tm f m)
def bb_ml (f g : Nat) : Nat := bb_mlr f g 16
theorem bb_mlr_lt {f g : Nat} : ∀ k, k ≤ 16 → bb_mlr f g k < 65536 := by
  intro k
  induction k with
  | zero => intro _; show 0 < 65536; omega
  | succ k ih => intro hk; exact bb_xlt (ih (by omega)) (bb_sellt (by omega) (bb_tm_lt (by omega)))
theorem bb_ml_lt {f g : Nat} : bb_ml f g < 65536 := bb_mlr_lt 16 (by omega)
theorem bb_ev_sel (c : Bool) (x p : Nat) : bb_ev (bb_sel c x) p = (c && bb_ev x p) := by
  cases c
  · exact bb_ev_0 p
  · exact (Bool.true_and _).symm
theorem bb_ev_mlr {f g p : Nat} (hf : f < 65536) (hp : p < 16) : ∀ k, k ≤ 16 → bb_ev (bb_mlr f g k) p = (bb_ev f p && bb_evr g p k) := by
  intro k
  induction k with
  | zero => intro _; show bb_ev 0 p = (bb_ev f p && false); rw [bb_ev_0, Bool.and_false]
  | succ k ih =>
    intro hk
    show bb_ev (bb_mlr f g k ^^^ bb_sel (g.testBit k) (bb_tm f k)) p = (bb_ev f p && (bb_evr g p k ^^ (g.testBit k && decide (bb_df k p = 0))))
    rw [bb_ev_x, ih (by omega), bb_ev_sel, bb_ev_tm hf (by omega) hp]
    generalize bb_ev f p = a
    generalize bb_evr g p k = b
    generalize g.testBit k = c
    generalize decide (bb_df k p = 0) = d
    cases a <;> cases b <;> cases c <;> cases d <;> rfl
theorem bb_ev_ml {f g p : Nat} (hf : f < 65536) (hp : p < 16) : bb_ev (bb_ml f g) p = (bb_ev f p && bb_ev g p) := bb_ev_mlr hf hp 16 (by omega)
theorem bb_ml_c {f g : Nat} (hf : f < 65536) (hg : g < 65536) : bb_ml f g = bb_ml g f :=
  bb_ev_inj bb_ml_lt bb_ml_lt (fun p hp => by rw [bb_ev_ml hf hp, bb_ev_ml hg hp, Bool.and_comm])
theorem bb_ml_m {f m : Nat} (hf : f < 65536) (hm : m < 16) : bb_ml f (2 ^ m) = bb_tm f m :=
  bb_ev_inj bb_ml_lt (bb_tm_lt hm) (fun p hp => by rw [bb_ev_ml hf hp, bb_ev_m m hm p hp, bb_ev_tm hf hm hp])
/-! heads -/
def bb_HD (f m : Nat) : Prop := f.testBit m = true ∧ f < 2 ^ (m + 1)
theorem bb_HD_ne {f m : Nat} (h : bb_HD f m) : f ≠ 0 := by
  intro e
  have := h.1
  rw [e, Nat.zero_testBit] at this
  cases this
theorem bb_HD_lt {f m : Nat} (h : bb_HD f m) (hm : m < 16) : f < 65536 :=
  Nat.lt_of_lt_of_le h.2 (bb_pq (m := 16) (by omega))
theorem bb_HD_b {f m n : Nat} (h : bb_HD f m) (hn : f.testBit n = true) : n ≤ m := by
  rcases Nat.lt_or_ge m n with e | e
  · rw [bb_tb h.2 e] at hn; cases hn
  · exact e
theorem bb_HD_x {f g m : Nat} (hf : bb_HD f m) (hg : bb_HD g m) : f ^^^ g < 2 ^ m := bb_clr hf.2 hg.2 (by rw [hf.1, hg.1])
theorem bb_HD_ex : ∀ k f, f < 2 ^ k → f ≠ 0 → ∃ m, m < k ∧ bb_HD f m := by
  intro k
  induction k with
  | zero => intro f hf h; simp at hf; exact absurd hf h
  | succ k ih =>
    intro f hf h
    cases e : f.testBit k with
    | true => exact ⟨k, by omega, e, hf⟩
    | false => obtain ⟨m, h1, h2⟩ := ih f (bb_low hf e) h; exact ⟨m, by omega, h2⟩
theorem bb_HD_u {f m n : Nat} (h : bb_HD f m) (h' : bb_HD f n) : m = n := by
  have a := bb_HD_b h h'.1
  have b := bb_HD_b h' h.1
  omega
theorem bb_HD_m (m : Nat) : bb_HD (2 ^ m) m := ⟨Nat.testBit_two_pow_self, bb_pl (Nat.lt_succ_self m)⟩
theorem bb_HD_a {r m : Nat} (h : r < 2 ^ m) : bb_HD (2 ^ m ^^^ r) m := by
  refine ⟨?_, Nat.xor_lt_two_pow (bb_pl (Nat.lt_succ_self m)) (Nat.lt_trans h (bb_pl (Nat.lt_succ_self m)))⟩
  rw [Nat.testBit_xor, Nat.testBit_two_pow_self, Nat.testBit_lt_two_pow h]; rfl
theorem bb_tab1 : ∀ h, h < 16 → ∀ t, t < 16 → ∀ m, m < 16 → t &&& h = 0 → m < h → m ||| t < h ||| t := by decide +kernel
theorem bb_HD_tm {f h t : Nat} (hf : bb_HD f h) (hh : h < 16) (ht : t < 16) (hd : t &&& h = 0) : bb_HD (bb_tm f t) (h ||| t) := by
  have h1 : 2 ^ h ^^^ f < 2 ^ h := bb_HD_x (bb_HD_m h) hf
  have h2 : bb_tm (2 ^ h ^^^ f) t < 2 ^ (h ||| t) := by
    apply bb_ltb
    intro n hn
    obtain ⟨m, hm, hb, rfl⟩ := bb_tm_b hn
    refine bb_tab1 h hh t ht m hm hd ?_
    rcases Nat.lt_or_ge m h with e | e
    · exact e
    · rw [bb_tb h1 e] at hb; cases hb
  have h3 : bb_tm f t = 2 ^ (h ||| t) ^^^ bb_tm (2 ^ h ^^^ f) t := by
    rw [← bb_tm_m h hh t ht, ← bb_tm_x, bb_xl]
  rw [h3]
  exact bb_HD_a h2
def bb_tpr (f : Nat) : Nat → Nat
  | 0 => 0
  | m + 1 => if f.testBit m = true then m else bb_tpr f m
def bb_tp (f : Nat) : Nat := bb_tpr f 16
theorem bb_tpr_HD : ∀ k f m, m < k → bb_HD f m → bb_tpr f k = m := by
  intro k
  induction k with
  | zero => intro f m h; omega
  | succ k ih =>
    intro f m hm h
    show (if f.testBit k = true then k else bb_tpr f k) = m
    by_cases e : f.testBit k = true
    · rw [if_pos e]; have := bb_HD_b h e; omega
    · rw [if_neg e]
      refine ih f m ?_ h
      rcases Nat.lt_or_ge m k with e' | e'
      · exact e'
      · have : m = k := by omega
        rw [this] at h; exact absurd h.1 e
theorem bb_tp_HD {f : Nat} (hf : f < 65536) (h : f ≠ 0) : bb_HD f (bb_tp f) ∧ bb_tp f < 16 := by
  obtain ⟨m, hm, hh⟩ := bb_HD_ex 16 f hf h
  have e : bb_tp f = m := bb_tpr_HD 16 f m hm hh
  rw [e]; exact ⟨hh, hm⟩
end
section
/-! families of polynomials by heads, and taking heads away from the greatest monomial down -/
def bb_rd (b : Nat → Nat) : Nat → Nat → Nat
  | 0, r => r
  | m + 1, r => bb_rd b m (r ^^^ bb_sel (r.testBit m) (b m))
theorem bb_rd_s (b : Nat → Nat) (m r : Nat) : bb_rd b (m + 1) r = bb_rd b m (r ^^^ bb_sel (r.testBit m) (b m)) := rfl
theorem bb_rd_f {b : Nat → Nat} {m r : Nat} (h : r.testBit m = false) : bb_rd b (m + 1) r = bb_rd b m r := by
  rw [bb_rd_s, h, show bb_sel false (b m) = 0 from rfl, Nat.xor_zero]
theorem bb_rd_t {b : Nat → Nat} {m r : Nat} (h : r.testBit m = true) : bb_rd b (m + 1) r = bb_rd b m (r ^^^ b m) := by
  rw [bb_rd_s, h]; rfl
theorem bb_rd_x (b : Nat → Nat) : ∀ k f g, bb_rd b k (f ^^^ g) = bb_rd b k f ^^^ bb_rd b k g := by
  intro k
  induction k with
  | zero => intro f g; rfl
  | succ k ih =>
    intro f g
    rw [bb_rd_s, bb_rd_s, bb_rd_s, ← ih, Nat.testBit_xor, bb_selx, bb_x4]
theorem bb_rd_0 (b : Nat → Nat) (k : Nat) : bb_rd b k 0 = 0 := by
  have := bb_rd_x b k 0 0
  rwa [Nat.xor_self, Nat.xor_self] at this
def bb_EF (b : Nat → Nat) : Prop := ∀ m, m < 16 → b m = 0 ∨ bb_HD (b m) m
theorem bb_EF_lt {b : Nat → Nat} (hb : bb_EF b) {m : Nat} (hm : m < 16) : b m < 2 ^ (m + 1) := by
  rcases hb m hm with h | h
  · rw [h]; exact Nat.two_pow_pos _
  · exact h.2
theorem bb_EF_l16 {b : Nat → Nat} (hb : bb_EF b) {m : Nat} (hm : m < 16) : b m < 65536 :=
  Nat.lt_of_lt_of_le (bb_EF_lt hb hm) (bb_pq (m := 16) (by omega))
theorem bb_EF_hd {b : Nat → Nat} (hb : bb_EF b) {m : Nat} (hm : m < 16) (h : b m ≠ 0) : bb_HD (b m) m := by
  rcases hb m hm with e | e
  · exact absurd e h
  · exact e
theorem bb_rd_hi {b : Nat → Nat} (hb : bb_EF b) {j : Nat} : ∀ k r, k ≤ 16 → k ≤ j → (bb_rd b k r).testBit j = r.testBit j := by
  intro k
  induction k with
  | zero => intro r _ _; rfl
  | succ k ih =>
    intro r hk hj
    rw [bb_rd_s, ih _ (by omega) (by omega), Nat.testBit_xor]
    have : bb_sel (r.testBit k) (b k) < 2 ^ (k + 1) := bb_sellt (Nat.two_pow_pos _) (bb_EF_lt hb (by omega))
    rw [bb_tb this hj, Bool.xor_false]
theorem bb_rd_cl {b : Nat → Nat} (hb : bb_EF b) {m : Nat} (hm : b m ≠ 0) : ∀ k r, k ≤ 16 → m < k → (bb_rd b k r).testBit m = false := by
  intro k
  induction k with
  | zero => intro r _ h; omega
  | succ k ih =>
    intro r hk h
    rcases Nat.lt_or_ge m k with e | e
    · rw [bb_rd_s]; exact ih _ (by omega) e
    · have e : m = k := by omega
      subst e
      have h1 := (bb_EF_hd hb (by omega) hm).1
      rw [bb_rd_s, bb_rd_hi hb m _ (by omega) (by omega), Nat.testBit_xor]
      cases c : r.testBit m with
      | false => rw [show bb_sel false (b m) = 0 from rfl, Nat.zero_testBit]; rfl
      | true => rw [show bb_sel true (b m) = b m from rfl, h1]; rfl
theorem bb_rd_lt {b : Nat → Nat} (hb : bb_EF b) {f : Nat} (hf : f < 65536) : bb_rd b 16 f < 65536 := by
  refine Nat.lt_pow_two_of_testBit (n := 16) _ (fun i hi => ?_)
  rw [bb_rd_hi hb 16 f (by omega) hi]
  exact bb_tb (k := 16) hf hi
theorem bb_rd_sk {b : Nat → Nat} {f j : Nat} (hf : f < 2 ^ j) : ∀ d, bb_rd b (j + d) f = bb_rd b j f := by
  intro d
  induction d with
  | zero => rfl
  | succ d ih =>
    rw [show j + (d + 1) = (j + d) + 1 by omega, bb_rd_f (bb_tb hf (by omega)), ih]
theorem bb_rd_k {b : Nat → Nat} {f j : Nat} (hf : f < 2 ^ j) (hj : j ≤ 16) : bb_rd b 16 f = bb_rd b j f := by
  have := bb_rd_sk (b := b) hf (16 - j)
  rwa [show j + (16 - j) = 16 by omega] at this
/-- what is taken away is a sum of the family -/
theorem bb_span {b : Nat → Nat} {P : Nat → Prop} (h0 : P 0) (hx : ∀ a c, P a → P c → P (a ^^^ c)) : ∀ k, (∀ m, m < k → b m ≠ 0 → P (b m)) → ∀ f, P (f ^^^ bb_rd b k f) := by
  intro k
  induction k with
  | zero => intro _ f; show P (f ^^^ f); rw [Nat.xor_self]; exact h0
  | succ k ih =>
    intro hm f
    have i := ih (fun m h => hm m (by omega)) (f ^^^ bb_sel (f.testBit k) (b k))
    have s : P (bb_sel (f.testBit k) (b k)) := by
      cases f.testBit k with
      | false => exact h0
      | true =>
        by_cases e : b k = 0
        · show P (b k); rw [e]; exact h0
        · exact hm k (by omega) e
    have := hx _ _ i s
    rw [bb_rd_s]
    generalize bb_rd b k (f ^^^ bb_sel (f.testBit k) (b k)) = r at *
    generalize bb_sel (f.testBit k) (b k) = t at *
    rwa [bb_x3] at this
theorem bb_span0 {b : Nat → Nat} {P : Nat → Prop} (h0 : P 0) (hx : ∀ a c, P a → P c → P (a ^^^ c)) (hm : ∀ m, m < 16 → b m ≠ 0 → P (b m)) {f : Nat} (h : bb_rd b 16 f = 0) : P f := by
  have := bb_span h0 hx 16 hm f
  rwa [h, Nat.xor_zero] at this
theorem bb_self {b : Nat → Nat} (hb : bb_EF b) {m : Nat} (hm : m < 16) : bb_rd b 16 (b m) = 0 := by
  rcases hb m hm with h | h
  · rw [h, bb_rd_0]
  · rw [bb_rd_k h.2 (by omega), bb_rd_t h.1, Nat.xor_self, bb_rd_0]
theorem bb_hmem {b : Nat → Nat} (hb : bb_EF b) {f m : Nat} (hm : m < 16) (hf : bb_HD f m) (h : bb_rd b 16 f = 0) : b m ≠ 0 := by
  intro e
  rw [bb_rd_k hf.2 (by omega), bb_rd_t hf.1, e, Nat.xor_zero] at h
  have := bb_rd_hi hb (j := m) m f (by omega) (by omega)
  rw [h, Nat.zero_testBit, hf.1] at this
  cases this
theorem bb_kx {b : Nat → Nat} {f g : Nat} (hf : bb_rd b 16 f = 0) (hg : bb_rd b 16 g = 0) : bb_rd b 16 (f ^^^ g) = 0 := by
  rw [bb_rd_x, hf, hg]; rfl
theorem bb_mono {b b' : Nat → Nat} (hb : bb_EF b') (h : ∀ m, m < 16 → b m ≠ 0 → b' m = b m) {f : Nat} (hf : bb_rd b 16 f = 0) : bb_rd b' 16 f = 0 :=
  bb_span0 (P := fun f => bb_rd b' 16 f = 0) (bb_rd_0 _ _) (fun _ _ => bb_kx) (fun m hm e => by rw [← h m hm e]; exact bb_self hb hm) hf
theorem bb_idem {b : Nat → Nat} (hb : bb_EF b) (f : Nat) : bb_rd b 16 (f ^^^ bb_rd b 16 f) = 0 :=
  bb_span (P := fun f => bb_rd b 16 f = 0) (bb_rd_0 _ _) (fun _ _ => bb_kx) 16 (fun _ hm _ => bb_self hb hm) f
/-- two families with the same sums have the same heads and leave the same rests -/
theorem bb_uniq1 {b c : Nat → Nat} (hb : bb_EF b) (hc : bb_EF c) (h : ∀ f, f < 65536 → bb_rd b 16 f = 0 → bb_rd c 16 f = 0) {m : Nat} (hm : m < 16) (e : b m ≠ 0) : c m ≠ 0 :=
  bb_hmem hc hm (bb_EF_hd hb hm e) (h _ (bb_EF_l16 hb hm) (bb_self hb hm))
theorem bb_uniq {b c : Nat → Nat} (hb : bb_EF b) (hc : bb_EF c) (h : ∀ f, f < 65536 → (bb_rd b 16 f = 0 ↔ bb_rd c 16 f = 0)) :
    (∀ m, m < 16 → (b m ≠ 0 ↔ c m ≠ 0)) ∧ ∀ f, f < 65536 → bb_rd b 16 f = bb_rd c 16 f := by
  have h1 : ∀ m, m < 16 → (b m ≠ 0 ↔ c m ≠ 0) := fun m hm =>
    ⟨bb_uniq1 hb hc (fun f hf => (h f hf).1) hm, bb_uniq1 hc hb (fun f hf => (h f hf).2) hm⟩
  refine ⟨h1, fun f hf => ?_⟩
  have lb := bb_rd_lt hb hf
  have lc := bb_rd_lt hc hf
  have k1 : bb_rd b 16 (f ^^^ bb_rd b 16 f) = 0 := bb_idem hb f
  have k2 : bb_rd b 16 (f ^^^ bb_rd c 16 f) = 0 := (h _ (bb_xlt hf lc)).2 (bb_idem hc f)
  have k3 : bb_rd b 16 (bb_rd b 16 f ^^^ bb_rd c 16 f) = 0 := by
    have := bb_kx k1 k2
    rwa [bb_x4, Nat.xor_self, Nat.zero_xor] at this
  by_cases e : bb_rd b 16 f ^^^ bb_rd c 16 f = 0
  · have := bb_xx (bb_rd b 16 f) (bb_rd c 16 f)
    rw [e, Nat.zero_xor] at this
    exact this.symm
  · exfalso
    obtain ⟨m, hm, hh⟩ := bb_HD_ex 16 _ (bb_xlt lb lc) e
    have hbm := bb_hmem hb hm hh k3
    have := hh.1
    rw [Nat.testBit_xor, bb_rd_cl hb hbm 16 f (by omega) hm, bb_rd_cl hc ((h1 m hm).1 hbm) 16 f (by omega) hm] at this
    cases this
/-! the ideal of the polynomials that vanish on a set of points -/
def bb_In (Z : Nat → Bool) (f : Nat) : Prop := ∀ p, p < 16 → Z p = true → bb_ev f p = false
theorem bb_In_0 (Z : Nat → Bool) : bb_In Z 0 := fun p _ _ => bb_ev_0 p
theorem bb_In_x {Z : Nat → Bool} {f g : Nat} (hf : bb_In Z f) (hg : bb_In Z g) : bb_In Z (f ^^^ g) := by
  intro p hp hz
  rw [bb_ev_x, hf p hp hz, hg p hp hz]; rfl
theorem bb_In_t {Z : Nat → Bool} {f t : Nat} (hl : f < 65536) (ht : t < 16) (hf : bb_In Z f) : bb_In Z (bb_tm f t) := by
  intro p hp hz
  rw [bb_ev_tm hl ht hp, hf p hp hz]; rfl
/-- the points at which all given polynomials vanish -/
def bb_zr (P : Nat) (G : Nat → Nat) (p : Nat) : Nat → Bool
  | 0 => true
  | i + 1 => bb_zr P G p i && (!P.testBit i || !bb_ev (G i) p)
theorem bb_zr_iff {P : Nat} {G : Nat → Nat} {p : Nat} : ∀ k, bb_zr P G p k = true ↔ ∀ i, i < k → P.testBit i = true → bb_ev (G i) p = false := by
  intro k
  induction k with
  | zero => exact ⟨fun _ i hi => absurd hi (Nat.not_lt_zero i), fun _ => rfl⟩
  | succ k ih =>
    show (bb_zr P G p k && (!P.testBit k || !bb_ev (G k) p)) = true ↔ _
    rw [Bool.and_eq_true, ih]
    constructor
    · rintro ⟨h1, h2⟩ i hi hb
      rcases Nat.lt_or_ge i k with h | h
      · exact h1 i h hb
      · have : i = k := by omega
        subst this
        rw [hb] at h2
        cases e : bb_ev (G i) p with
        | false => rfl
        | true => rw [e] at h2; cases h2
    · intro h
      refine ⟨fun i hi => h i (by omega), ?_⟩
      cases e : P.testBit k with
      | false => rfl
      | true => rw [h k (by omega) e]; rfl
def bb_Z (P : Nat) (G : Nat → Nat) (p : Nat) : Bool := bb_zr P G p 6
theorem bb_Z_iff {P : Nat} {G : Nat → Nat} {p : Nat} : bb_Z P G p = true ↔ ∀ i, i < 6 → P.testBit i = true → bb_ev (G i) p = false := bb_zr_iff 6
theorem bb_In_G {P : Nat} {G : Nat → Nat} {i : Nat} (hi : i < 6) (h : P.testBit i = true) : bb_In (bb_Z P G) (G i) :=
  fun _ _ hz => bb_Z_iff.1 hz i hi h
/-- what holds of 0 and of all multiples of the given polynomials and is kept by sums holds of every polynomial that vanishes where they all do -/
theorem bb_null {P : Nat} {G : Nat → Nat} {K : Nat → Prop} (hG : ∀ i, i < 6 → G i < 65536) (h0 : K 0) (hx : ∀ a c, K a → K c → K (a ^^^ c))
    (hK : ∀ i, i < 6 → P.testBit i = true → ∀ m, m < 16 → K (bb_tm (G i) m)) {f : Nat} (hf : f < 65536) (hI : bb_In (bb_Z P G) f) : K f := by
  have hml : ∀ i, i < 6 → P.testBit i = true → ∀ g k, k ≤ 16 → K (bb_mlr (G i) g k) := by
    intro i hi hb g k
    induction k with
    | zero => intro _; exact h0
    | succ k ih =>
      intro hk
      refine hx _ _ (ih (by omega)) ?_
      cases g.testBit k with
      | false => exact h0
      | true => exact hK i hi hb k (by omega)
  have hdl : ∀ p, p < 16 → bb_ev f p = true → K (bb_dl p) := by
    intro p hp he
    have hz : ¬ ∀ i, i < 6 → P.testBit i = true → bb_ev (G i) p = false := by
      intro a
      have := hI p hp (bb_Z_iff.2 a)
      rw [he] at this; cases this
    have hz2 : ∃ i, i < 6 ∧ P.testBit i = true ∧ bb_ev (G i) p = true := by
      refine Classical.byContradiction (fun nn => hz (fun i hi hb => ?_))
      cases e : bb_ev (G i) p with
      | false => rfl
      | true => exact absurd ⟨i, hi, hb, e⟩ nn
    obtain ⟨i, hi, hb, e⟩ := hz2
    have : bb_ml (G i) (bb_dl p) = bb_dl p := by
      refine bb_ev_inj bb_ml_lt (bb_dl_lt p hp) (fun q hq => ?_)
      rw [bb_ev_ml (hG i hi) hq, bb_dl_ev p hp q hq]
      by_cases c : p = q
      · subst c; rw [e]; rfl
      · rw [decide_eq_false c, Bool.and_false]
    rw [← this]
    exact hml i hi hb _ 16 (by omega)
  have hinv : ∀ k, k ≤ 16 → K (bb_inv (bb_ev f) k) := by
    intro k
    induction k with
    | zero => intro _; exact h0
    | succ k ih =>
      intro hk
      refine hx _ _ (ih (by omega)) ?_
      cases e : bb_ev f k with
      | false => exact h0
      | true => exact hdl k (by omega) e
  have := hinv 16 (by omega)
  rwa [bb_inv_ev hf] at this
/-- a family for the ideal of the points of Z -/
def bb_EI (Z : Nat → Bool) (b : Nat → Nat) : Prop := bb_EF b ∧ ∀ f, f < 65536 → (bb_rd b 16 f = 0 ↔ bb_In Z f)
theorem bb_EI_u {Z : Nat → Bool} {b c : Nat → Nat} (hb : bb_EI Z b) (hc : bb_EI Z c) :
    (∀ m, m < 16 → (b m ≠ 0 ↔ c m ≠ 0)) ∧ ∀ f, f < 65536 → bb_rd b 16 f = bb_rd c 16 f :=
  bb_uniq hb.1 hc.1 (fun f hf => (hb.2 f hf).trans (hc.2 f hf).symm)
end
section
/-! the family of a list of polynomials: for a monomial, the multiple of the first of them whose head divides it -/
def bb_fd (hd : Nat → Nat) (m : Nat) : Nat → Option Nat
  | 0 => none
  | n + 1 => (bb_fd hd m n).or (if bb_df (hd n) m = 0 then some n else none)
theorem bb_fd_s (hd : Nat → Nat) (m n : Nat) : bb_fd hd m (n + 1) = (bb_fd hd m n).or (if bb_df (hd n) m = 0 then some n else none) := rfl
theorem bb_fd_t {hd : Nat → Nat} {m n : Nat} (h : bb_fd hd m n = none) (e : bb_df (hd n) m = 0) : bb_fd hd m (n + 1) = some n := by
  rw [bb_fd_s, h, if_pos e]; rfl
theorem bb_fd_f {hd : Nat → Nat} {m n : Nat} (h : bb_fd hd m n = none) (e : bb_df (hd n) m ≠ 0) : bb_fd hd m (n + 1) = none := by
  rw [bb_fd_s, h, if_neg e]; rfl
theorem bb_fd_k {hd : Nat → Nat} {m n i : Nat} (h : bb_fd hd m n = some i) : bb_fd hd m (n + 1) = some i := by
  rw [bb_fd_s, h]; rfl
theorem bb_fd_some {hd : Nat → Nat} {m i : Nat} : ∀ n, bb_fd hd m n = some i → i < n ∧ bb_df (hd i) m = 0 := by
  intro n
  induction n with
  | zero => intro h; cases h
  | succ n ih =>
    intro h
    cases e : bb_fd hd m n with
    | some j =>
      rw [bb_fd_k e] at h
      have := ih (e.trans h)
      exact ⟨by omega, this.2⟩
    | none =>
      by_cases c : bb_df (hd n) m = 0
      · rw [bb_fd_t e c] at h
        cases h
        exact ⟨by omega, c⟩
      · rw [bb_fd_f e c] at h; cases h
theorem bb_fd_mono {hd : Nat → Nat} {m i n : Nat} (h : bb_fd hd m n = some i) : ∀ d, bb_fd hd m (n + d) = some i := by
  intro d
  induction d with
  | zero => exact h
  | succ d ih => exact bb_fd_k ih
theorem bb_fd_le {hd : Nat → Nat} {m i n k : Nat} (h : bb_fd hd m n = some i) (hk : n ≤ k) : bb_fd hd m k = some i := by
  have := bb_fd_mono h (k - n)
  rwa [show n + (k - n) = k by omega] at this
theorem bb_fd_none {hd : Nat → Nat} {m n : Nat} (h : bb_fd hd m n = none) {i : Nat} (hi : i < n) : bb_df (hd i) m ≠ 0 := by
  intro e
  cases c : bb_fd hd m i with
  | none => rw [bb_fd_le (bb_fd_t c e) hi] at h; cases h
  | some j => rw [bb_fd_le c (by omega)] at h; cases h
theorem bb_fd_ex {hd : Nat → Nat} {m n i : Nat} (hi : i < n) (e : bb_df (hd i) m = 0) : ∃ j, bb_fd hd m n = some j := by
  cases c : bb_fd hd m n with
  | none => exact absurd e (bb_fd_none c hi)
  | some j => exact ⟨j, rfl⟩
theorem bb_fd_c {hd hd' : Nat → Nat} {m : Nat} : ∀ n, (∀ i, i < n → hd' i = hd i) → bb_fd hd' m n = bb_fd hd m n := by
  intro n
  induction n with
  | zero => intro _; rfl
  | succ n ih =>
    intro h
    rw [bb_fd_s, bb_fd_s, ih (fun i hi => h i (by omega)), h n (by omega)]
def bb_bx (pl hd : Nat → Nat) (n m : Nat) : Nat := (bb_fd hd m n).elim 0 (fun i => bb_tm (pl i) (bb_df m (hd i)))
theorem bb_bx_n {pl hd : Nat → Nat} {n m : Nat} (h : bb_fd hd m n = none) : bb_bx pl hd n m = 0 := by
  unfold bb_bx; rw [h]; rfl
theorem bb_bx_s {pl hd : Nat → Nat} {n m i : Nat} (h : bb_fd hd m n = some i) : bb_bx pl hd n m = bb_tm (pl i) (bb_df m (hd i)) := by
  unfold bb_bx; rw [h]; rfl
/-- what a list of polynomials of the ideal keeps: no head is divided by one before it -/
def bb_GI (Z : Nat → Bool) (n : Nat) (pl hd : Nat → Nat) : Prop := ∀ i, i < n → bb_HD (pl i) (hd i) ∧ hd i < 16 ∧ bb_fd hd (hd i) i = none ∧ bb_In Z (pl i)
theorem bb_GI_lt {Z : Nat → Bool} {n : Nat} {pl hd : Nat → Nat} (h : bb_GI Z n pl hd) {i : Nat} (hi : i < n) : pl i < 65536 :=
  bb_HD_lt (h i hi).1 (h i hi).2.1
theorem bb_tab2 : ∀ h, h < 16 → ∀ m, m < 16 → bb_df h m = 0 → bb_df m h &&& h = 0 ∧ h ||| bb_df m h = m := by decide +kernel
theorem bb_bx_HD {Z : Nat → Bool} {n : Nat} {pl hd : Nat → Nat} (h : bb_GI Z n pl hd) {m i : Nat} (hm : m < 16) (e : bb_fd hd m n = some i) : bb_HD (bb_bx pl hd n m) m := by
  obtain ⟨hi, hd0⟩ := bb_fd_some n e
  obtain ⟨h1, h2, _, _⟩ := h i hi
  obtain ⟨t1, t2⟩ := bb_tab2 _ h2 m hm hd0
  rw [bb_bx_s e]
  have := bb_HD_tm h1 h2 (bb_dfl m hm _ h2) t1
  rwa [t2] at this
theorem bb_bx_EF {Z : Nat → Bool} {n : Nat} {pl hd : Nat → Nat} (h : bb_GI Z n pl hd) : bb_EF (bb_bx pl hd n) := by
  intro m hm
  cases e : bb_fd hd m n with
  | none => exact Or.inl (bb_bx_n e)
  | some i => exact Or.inr (bb_bx_HD h hm e)
theorem bb_bx_ne {Z : Nat → Bool} {n : Nat} {pl hd : Nat → Nat} (h : bb_GI Z n pl hd) {m : Nat} (hm : m < 16) : bb_bx pl hd n m ≠ 0 ↔ ∃ i, bb_fd hd m n = some i := by
  constructor
  · intro e
    cases c : bb_fd hd m n with
    | none => exact absurd (bb_bx_n c) e
    | some i => exact ⟨i, rfl⟩
  · rintro ⟨i, e⟩
    exact bb_HD_ne (bb_bx_HD h hm e)
theorem bb_df_self : ∀ a, a < 16 → bb_df a a = 0 := by decide +kernel
theorem bb_fd_own {Z : Nat → Bool} {n : Nat} {pl hd : Nat → Nat} (h : bb_GI Z n pl hd) {i : Nat} (hi : i < n) : bb_fd hd (hd i) n = some i :=
  bb_fd_le (bb_fd_t (h i hi).2.2.1 (bb_df_self _ (h i hi).2.1)) hi
theorem bb_bx_own {Z : Nat → Bool} {n : Nat} {pl hd : Nat → Nat} (h : bb_GI Z n pl hd) {i : Nat} (hi : i < n) : bb_bx pl hd n (hd i) = pl i := by
  rw [bb_bx_s (bb_fd_own h hi), bb_df_self _ (h i hi).2.1, bb_tm_1 (bb_GI_lt h hi)]
theorem bb_bx_In {Z : Nat → Bool} {n : Nat} {pl hd : Nat → Nat} (h : bb_GI Z n pl hd) {m : Nat} (hm : m < 16) : bb_In Z (bb_bx pl hd n m) := by
  cases e : bb_fd hd m n with
  | none => rw [bb_bx_n e]; exact bb_In_0 Z
  | some i =>
    obtain ⟨hi, _⟩ := bb_fd_some n e
    rw [bb_bx_s e]
    exact bb_In_t (bb_GI_lt h hi) (bb_dfl m hm _ (h i hi).2.1) (h i hi).2.2.2
/-- the list goes on -/
def bb_Le (n : Nat) (pl hd : Nat → Nat) (n' : Nat) (pl' hd' : Nat → Nat) : Prop := n ≤ n' ∧ ∀ i, i < n → pl' i = pl i ∧ hd' i = hd i
theorem bb_Le_r (n : Nat) (pl hd : Nat → Nat) : bb_Le n pl hd n pl hd := ⟨Nat.le_refl n, fun _ _ => ⟨rfl, rfl⟩⟩
theorem bb_Le_t {n : Nat} {pl hd : Nat → Nat} {n1 : Nat} {pl1 hd1 : Nat → Nat} {n2 : Nat} {pl2 hd2 : Nat → Nat} (h : bb_Le n pl hd n1 pl1 hd1) (h' : bb_Le n1 pl1 hd1 n2 pl2 hd2) : bb_Le n pl hd n2 pl2 hd2 :=
  ⟨Nat.le_trans h.1 h'.1, fun i hi => ⟨(h'.2 i (Nat.lt_of_lt_of_le hi h.1)).1.trans (h.2 i hi).1, (h'.2 i (Nat.lt_of_lt_of_le hi h.1)).2.trans (h.2 i hi).2⟩⟩
theorem bb_Le_bx {n : Nat} {pl hd : Nat → Nat} {n' : Nat} {pl' hd' : Nat → Nat} (h : bb_Le n pl hd n' pl' hd') {m : Nat} (e : bb_bx pl hd n m ≠ 0) : bb_bx pl' hd' n' m = bb_bx pl hd n m := by
  cases c : bb_fd hd m n with
  | none => exact absurd (bb_bx_n c) e
  | some i =>
    obtain ⟨hi, _⟩ := bb_fd_some n c
    have c1 : bb_fd hd' m n = some i := by rw [bb_fd_c n (fun j hj => (h.2 j hj).2), c]
    rw [bb_bx_s c, bb_bx_s (bb_fd_le c1 h.1), (h.2 i hi).1, (h.2 i hi).2]
theorem bb_Le_k {Z : Nat → Bool} {n : Nat} {pl hd : Nat → Nat} {n' : Nat} {pl' hd' : Nat → Nat} (h : bb_Le n pl hd n' pl' hd') (g : bb_GI Z n' pl' hd') {f : Nat} (hf : bb_rd (bb_bx pl hd n) 16 f = 0) : bb_rd (bb_bx pl' hd' n') 16 f = 0 :=
  bb_mono (bb_bx_EF g) (fun _ _ e => bb_Le_bx h e) hf
/-- taking in -/
def bb_TK (Z : Nat → Bool) (n : Nat) (pl hd : Nat → Nat) (f n' : Nat) (pl' hd' : Nat → Nat) : Prop :=
  bb_Le n pl hd n' pl' hd' ∧ bb_GI Z n' pl' hd' ∧ bb_rd (bb_bx pl' hd' n') 16 f = 0
theorem bb_TK0 {Z : Nat → Bool} {n : Nat} {pl hd : Nat → Nat} {f : Nat} (g : bb_GI Z n pl hd) (h : bb_rd (bb_bx pl hd n) 16 f = 0) : bb_TK Z n pl hd f n pl hd :=
  ⟨bb_Le_r _ _ _, g, h⟩
theorem bb_TK1 {Z : Nat → Bool} {n : Nat} {pl hd : Nat → Nat} {f : Nat} (g : bb_GI Z n pl hd) (hf : f < 65536) (hI : bb_In Z f) (h : bb_rd (bb_bx pl hd n) 16 f ≠ 0) :
    bb_TK Z n pl hd f (n + 1) (bb_up pl n (bb_rd (bb_bx pl hd n) 16 f)) (bb_up hd n (bb_tp (bb_rd (bb_bx pl hd n) 16 f))) := by
  have hE := bb_bx_EF g
  have hl := bb_rd_lt hE hf
  have hin : bb_In Z (f ^^^ bb_rd (bb_bx pl hd n) 16 f) := bb_span (bb_In_0 Z) (fun _ _ => bb_In_x) 16 (fun m hm _ => bb_bx_In g hm) f
  have hin2 : bb_In Z (bb_rd (bb_bx pl hd n) 16 f) := by
    have := bb_In_x hI hin
    rwa [bb_xl] at this
  have hk := bb_idem hE f
  obtain ⟨hh, h16⟩ := bb_tp_HD hl h
  have hnone : bb_fd hd (bb_tp (bb_rd (bb_bx pl hd n) 16 f)) n = none := by
    cases c : bb_fd hd (bb_tp (bb_rd (bb_bx pl hd n) 16 f)) n with
    | none => rfl
    | some i =>
      have := bb_rd_cl hE ((bb_bx_ne g h16).2 ⟨i, c⟩) 16 f (by omega) h16
      rw [hh.1] at this; cases this
  generalize hr : bb_rd (bb_bx pl hd n) 16 f = r at *
  generalize bb_tp r = t at *
  have le : bb_Le n pl hd (n + 1) (bb_up pl n r) (bb_up hd n t) :=
    ⟨by omega, fun i hi => ⟨bb_upn (by omega), bb_upn (by omega)⟩⟩
  have gi : bb_GI Z (n + 1) (bb_up pl n r) (bb_up hd n t) := by
    intro i hi
    rcases Nat.lt_or_ge i n with e | e
    · obtain ⟨a, b, c, d⟩ := g i e
      rw [(le.2 i e).1, (le.2 i e).2, bb_fd_c i (fun j hj => (le.2 j (by omega)).2)]
      exact ⟨a, b, c, d⟩
    · have e : i = n := by omega
      subst e
      rw [bb_ups, bb_ups, bb_fd_c i (fun j hj => (le.2 j (by omega)).2)]
      exact ⟨hh, h16, hnone, hin2⟩
  refine ⟨le, gi, ?_⟩
  have k1 := bb_Le_k le gi hk
  have k2 := bb_self (bb_bx_EF gi) (m := bb_up hd n t n) (by rw [bb_ups]; exact h16)
  rw [bb_bx_own gi (by omega), bb_ups] at k2
  have := bb_kx k1 k2
  rwa [bb_xx] at this
/-! at most 16 -/
def bb_ct (p : Nat → Bool) : Nat → Nat
  | 0 => 0
  | m + 1 => bb_ct p m + (p m).toNat
theorem bb_ct_le (p : Nat → Bool) : ∀ k, bb_ct p k ≤ k := by
  intro k
  induction k with
  | zero => exact Nat.le_refl 0
  | succ k ih =>
    show bb_ct p k + (p k).toNat ≤ k + 1
    have := Bool.toNat_le (p k)
    omega
theorem bb_ct_m {p q : Nat → Bool} (h : ∀ m, p m = true → q m = true) : ∀ k, bb_ct p k ≤ bb_ct q k := by
  intro k
  induction k with
  | zero => exact Nat.le_refl 0
  | succ k ih =>
    show bb_ct p k + (p k).toNat ≤ bb_ct q k + (q k).toNat
    have : (p k).toNat ≤ (q k).toNat := by
      cases e : p k with
      | false => exact Nat.zero_le _
      | true => rw [h k e]; exact Nat.le_refl _
    omega
theorem bb_ct_lt {p q : Nat → Bool} (h : ∀ m, p m = true → q m = true) {a : Nat} (hp : p a = false) (hq : q a = true) : ∀ k, a < k → bb_ct p k + 1 ≤ bb_ct q k := by
  intro k
  induction k with
  | zero => intro h; omega
  | succ k ih =>
    intro hk
    show bb_ct p k + (p k).toNat + 1 ≤ bb_ct q k + (q k).toNat
    rcases Nat.lt_or_ge a k with e | e
    · have := ih e
      have : (p k).toNat ≤ (q k).toNat := by
        cases e : p k with
        | false => exact Nat.zero_le _
        | true => rw [h k e]; exact Nat.le_refl _
      omega
    · have e : a = k := by omega
      subst e
      rw [hp, hq]
      have := bb_ct_m h a
      show bb_ct p a + 0 + 1 ≤ bb_ct q a + 1
      omega
def bb_oc (hd : Nat → Nat) : Nat → Nat → Bool
  | 0, _ => false
  | n + 1, m => bb_oc hd n m || decide (hd n = m)
theorem bb_oc_t {hd : Nat → Nat} {m : Nat} : ∀ n, bb_oc hd n m = true → ∃ i, i < n ∧ hd i = m := by
  intro n
  induction n with
  | zero => intro h; cases h
  | succ n ih =>
    intro h
    have h : (bb_oc hd n m || decide (hd n = m)) = true := h
    rcases Bool.or_eq_true_iff.1 h with h | h
    · obtain ⟨i, a, b⟩ := ih h; exact ⟨i, by omega, b⟩
    · exact ⟨n, by omega, of_decide_eq_true h⟩
theorem bb_size {Z : Nat → Bool} {pl hd : Nat → Nat} : ∀ n, bb_GI Z n pl hd → n ≤ bb_ct (bb_oc hd n) 16 := by
  intro n
  induction n with
  | zero => intro _; exact Nat.zero_le _
  | succ n ih =>
    intro g
    have i := ih (fun i hi => g i (by omega))
    obtain ⟨_, h16, hn, _⟩ := g n (by omega)
    have := bb_ct_lt (p := bb_oc hd n) (q := bb_oc hd (n + 1)) (fun m h => by show (bb_oc hd n m || _) = true; rw [h]; rfl) (a := hd n) (by
      cases e : bb_oc hd n (hd n) with
      | false => rfl
      | true =>
        obtain ⟨i, hi, e⟩ := bb_oc_t n e
        exact absurd (by rw [e]; exact bb_df_self _ h16) (bb_fd_none hn hi)) (by show (bb_oc hd n (hd n) || decide (hd n = hd n)) = true; rw [decide_eq_true rfl, Bool.or_true]) 16 h16
    omega
theorem bb_size16 {Z : Nat → Bool} {n : Nat} {pl hd : Nat → Nat} (g : bb_GI Z n pl hd) : n ≤ 16 :=
  Nat.le_trans (bb_size n g) (bb_ct_le _ 16)
end
section
/-! the completed list: its family's sums are closed under multiples. Order: a monomial read in base 3 -/
def bb_T (m : Nat) : Nat := m % 2 + 3 * (m / 2 % 2) + 9 * (m / 4 % 2) + 27 * (m / 8 % 2)
theorem bb_T1 : ∀ a, a < 16 → ∀ c, c < 16 → a < c → bb_T a < bb_T c := by decide +kernel
theorem bb_T1' {a c : Nat} (ha : a < 16) (hc : c < 16) (h : a ≤ c) : bb_T a ≤ bb_T c := by
  rcases Nat.eq_or_lt_of_le h with e | e
  · rw [e]; exact Nat.le_refl _
  · exact Nat.le_of_lt (bb_T1 a ha c hc e)
theorem bb_T2 : ∀ m, m < 16 → ∀ v, v < 4 → m.testBit v = false → bb_T (m ||| 2 ^ v) = bb_T m + 3 ^ v ∧ m ||| 2 ^ v < 16 := by decide +kernel
theorem bb_T3 : ∀ m, m < 16 → ∀ c, c < 16 → bb_df c m = 0 → bb_T c + bb_T (bb_df m c) = bb_T m := by decide +kernel
theorem bb_T4 : ∀ a, a < 16 → ∀ v, v < 4 → bb_T (a ||| 2 ^ v) ≤ bb_T a + 3 ^ v ∧ (a.testBit v = true → a ||| 2 ^ v = a) := by decide +kernel
theorem bb_v16 : ∀ v, v < 4 → 2 ^ v < 16 ∧ 0 < 3 ^ v := by decide +kernel
theorem bb_tab3 : ∀ t, t < 16 → t = (((bb_sel (t.testBit 0) (2 ^ 0) ||| bb_sel (t.testBit 1) (2 ^ 1)) ||| bb_sel (t.testBit 2) (2 ^ 2)) ||| bb_sel (t.testBit 3) (2 ^ 3))
    ∧ bb_T t = (((bb_sel (t.testBit 0) (3 ^ 0) + bb_sel (t.testBit 1) (3 ^ 1)) + bb_sel (t.testBit 2) (3 ^ 2)) + bb_sel (t.testBit 3) (3 ^ 3)) := by decide +kernel
def bb_KM (b : Nat → Nat) (N f : Nat) : Prop := f < 65536 ∧ bb_rd b 16 f = 0 ∧ ∀ m, m < 16 → f.testBit m = true → bb_T m < N
theorem bb_KM_0 {b : Nat → Nat} {N : Nat} : bb_KM b N 0 := ⟨by omega, bb_rd_0 _ _, fun m _ h => by rw [Nat.zero_testBit] at h; cases h⟩
theorem bb_KM_x {b : Nat → Nat} {N f g : Nat} (hf : bb_KM b N f) (hg : bb_KM b N g) : bb_KM b N (f ^^^ g) := by
  refine ⟨bb_xlt hf.1 hg.1, bb_kx hf.2.1 hg.2.1, fun m hm h => ?_⟩
  rw [Nat.testBit_xor] at h
  cases e : f.testBit m with
  | true => exact hf.2.2 m hm e
  | false => rw [e, Bool.false_xor] at h; exact hg.2.2 m hm h
theorem bb_KM_m {b : Nat → Nat} {N N' f : Nat} (h : bb_KM b N f) (hN : N ≤ N') : bb_KM b N' f :=
  ⟨h.1, h.2.1, fun m hm e => Nat.lt_of_lt_of_le (h.2.2 m hm e) hN⟩
theorem bb_KM_b {b : Nat → Nat} (hb : bb_EF b) {N m : Nat} (hm : m < 16) (h : bb_T m < N) : bb_KM b N (b m) := by
  refine ⟨bb_EF_l16 hb hm, bb_self hb hm, fun j hj e => ?_⟩
  rcases hb m hm with z | z
  · rw [z, Nat.zero_testBit] at e; cases e
  · exact Nat.lt_of_le_of_lt (bb_T1' hj hm (bb_HD_b z e)) h
theorem bb_KM_span {b : Nat → Nat} (hb : bb_EF b) {N : Nat} {P : Nat → Prop} (h0 : P 0) (hx : ∀ a c, P a → P c → P (a ^^^ c)) (hm : ∀ m, m < 16 → b m ≠ 0 → bb_T m < N → P (b m)) :
    ∀ k, k ≤ 16 → ∀ f, f < 2 ^ k → bb_KM b N f → P f := by
  intro k
  induction k with
  | zero =>
    intro _ f hf _
    have : f = 0 := by simp at hf; exact hf
    rw [this]; exact h0
  | succ k ih =>
    intro hk f hf h
    cases e : f.testBit k with
    | false => exact ih (by omega) f (bb_low hf e) h
    | true =>
      have hd : bb_HD f k := ⟨e, hf⟩
      have hn : b k ≠ 0 := bb_hmem hb (by omega) hd h.2.1
      have ht : bb_T k < N := h.2.2 k (by omega) e
      have h2 : f ^^^ b k < 2 ^ k := bb_HD_x hd (bb_EF_hd hb (by omega) hn)
      have := hx _ _ (ih (by omega) _ h2 (bb_KM_x h (bb_KM_b hb (by omega) ht))) (hm k (by omega) hn ht)
      rwa [bb_xx] at this
/-- what is shown by induction on M -/
def bb_E (b : Nat → Nat) (M : Nat) : Prop := ∀ m, m < 16 → b m ≠ 0 → ∀ v, v < 4 → bb_T m + 3 ^ v < M → bb_KM b (bb_T m + 3 ^ v + 1) (bb_tm (b m) (2 ^ v))
theorem bb_E1 {b : Nat → Nat} (hb : bb_EF b) {M : Nat} (hE : bb_E b M) {v : Nat} (hv : v < 4) {N f : Nat} (hN : N + 3 ^ v ≤ M) (hf : bb_KM b N f) : bb_KM b (N + 3 ^ v) (bb_tm f (2 ^ v)) := by
  refine bb_KM_span hb (N := N) (P := fun f => bb_KM b (N + 3 ^ v) (bb_tm f (2 ^ v))) ?_ ?_ ?_ 16 (by omega) f hf.1 hf
  · show bb_KM b _ (bb_tm 0 _); rw [bb_tm_0]; exact bb_KM_0
  · intro a c ha hc
    show bb_KM b _ (bb_tm (a ^^^ c) _); rw [bb_tm_x]; exact bb_KM_x ha hc
  · intro m hm hn ht
    exact bb_KM_m (hE m hm hn v hv (by omega)) (by omega)
theorem bb_E2 {b : Nat → Nat} (hb : bb_EF b) {M : Nat} (hE : bb_E b M) {v : Nat} (hv : v < 4) (c : Bool) {N f : Nat} (hN : N + bb_sel c (3 ^ v) ≤ M) (hf : bb_KM b N f) : bb_KM b (N + bb_sel c (3 ^ v)) (bb_tm f (bb_sel c (2 ^ v))) := by
  cases c with
  | false => show bb_KM b (N + 0) (bb_tm f 0); rw [bb_tm_1 hf.1]; exact hf
  | true => exact bb_E1 hb hE hv hN hf
theorem bb_E3 {b : Nat → Nat} (hb : bb_EF b) {M : Nat} (hE : bb_E b M) {t : Nat} (ht : t < 16) {N f : Nat} (hN : N + bb_T t ≤ M) (hf : bb_KM b N f) : bb_KM b (N + bb_T t) (bb_tm f t) := by
  obtain ⟨e1, e2⟩ := bb_tab3 t ht
  have l : ∀ (c : Bool) (v : Nat), v < 4 → bb_sel c (2 ^ v) < 16 := fun c v hv => bb_sellt (by omega) (bb_v16 v hv).1
  have h0 := bb_E2 hb hE (v := 0) (by omega) (t.testBit 0) (by omega) hf
  have h1 := bb_E2 hb hE (v := 1) (by omega) (t.testBit 1) (by omega) h0
  have h2 := bb_E2 hb hE (v := 2) (by omega) (t.testBit 2) (by omega) h1
  have h3 := bb_E2 hb hE (v := 3) (by omega) (t.testBit 3) (by omega) h2
  rw [bb_tm_tm hf.1 (l _ 0 (by omega)) (l _ 1 (by omega)), bb_tm_tm hf.1 (bb_or16 (l _ 0 (by omega)) (l _ 1 (by omega))) (l _ 2 (by omega)),
    bb_tm_tm hf.1 (bb_or16 (bb_or16 (l _ 0 (by omega)) (l _ 1 (by omega))) (l _ 2 (by omega))) (l _ 3 (by omega)), ← e1] at h3
  exact bb_KM_m h3 (by omega)
/-- the difference of two polynomials' multiples -/
def bb_sp (pl hd : Nat → Nat) (i j : Nat) : Nat := bb_tm (pl i) (bb_df (hd i ||| hd j) (hd i)) ^^^ bb_tm (pl j) (bb_df (hd i ||| hd j) (hd j))
/-- the list is complete: all squares and all differences are sums of the family -/
def bb_CP (n : Nat) (pl hd : Nat → Nat) : Prop := ∀ i, i < n →
  (∀ v, v < 4 → (hd i).testBit v = true → bb_rd (bb_bx pl hd n) 16 (bb_tm (pl i) (2 ^ v) ^^^ pl i) = 0) ∧ ∀ j, j < i → bb_rd (bb_bx pl hd n) 16 (bb_sp pl hd i j) = 0
theorem bb_CP_sp {n : Nat} {pl hd : Nat → Nat} (h : bb_CP n pl hd) {i j : Nat} (hi : i < n) (hj : j < n) : bb_rd (bb_bx pl hd n) 16 (bb_sp pl hd i j) = 0 := by
  rcases Nat.lt_trichotomy i j with e | e | e
  · have := (h j hj).2 i e
    unfold bb_sp at *
    rw [Nat.or_comm (hd i), Nat.xor_comm]
    exact this
  · subst e
    unfold bb_sp
    rw [Nat.xor_self, bb_rd_0]
  · exact (h i hi).2 j e
theorem bb_tab4 : ∀ h, h < 16 → ∀ k, k < 16 → bb_df h (h ||| k) = 0 ∧ bb_df k (h ||| k) = 0 := by decide +kernel
theorem bb_tab5a : ∀ h, h < 16 → ∀ k, k < 16 → ∀ m, m < 16 → bb_df h m = 0 → bb_df k m = 0 → bb_df (h ||| k) m = 0 := by decide +kernel
theorem bb_tab5b : ∀ h, h < 16 → ∀ k, k < 16 → ∀ m, m < 16 → bb_df h m = 0 → bb_df k m = 0 → bb_df (h ||| k) h ||| bb_df m (h ||| k) = bb_df m h := by decide +kernel
theorem bb_tab5 {h k m : Nat} (h16 : h < 16) (k16 : k < 16) (m16 : m < 16) (hm : bb_df h m = 0) (km : bb_df k m = 0) : bb_df (h ||| k) m = 0 ∧ bb_df (h ||| k) h ||| bb_df m (h ||| k) = bb_df m h ∧ bb_df (h ||| k) k ||| bb_df m (h ||| k) = bb_df m k := by
  have x := bb_tab5b k k16 h h16 m m16 km hm
  rw [Nat.or_comm k h] at x
  exact ⟨bb_tab5a h h16 k k16 m m16 hm km, bb_tab5b h h16 k k16 m m16 hm km, x⟩
theorem bb_tab6a : ∀ h, h < 16 → ∀ m, m < 16 → ∀ v, v < 4 → bb_df h m = 0 → bb_df h (m ||| 2 ^ v) = 0 := by decide +kernel
theorem bb_tab6b : ∀ h, h < 16 → ∀ m, m < 16 → ∀ v, v < 4 → bb_df h m = 0 → h.testBit v = false → bb_df m h ||| 2 ^ v = bb_df (m ||| 2 ^ v) h := by decide +kernel
theorem bb_tab6c : ∀ h, h < 16 → ∀ m, m < 16 → ∀ v, v < 4 → bb_df h m = 0 → h.testBit v = true → m.testBit v = true := by decide +kernel
theorem bb_tab6 (h : Nat) (h16 : h < 16) (m : Nat) (m16 : m < 16) (v : Nat) (hv : v < 4) (d : bb_df h m = 0) : bb_df h (m ||| 2 ^ v) = 0 ∧ (h.testBit v = false → bb_df m h ||| 2 ^ v = bb_df (m ||| 2 ^ v) h) ∧ (h.testBit v = true → 2 ^ v ||| bb_df m h = bb_df m h ||| 2 ^ v ∧ m.testBit v = true) :=
  ⟨bb_tab6a h h16 m m16 v hv d, bb_tab6b h h16 m m16 v hv d, fun c => ⟨Nat.or_comm _ _, bb_tab6c h h16 m m16 v hv d c⟩⟩
section
variable {Z : Nat → Bool} {n : Nat} {pl hd : Nat → Nat}
theorem bb_step1 (g : bb_GI Z n pl hd) (cp : bb_CP n pl hd) {M : Nat} (hE : bb_E (bb_bx pl hd n) M) {m i v : Nat} (hm : m < 16) (hi : bb_fd hd m n = some i) (hv : v < 4) (hM : bb_T m + 3 ^ v = M) (hb : m.testBit v = false) :
    bb_KM (bb_bx pl hd n) (M + 1) (bb_tm (bb_bx pl hd n m) (2 ^ v)) := by
  have hF := bb_bx_EF g
  obtain ⟨hin, d0⟩ := bb_fd_some n hi
  obtain ⟨hdi, h16, _, _⟩ := g i hin
  obtain ⟨t2, m16⟩ := bb_T2 m hm v hv hb
  obtain ⟨a1, a2, a3⟩ := bb_tab6 (hd i) h16 m hm v hv d0
  have hv16 := (bb_v16 v hv).1
  obtain ⟨j, hj⟩ := bb_fd_ex hin a1
  obtain ⟨hjn, e0⟩ := bb_fd_some n hj
  obtain ⟨hdj, k16, _, _⟩ := g j hjn
  have hib : (hd i).testBit v = false := by
    cases c : (hd i).testBit v with
    | false => rfl
    | true => rw [(a3 c).2] at hb; cases hb
  have c16 : hd i ||| hd j < 16 := bb_or16 h16 k16
  have hpi := bb_GI_lt g hin
  have hpj := bb_GI_lt g hjn
  obtain ⟨b1, b2, b3⟩ := bb_tab5 h16 k16 m16 a1 e0
  -- the difference
  have s1 : bb_HD (bb_tm (pl i) (bb_df (hd i ||| hd j) (hd i))) (hd i ||| hd j) := by
    obtain ⟨x1, x2⟩ := bb_tab2 (hd i) h16 (hd i ||| hd j) c16 (bb_tab4 _ h16 _ k16).1
    have := bb_HD_tm hdi h16 (bb_dfl _ c16 _ h16) x1
    rwa [x2] at this
  have s2 : bb_HD (bb_tm (pl j) (bb_df (hd i ||| hd j) (hd j))) (hd i ||| hd j) := by
    obtain ⟨x1, x2⟩ := bb_tab2 (hd j) k16 (hd i ||| hd j) c16 (bb_tab4 _ h16 _ k16).2
    have := bb_HD_tm hdj k16 (bb_dfl _ c16 _ k16) x1
    rwa [x2] at this
  have s3 : bb_sp pl hd i j < 2 ^ (hd i ||| hd j) := bb_HD_x s1 s2
  have sK : bb_KM (bb_bx pl hd n) (bb_T (hd i ||| hd j)) (bb_sp pl hd i j) := by
    refine ⟨Nat.lt_trans s3 (bb_p16 c16), bb_CP_sp cp hin hjn, fun q hq h => ?_⟩
    refine bb_T1 q hq _ c16 ?_
    rcases Nat.lt_or_ge q (hd i ||| hd j) with e | e
    · exact e
    · rw [bb_tb s3 e] at h; cases h
  have t3 := bb_T3 (m ||| 2 ^ v) m16 (hd i ||| hd j) c16 b1
  have r := bb_E3 hF hE (t := bb_df (m ||| 2 ^ v) (hd i ||| hd j)) (bb_dfl _ m16 _ c16) (N := bb_T (hd i ||| hd j)) (by omega) sK
  have e : bb_tm (bb_sp pl hd i j) (bb_df (m ||| 2 ^ v) (hd i ||| hd j)) = bb_tm (bb_bx pl hd n m) (2 ^ v) ^^^ bb_bx pl hd n (m ||| 2 ^ v) := by
    unfold bb_sp
    rw [bb_tm_x, bb_tm_tm hpi (bb_dfl _ c16 _ h16) (bb_dfl _ m16 _ c16), bb_tm_tm hpj (bb_dfl _ c16 _ k16) (bb_dfl _ m16 _ c16), b2, b3, bb_bx_s hj, bb_bx_s hi, bb_tm_tm hpi (bb_dfl _ hm _ h16) hv16, a2 hib]
  rw [e] at r
  have r2 := bb_KM_x (bb_KM_m r (N' := M + 1) (by omega)) (bb_KM_b hF m16 (N := M + 1) (by omega))
  rwa [bb_xx] at r2
theorem bb_step2 (g : bb_GI Z n pl hd) (cp : bb_CP n pl hd) {M : Nat} (hE : bb_E (bb_bx pl hd n) M) {m i v : Nat} (hm : m < 16) (hi : bb_fd hd m n = some i) (hv : v < 4) (hM : bb_T m + 3 ^ v = M) (hb : (hd i).testBit v = true) :
    bb_KM (bb_bx pl hd n) (M + 1) (bb_tm (bb_bx pl hd n m) (2 ^ v)) := by
  have hF := bb_bx_EF g
  obtain ⟨hin, d0⟩ := bb_fd_some n hi
  obtain ⟨hdi, h16, _, _⟩ := g i hin
  obtain ⟨hv16, hv3⟩ := bb_v16 v hv
  obtain ⟨_, _, a3⟩ := bb_tab6 (hd i) h16 m hm v hv d0
  have hpi := bb_GI_lt g hin
  have wK : bb_KM (bb_bx pl hd n) (bb_T (hd i) + 3 ^ v) (bb_tm (pl i) (2 ^ v) ^^^ pl i) := by
    refine ⟨bb_xlt (bb_tm_lt hv16) hpi, (cp i hin).1 v hv hb, fun q hq h => ?_⟩
    rw [Nat.testBit_xor] at h
    cases c : (bb_tm (pl i) (2 ^ v)).testBit q with
    | false =>
      rw [c, Bool.false_xor] at h
      have := bb_T1' hq h16 (bb_HD_b hdi h)
      omega
    | true =>
      obtain ⟨a, ha, hab, rfl⟩ := bb_tm_b c
      have hle := bb_HD_b hdi hab
      obtain ⟨t4, t5⟩ := bb_T4 a ha v hv
      rcases Nat.eq_or_lt_of_le hle with e | e
      · subst e
        rw [t5 hb]; omega
      · have := bb_T1 a ha _ h16 e
        omega
  have t3 := bb_T3 m hm (hd i) h16 d0
  have r := bb_E3 hF hE (t := bb_df m (hd i)) (bb_dfl _ hm _ h16) (N := bb_T (hd i) + 3 ^ v) (by omega) wK
  have e : bb_tm (bb_tm (pl i) (2 ^ v) ^^^ pl i) (bb_df m (hd i)) = bb_tm (bb_bx pl hd n m) (2 ^ v) ^^^ bb_bx pl hd n m := by
    rw [bb_tm_x, bb_tm_tm hpi hv16 (bb_dfl _ hm _ h16), bb_bx_s hi, bb_tm_tm hpi (bb_dfl _ hm _ h16) hv16, (a3 hb).1]
  rw [e] at r
  have r2 := bb_KM_x (bb_KM_m r (N' := M + 1) (by omega)) (bb_KM_b hF hm (N := M + 1) (by omega))
  rwa [bb_xx] at r2
theorem bb_step3 (g : bb_GI Z n pl hd) {M : Nat} {m i v : Nat} (hm : m < 16) (hi : bb_fd hd m n = some i) (hv : v < 4) (hM : bb_T m + 3 ^ v = M) (hb : m.testBit v = true) (hh : (hd i).testBit v = false) :
    bb_KM (bb_bx pl hd n) (M + 1) (bb_tm (bb_bx pl hd n m) (2 ^ v)) := by
  have hF := bb_bx_EF g
  obtain ⟨hin, d0⟩ := bb_fd_some n hi
  obtain ⟨hdi, h16, _, _⟩ := g i hin
  obtain ⟨hv16, hv3⟩ := bb_v16 v hv
  obtain ⟨_, a2, _⟩ := bb_tab6 (hd i) h16 m hm v hv d0
  have e : bb_tm (bb_bx pl hd n m) (2 ^ v) = bb_bx pl hd n m := by
    rw [bb_bx_s hi, bb_tm_tm (bb_GI_lt g hin) (bb_dfl _ hm _ h16) hv16, a2 hh, (bb_T4 m hm v hv).2 hb]
  rw [e]
  exact bb_KM_b hF hm (by omega)
theorem bb_Eall (g : bb_GI Z n pl hd) (cp : bb_CP n pl hd) : ∀ M, bb_E (bb_bx pl hd n) M := by
  intro M
  induction M with
  | zero => intro m _ _ v _ h; exact absurd h (Nat.not_lt_zero _)
  | succ M ih =>
    intro m hm hn v hv h
    rcases Nat.lt_or_ge (bb_T m + 3 ^ v) M with e | e
    · exact ih m hm hn v hv e
    · have hM : bb_T m + 3 ^ v = M := by omega
      obtain ⟨i, hi⟩ := (bb_bx_ne g hm).1 hn
      rw [hM]
      cases c : m.testBit v with
      | false => exact bb_step1 g cp ih hm hi hv hM c
      | true =>
        cases c' : (hd i).testBit v with
        | true => exact bb_step2 g cp ih hm hi hv hM c'
        | false => exact bb_step3 g hm hi hv hM c c'
/-- the completed list's family is one for the ideal -/
theorem bb_grob {P : Nat} {G : Nat → Nat} (g : bb_GI (bb_Z P G) n pl hd) (cp : bb_CP n pl hd) (hG : ∀ i, i < 6 → G i < 65536)
    (hK : ∀ i, i < 6 → P.testBit i = true → bb_rd (bb_bx pl hd n) 16 (G i) = 0) : bb_EI (bb_Z P G) (bb_bx pl hd n) := by
  have hF := bb_bx_EF g
  refine ⟨hF, fun f hf => ⟨fun h => ?_, fun h => ?_⟩⟩
  · exact bb_span0 (bb_In_0 _) (fun _ _ => bb_In_x) (fun m hm _ => bb_bx_In g hm) h
  · refine bb_null (K := fun f => bb_rd (bb_bx pl hd n) 16 f = 0) hG (bb_rd_0 _ _) (fun _ _ => bb_kx) (fun i hi hb m hm => ?_) hf h
    have hk : bb_KM (bb_bx pl hd n) 41 (G i) := by
      refine ⟨hG i hi, hK i hi hb, fun q hq _ => ?_⟩
      have := bb_T1' hq (c := 15) (by omega) (by omega)
      have e : bb_T 15 = 40 := by decide
      omega
    exact (bb_E3 hF (bb_Eall g cp (41 + bb_T m)) hm (Nat.le_refl _) hk).2.1
end
end
section
/-! what is answered out of a family for the ideal -/
theorem bb_up_cl {Z : Nat → Bool} {b : Nat → Nat} (h : bb_EI Z b) {n m : Nat} (hn : n < 16) (hm : m < 16) (hs : bb_df n m = 0) (hb : b n ≠ 0) : b m ≠ 0 := by
  have hd := bb_EF_hd h.1 hn hb
  obtain ⟨t1, t2⟩ := bb_tab2 n hn m hm hs
  have h1 := bb_HD_tm hd hn (bb_dfl m hm n hn) t1
  rw [t2] at h1
  have hl := bb_EF_l16 h.1 hn
  have hI : bb_In Z (b n) := (h.2 _ hl).1 (bb_self h.1 hn)
  exact bb_hmem h.1 hm h1 ((h.2 _ (bb_tm_lt (bb_dfl m hm n hn))).2 (bb_In_t hl (bb_dfl m hm n hn) hI))
/-- the polynomial with this head is one of the basis -/
def bb_lr (b : Nat → Nat) (m : Nat) : Nat → Bool
  | 0 => decide (b m ≠ 0)
  | n + 1 => bb_lr b m n && !(decide (n ≠ m) && (decide (bb_df n m = 0) && decide (b n ≠ 0)))
theorem bb_lr_iff {b : Nat → Nat} {m : Nat} : ∀ k, bb_lr b m k = true ↔ (b m ≠ 0 ∧ ∀ n, n < k → n ≠ m → bb_df n m = 0 → b n = 0) := by
  intro k
  induction k with
  | zero =>
    show decide (b m ≠ 0) = true ↔ _
    rw [decide_eq_true_iff]
    exact ⟨fun h => ⟨h, fun n hn => absurd hn (Nat.not_lt_zero n)⟩, fun h => h.1⟩
  | succ k ih =>
    show (bb_lr b m k && !(decide (k ≠ m) && (decide (bb_df k m = 0) && decide (b k ≠ 0)))) = true ↔ _
    rw [Bool.and_eq_true, ih]
    constructor
    · rintro ⟨⟨h1, h2⟩, h3⟩
      refine ⟨h1, fun n hn c1 c2 => ?_⟩
      rcases Nat.lt_or_ge n k with h | h
      · exact h2 n h c1 c2
      · have : n = k := by omega
        subst this
        refine Classical.byContradiction (fun c3 => ?_)
        rw [decide_eq_true c1, decide_eq_true c2, decide_eq_true c3] at h3
        cases h3
    · rintro ⟨h1, h2⟩
      refine ⟨⟨h1, fun n hn => h2 n (by omega)⟩, ?_⟩
      cases e : (decide (k ≠ m) && (decide (bb_df k m = 0) && decide (b k ≠ 0))) with
      | false => rfl
      | true =>
        rw [Bool.and_eq_true, Bool.and_eq_true, decide_eq_true_iff, decide_eq_true_iff, decide_eq_true_iff] at e
        exact absurd (h2 k (by omega) e.1 e.2.1) e.2.2
def bb_ls (b : Nat → Nat) (m : Nat) : Bool := bb_lr b m 16
theorem bb_ls_i {b : Nat → Nat} {m : Nat} : bb_ls b m = true ↔ (b m ≠ 0 ∧ ∀ n, n < 16 → n ≠ m → bb_df n m = 0 → b n = 0) := bb_lr_iff 16
/-- the basis' polynomial with this head -/
def bb_bs (b : Nat → Nat) (m : Nat) : Nat := 2 ^ m ^^^ bb_rd b 16 (2 ^ m)
theorem bb_bs_lt {b : Nat → Nat} (hb : bb_EF b) {m : Nat} (hm : m < 16) : bb_bs b m < 65536 := bb_xlt (bb_p16 hm) (bb_rd_lt hb (bb_p16 hm))
theorem bb_bs_k {b : Nat → Nat} (hb : bb_EF b) (m : Nat) : bb_rd b 16 (bb_bs b m) = 0 := bb_idem hb _
theorem bb_bs_HD {b : Nat → Nat} (hb : bb_EF b) {m : Nat} (hm : m < 16) (hn : b m ≠ 0) : bb_HD (bb_bs b m) m := by
  refine bb_HD_a ?_
  refine Nat.lt_pow_two_of_testBit _ (fun i hi => ?_)
  rcases Nat.lt_or_ge i 16 with e | e
  · rcases Nat.eq_or_lt_of_le hi with c | c
    · subst c; exact bb_rd_cl hb hn 16 _ (by omega) hm
    · have h1 : bb_rd b 16 (2 ^ m) = bb_rd b (m + 1) (2 ^ m) := bb_rd_k (bb_pl (Nat.lt_succ_self m)) (by omega)
      rw [h1, bb_rd_hi hb (m + 1) _ (by omega) c]
      exact bb_tb (bb_pl (Nat.lt_succ_self m)) c
  · rw [bb_rd_hi hb 16 _ (by omega) e]
    exact bb_tb (bb_p16 hm : 2 ^ m < 2 ^ 16) e
theorem bb_ls_u {b c : Nat → Nat} (h : ∀ m, m < 16 → (b m ≠ 0 ↔ c m ≠ 0)) {m : Nat} (hm : m < 16) : bb_ls b m = bb_ls c m := by
  have hz : ∀ n, n < 16 → (b n = 0 ↔ c n = 0) := fun n hn => by
    have := h n hn
    constructor
    · intro e; exact Classical.byContradiction (fun k => this.2 k e)
    · intro e; exact Classical.byContradiction (fun k => this.1 k e)
  refine Bool.eq_iff_iff.2 (bb_ls_i.trans (Iff.trans ?_ bb_ls_i.symm))
  exact ⟨fun ⟨x, y⟩ => ⟨(h m hm).1 x, fun n hn a d => (hz n hn).1 (y n hn a d)⟩, fun ⟨x, y⟩ => ⟨(h m hm).2 x, fun n hn a d => (hz n hn).2 (y n hn a d)⟩⟩
theorem bb_ct_c {p q : Nat → Bool} : ∀ k, (∀ m, m < k → p m = q m) → bb_ct p k = bb_ct q k := by
  intro k
  induction k with
  | zero => intro _; rfl
  | succ k ih =>
    intro h
    show bb_ct p k + (p k).toNat = bb_ct q k + (q k).toNat
    rw [ih (fun m hm => h m (by omega)), h k (by omega)]
theorem bb_ct_mono (p : Nat → Bool) {a k : Nat} (h : a ≤ k) : bb_ct p a ≤ bb_ct p k := by
  obtain ⟨d, rfl⟩ : ∃ d, k = a + d := ⟨k - a, by omega⟩
  clear h
  induction d with
  | zero => exact Nat.le_refl _
  | succ d ih =>
    show bb_ct p a ≤ bb_ct p (a + d) + (p (a + d)).toNat
    omega
theorem bb_ct_s {p : Nat → Bool} {m : Nat} (h : p m = true) : bb_ct p (m + 1) = bb_ct p m + 1 := by
  show bb_ct p m + (p m).toNat = _
  rw [h]; rfl
theorem bb_ct_z {p : Nat → Bool} {m : Nat} (h : p m = false) : bb_ct p (m + 1) = bb_ct p m := by
  show bb_ct p m + (p m).toNat = _
  rw [h]; rfl
theorem bb_ct_ex {p : Nat → Bool} {j : Nat} : ∀ k, j < bb_ct p k → ∃ m, m < k ∧ p m = true ∧ bb_ct p m = j := by
  intro k
  induction k with
  | zero => intro h; exact absurd h (Nat.not_lt_zero j)
  | succ k ih =>
    intro h
    rcases Nat.lt_or_ge j (bb_ct p k) with e | e
    · obtain ⟨m, a, c⟩ := ih e; exact ⟨m, by omega, c⟩
    · cases c : p k with
      | false => rw [bb_ct_z c] at h; omega
      | true => rw [bb_ct_s c] at h; exact ⟨k, by omega, c, by omega⟩
theorem bb_ct_inj {p : Nat → Bool} {m m' : Nat} (h : p m = true) (h' : p m' = true) (e : bb_ct p m = bb_ct p m') : m = m' := by
  rcases Nat.lt_trichotomy m m' with c | c | c
  · have := bb_ct_mono p (show m + 1 ≤ m' from c); rw [bb_ct_s h] at this; omega
  · exact c
  · have := bb_ct_mono p (show m' + 1 ≤ m from c); rw [bb_ct_s h'] at this; omega
/-- the set of the monomials with a head that divides them -/
def bb_bd (b : Nat → Nat) : Nat → Nat
  | 0 => 0
  | m + 1 => bb_bd b m ||| bb_sel (decide (b m ≠ 0)) (2 ^ m)
theorem bb_bd_u {b c : Nat → Nat} : ∀ k, (∀ m, m < k → (b m ≠ 0 ↔ c m ≠ 0)) → bb_bd b k = bb_bd c k := by
  intro k
  induction k with
  | zero => intro _; rfl
  | succ k ih =>
    intro h
    show bb_bd b k ||| bb_sel (decide (b k ≠ 0)) _ = bb_bd c k ||| bb_sel (decide (c k ≠ 0)) _
    rw [ih (fun m hm => h m (by omega)), decide_eq_decide.2 (h k (by omega))]
/-- the component asks for the divisors by one variable less alone -/
def bb_q7 (n m v : Nat) : Bool := decide (bb_df m (2 ^ v) ≠ m) && decide (bb_df n (bb_df m (2 ^ v)) = 0)
theorem bb_tab7a : ∀ n, n < 16 → ∀ m, m < 16 → n ≠ m → bb_df n m = 0 → (bb_q7 n m 0 || bb_q7 n m 1 || bb_q7 n m 2 || bb_q7 n m 3) = true := by decide +kernel
theorem bb_tab7 (n : Nat) (hn : n < 16) (m : Nat) (hm : m < 16) (c : n ≠ m) (d : bb_df n m = 0) : ∃ v, v < 4 ∧ bb_df m (2 ^ v) ≠ m ∧ bb_df n (bb_df m (2 ^ v)) = 0 := by
  have key : ∀ v, v < 4 → bb_q7 n m v = true → ∃ v, v < 4 ∧ bb_df m (2 ^ v) ≠ m ∧ bb_df n (bb_df m (2 ^ v)) = 0 := by
    intro v hv h
    unfold bb_q7 at h
    rw [Bool.and_eq_true, decide_eq_true_iff, decide_eq_true_iff] at h
    exact ⟨v, hv, h⟩
  have h := bb_tab7a n hn m hm c d
  rw [Bool.or_eq_true, Bool.or_eq_true, Bool.or_eq_true] at h
  rcases h with ((h | h) | h) | h
  · exact key 0 (by omega) h
  · exact key 1 (by omega) h
  · exact key 2 (by omega) h
  · exact key 3 (by omega) h
theorem bb_tab8 : ∀ m, m < 16 → ∀ v, v < 4 → bb_df m (2 ^ v) < 16 ∧ bb_df (bb_df m (2 ^ v)) m = 0 := by decide +kernel
theorem bb_ls_iff {Z : Nat → Bool} {b : Nat → Nat} (h : bb_EI Z b) {m : Nat} (hm : m < 16) :
    bb_ls b m = true ↔ b m ≠ 0 ∧ ∀ v, v < 4 → bb_df m (2 ^ v) ≠ m → b (bb_df m (2 ^ v)) = 0 := by
  rw [bb_ls_i]
  constructor
  · rintro ⟨x, y⟩
    exact ⟨x, fun v hv e => y _ (bb_tab8 m hm v hv).1 e (bb_tab8 m hm v hv).2⟩
  · rintro ⟨x, y⟩
    refine ⟨x, fun n hn e d => Classical.byContradiction (fun k => ?_)⟩
    obtain ⟨v, hv, c1, c2⟩ := bb_tab7 n hn m hm e d
    exact bb_up_cl h hn (bb_tab8 m hm v hv).1 c2 k (y v hv c1)
/-- a point at which the basis vanishes is one at which the ideal does -/
theorem bb_van1 {Z : Nat → Bool} {b : Nat → Nat} (h : bb_EI Z b) {p : Nat} (hp : p < 16) (hv : ∀ m, m < 16 → bb_ls b m = true → bb_ev (bb_bs b m) p = false) :
    ∀ k, k ≤ 16 → ∀ f, f < 2 ^ k → bb_rd b 16 f = 0 → bb_ev f p = false := by
  intro k
  induction k with
  | zero =>
    intro _ f hf _
    have : f = 0 := by simp at hf; exact hf
    rw [this]; exact bb_ev_0 p
  | succ k ih =>
    intro hk f hf h0
    cases e : f.testBit k with
    | false => exact ih (by omega) f (bb_low hf e) h0
    | true =>
      have hd : bb_HD f k := ⟨e, hf⟩
      have hn : b k ≠ 0 := bb_hmem h.1 (by omega) hd h0
      have key : ∀ g, bb_HD g k → bb_rd b 16 g = 0 → bb_ev g p = false → bb_ev f p = false := by
        intro g hg g0 ge
        have := ih (by omega) _ (bb_HD_x hd hg) (bb_kx h0 g0)
        rw [bb_ev_x, ge, Bool.xor_false] at this
        exact this
      cases c : bb_ls b k with
      | true => exact key _ (bb_bs_HD h.1 (by omega) hn) (bb_bs_k h.1 k) (hv k (by omega) c)
      | false =>
        have hex : ∃ n, n < 16 ∧ n ≠ k ∧ bb_df n k = 0 ∧ b n ≠ 0 := by
          refine Classical.byContradiction (fun nn => ?_)
          have c' : bb_ls b k = true := bb_ls_i.2 ⟨hn, fun n h1 h2 h3 => Classical.byContradiction (fun h4 => nn ⟨n, h1, h2, h3, h4⟩)⟩
          rw [c] at c'; cases c'
        obtain ⟨n, h1, h2, h3, h4⟩ := hex
        have k16 : k < 16 := by omega
        obtain ⟨t1, t2⟩ := bb_tab2 n h1 k k16 h3
        have hdn := bb_EF_hd h.1 h1 h4
        have hg := bb_HD_tm hdn h1 (bb_dfl k k16 n h1) t1
        rw [t2] at hg
        have hl := bb_EF_l16 h.1 h1
        have hI : bb_In Z (b n) := (h.2 _ hl).1 (bb_self h.1 h1)
        have g0 := (h.2 _ (bb_tm_lt (bb_dfl k k16 n h1))).2 (bb_In_t hl (bb_dfl k k16 n h1) hI)
        refine key _ hg g0 ?_
        have hnk : n < k := by
          have : n ≤ k := by
            rw [← t2]; exact Nat.left_le_or
          omega
        have : bb_ev (b n) p = false := ih (by omega) (b n) (Nat.lt_of_lt_of_le (bb_EF_lt h.1 h1) (Nat.pow_le_pow_right (by decide) hnk)) (bb_self h.1 h1)
        rw [bb_ev_tm hl (bb_dfl k k16 n h1) hp, this]; rfl
theorem bb_van {P : Nat} {G : Nat → Nat} {b : Nat → Nat} (hG : ∀ i, i < 6 → G i < 65536) (h : bb_EI (bb_Z P G) b) {p : Nat} (hp : p < 16) :
    (∀ m, m < 16 → bb_ls b m = true → bb_ev (bb_bs b m) p = false) ↔ bb_Z P G p = true := by
  constructor
  · intro hv
    refine bb_Z_iff.2 (fun i hi hb => ?_)
    exact bb_van1 h hp hv 16 (by omega) (G i) (hG i hi) ((h.2 _ (hG i hi)).2 (bb_In_G hi hb))
  · intro hz m hm _
    exact (h.2 _ (bb_bs_lt h.1 hm)).1 (bb_bs_k h.1 m) p hp hz
/-- the set of the zeros -/
def bb_zs (Z : Nat → Bool) : Nat → Nat
  | 0 => 0
  | p + 1 => bb_zs Z p ||| bb_sel (Z p) (2 ^ p)
theorem bb_zs_lt (Z : Nat → Bool) : ∀ k, k ≤ 16 → bb_zs Z k < 65536 := by
  intro k
  induction k with
  | zero => intro _; show 0 < 65536; omega
  | succ k ih => intro hk; exact Nat.or_lt_two_pow (n := 16) (ih (by omega)) (bb_sellt (by omega) (bb_p16 (by omega)))
theorem bb_zs_b (Z : Nat → Bool) (j : Nat) : ∀ k, (bb_zs Z k).testBit j = (decide (j < k) && Z j) := by
  intro k
  induction k with
  | zero => show (0 : Nat).testBit j = _; rw [Nat.zero_testBit, decide_eq_false (Nat.not_lt_zero j)]; rfl
  | succ k ih =>
    show (bb_zs Z k ||| bb_sel (Z k) (2 ^ k)).testBit j = _
    rw [Nat.testBit_or, ih]
    by_cases e : j = k
    · subst e
      rw [decide_eq_false (Nat.lt_irrefl j), decide_eq_true (Nat.lt_succ_self j)]
      cases Z j with
      | false => show (false || (0 : Nat).testBit j) = _; rw [Nat.zero_testBit]; rfl
      | true => show (false || (2 ^ j).testBit j) = _; rw [Nat.testBit_two_pow_self]; rfl
    · have h2 : (bb_sel (Z k) (2 ^ k)).testBit j = false := by
        cases Z k with
        | false => exact Nat.zero_testBit j
        | true => exact Nat.testBit_two_pow_of_ne (fun h => e h.symm)
      rw [h2, Bool.or_false]
      by_cases c : j < k
      · rw [decide_eq_true c, decide_eq_true (show j < k + 1 by omega)]
      · rw [decide_eq_false c, decide_eq_false (show ¬ j < k + 1 by omega)]
theorem bb_zs_c {Z Z' : Nat → Bool} : ∀ k, (∀ p, p < k → Z p = Z' p) → bb_zs Z k = bb_zs Z' k := by
  intro k
  induction k with
  | zero => intro _; rfl
  | succ k ih =>
    intro h
    show bb_zs Z k ||| bb_sel (Z k) _ = bb_zs Z' k ||| bb_sel (Z' k) _
    rw [ih (fun p hp => h p (by omega)), h k (by omega)]
theorem bb_bd_zs (b : Nat → Nat) : ∀ k, bb_bd b k = bb_zs (fun m => decide (b m ≠ 0)) k := by
  intro k
  induction k with
  | zero => rfl
  | succ k ih => show bb_bd b k ||| _ = bb_zs _ k ||| _; rw [ih]
end
section
/-! a polynomial in some variables alone lies in the ideal if and only if the zeros leave a point of these variables out -/
def bb_dvr (a q : Nat) : Nat → Nat
  | 0 => 0
  | m + 1 => bb_dvr a q m ^^^ bb_sel (decide (bb_df q m = 0) && decide (bb_df m a = 0)) (2 ^ m)
def bb_dv (a q : Nat) : Nat := bb_dvr a q 16
theorem bb_dv_1 : ∀ a, a < 16 → ∀ q, q < 16 → bb_df q a = 0 → (bb_dv a q).testBit q = true := by decide +kernel
theorem bb_dv_2 : ∀ a, a < 16 → ∀ q, q < 16 → bb_dv a q < 65536 := by decide +kernel
theorem bb_dv_3 : ∀ a, a < 16 → ∀ q, q < 16 → ∀ m, m < 16 → (bb_dv a q).testBit m = true → bb_df m a = 0 := by decide +kernel
theorem bb_dv_4 : ∀ a, a < 16 → ∀ q, q < 16 → bb_df q a = 0 → ∀ p, p < 16 → bb_ev (bb_dv a q) p = decide (p &&& a = q) := by decide +kernel
theorem bb_dv_t (a : Nat) (ha : a < 16) (q : Nat) (hq : q < 16) (d : bb_df q a = 0) : bb_dv a q < 65536 ∧ (bb_dv a q).testBit q = true ∧ (∀ m, m < 16 → (bb_dv a q).testBit m = true → bb_df m a = 0) ∧ ∀ p, p < 16 → bb_ev (bb_dv a q) p = decide (p &&& a = q) :=
  ⟨bb_dv_2 a ha q hq, bb_dv_1 a ha q hq d, bb_dv_3 a ha q hq, bb_dv_4 a ha q hq d⟩
def bb_SP (a k f : Nat) : Prop := ∀ m, f.testBit m = true → m < k ∧ bb_df m a = 0
theorem bb_SP_0 (a k : Nat) : bb_SP a k 0 := fun m h => by rw [Nat.zero_testBit] at h; cases h
theorem bb_SP_x {a k f g : Nat} (hf : bb_SP a k f) (hg : bb_SP a k g) : bb_SP a k (f ^^^ g) := by
  intro m h
  rw [Nat.testBit_xor] at h
  cases e : f.testBit m with
  | true => exact hf m e
  | false => rw [e, Bool.false_xor] at h; exact hg m h
theorem bb_SP_m {a k m : Nat} (hm : m < k) (h : bb_df m a = 0) : bb_SP a k (2 ^ m) := by
  intro n hn
  rw [Nat.testBit_two_pow] at hn
  have := of_decide_eq_true hn
  subst this
  exact ⟨hm, h⟩
theorem bb_SP_le {a k k' f : Nat} (h : bb_SP a k f) (hk : k ≤ k') : bb_SP a k' f := fun m e => ⟨Nat.lt_of_lt_of_le (h m e).1 hk, (h m e).2⟩
theorem bb_SP_lt {a k f : Nat} (h : bb_SP a k f) (hk : k ≤ 16) : f < 65536 := bb_ltb (k := 16) (fun n hn => by have := (h n hn).1; omega)
theorem bb_tab9 : ∀ m, m < 16 → ∀ a, a < 16 → ∀ p, p < 16 → bb_df m a = 0 → decide (bb_df m (p &&& a) = 0) = decide (bb_df m p = 0) := by decide +kernel
theorem bb_ev_SPr {a f p : Nat} (ha : a < 16) (hp : p < 16) (h : bb_SP a 16 f) : ∀ k, k ≤ 16 → bb_evr f (p &&& a) k = bb_evr f p k := by
  intro k
  induction k with
  | zero => intro _; rfl
  | succ k ih =>
    intro hk
    show (bb_evr f (p &&& a) k ^^ (f.testBit k && decide (bb_df k (p &&& a) = 0))) = (bb_evr f p k ^^ (f.testBit k && decide (bb_df k p = 0)))
    rw [ih (by omega)]
    cases e : f.testBit k with
    | false => rfl
    | true => rw [bb_tab9 k (by omega) a ha p hp (h k e).2]
theorem bb_rel_iff {Z : Nat → Bool} {a : Nat} (ha : a < 16) :
    (∃ q, q < 16 ∧ bb_df q a = 0 ∧ ∀ p, p < 16 → Z p = true → p &&& a ≠ q) ↔ ∃ f, bb_SP a 16 f ∧ f ≠ 0 ∧ bb_In Z f := by
  constructor
  · rintro ⟨q, hq, hs, hz⟩
    obtain ⟨h1, h2, h3, h4⟩ := bb_dv_t a ha q hq hs
    refine ⟨bb_dv a q, fun m hm => ?_, ?_, ?_⟩
    · rcases Nat.lt_or_ge m 16 with e | e
      · exact ⟨e, h3 m e hm⟩
      · rw [bb_tb (k := 16) h1 e] at hm; cases hm
    · intro e
      rw [e, Nat.zero_testBit] at h2; cases h2
    · intro p hp hzp
      rw [h4 p hp]
      exact decide_eq_false (hz p hp hzp)
  · rintro ⟨f, hs, hn, hI⟩
    have hf := bb_SP_lt hs (by omega)
    have hex : ∃ p, p < 16 ∧ bb_ev f p = true := by
      refine Classical.byContradiction (fun nn => hn (bb_ev_inj hf (by omega) (fun p hp => ?_)))
      rw [bb_ev_0]
      cases e : bb_ev f p with
      | false => rfl
      | true => exact absurd ⟨p, hp, e⟩ nn
    obtain ⟨p0, hp0, e0⟩ := hex
    refine ⟨p0 &&& a, bb_and16 ha, ?_, fun p hp hz e => ?_⟩
    · exact (by decide +kernel : ∀ a, a < 16 → ∀ p, p < 16 → bb_df (p &&& a) a = 0) a ha p0 hp0
    · have h1 : bb_ev f (p &&& a) = bb_ev f p := bb_ev_SPr ha hp hs 16 (by omega)
      have h2 : bb_ev f (p0 &&& a) = bb_ev f p0 := bb_ev_SPr ha hp0 hs 16 (by omega)
      rw [e, h2, e0, hI p hp hz] at h1
      cases h1
/-! the reference's own way: rests of the monomials are independent so far -/
def bb_OI (b : Nat → Nat) (a k : Nat) (o : Nat → Nat) : Prop :=
  bb_EF o ∧ (∀ f, bb_SP a k f → bb_rd o 16 (bb_rd b 16 f) = 0) ∧ (∀ f, bb_SP a k f → bb_rd b 16 f = 0 → f = 0) ∧ ∀ m, m < 16 → o m ≠ 0 → ∃ f, bb_SP a k f ∧ bb_rd b 16 f = o m
theorem bb_OI_0 {b o : Nat → Nat} {a : Nat} (h : ∀ m, m < 16 → o m = 0) : bb_OI b a 0 o := by
  have z : ∀ f, bb_SP a 0 f → f = 0 := fun f hf => Nat.eq_of_testBit_eq (fun i => by
    rw [Nat.zero_testBit]
    cases e : f.testBit i with
    | false => rfl
    | true => exact absurd (hf i e).1 (Nat.not_lt_zero i))
  exact ⟨fun m hm => Or.inl (h m hm), fun f hf => by rw [z f hf, bb_rd_0, bb_rd_0], fun f hf _ => z f hf, fun m hm e => absurd (h m hm) e⟩
/-- one more bit at most -/
theorem bb_SP_s {a k f : Nat} (h : bb_SP a (k + 1) f) : (f.testBit k = false → bb_SP a k f) ∧ (f.testBit k = true → bb_SP a k (f ^^^ 2 ^ k) ∧ bb_df k a = 0) := by
  constructor
  · intro e m hm
    refine ⟨?_, (h m hm).2⟩
    have := (h m hm).1
    rcases Nat.lt_or_ge m k with c | c
    · exact c
    · have : m = k := by omega
      rw [this, e] at hm; cases hm
  · intro e
    refine ⟨fun m hm => ?_, (h k e).2⟩
    rw [Nat.testBit_xor, Nat.testBit_two_pow] at hm
    by_cases c : k = m
    · subst c; rw [e, decide_eq_true rfl] at hm; cases hm
    · rw [decide_eq_false c, Bool.xor_false] at hm
      have := (h m hm).1
      exact ⟨by omega, (h m hm).2⟩
theorem bb_OI_skip {b o : Nat → Nat} {a k : Nat} (h : bb_OI b a k o) (hk : bb_df k a ≠ 0) : bb_OI b a (k + 1) o := by
  have z : ∀ f, bb_SP a (k + 1) f → bb_SP a k f := by
    intro f hf
    cases e : f.testBit k with
    | false => exact (bb_SP_s hf).1 e
    | true => exact absurd ((bb_SP_s hf).2 e).2 hk
  refine ⟨h.1, fun f hf => h.2.1 f (z f hf), fun f hf => h.2.2.1 f (z f hf), fun m hm e => ?_⟩
  obtain ⟨f, h1, h2⟩ := h.2.2.2 m hm e
  exact ⟨f, bb_SP_le h1 (by omega), h2⟩
theorem bb_OI_span {b o : Nat → Nat} {a k : Nat} (h : bb_OI b a k o) {r : Nat} (hr : bb_rd o 16 r = 0) : ∃ f, bb_SP a k f ∧ bb_rd b 16 f = r := by
  refine bb_span0 (P := fun r => ∃ f, bb_SP a k f ∧ bb_rd b 16 f = r) ⟨0, bb_SP_0 a k, bb_rd_0 _ _⟩ ?_ h.2.2.2 hr
  rintro x y ⟨f, f1, f2⟩ ⟨g, g1, g2⟩
  exact ⟨f ^^^ g, bb_SP_x f1 g1, by rw [bb_rd_x, f2, g2]⟩
/-- the rest of this monomial is a sum of those before it: a polynomial of the ideal -/
theorem bb_OI_dep {b o : Nat → Nat} {a k : Nat} (hk : k < 16) (ha : bb_df k a = 0) (h : bb_OI b a k o) (hr : bb_rd o 16 (bb_rd b 16 (2 ^ k)) = 0) : ∃ f, bb_SP a 16 f ∧ f ≠ 0 ∧ bb_rd b 16 f = 0 := by
  obtain ⟨f, h1, h2⟩ := bb_OI_span h hr
  refine ⟨f ^^^ 2 ^ k, bb_SP_x (bb_SP_le h1 (by omega)) (bb_SP_m hk ha), ?_, ?_⟩
  · intro e
    have : (f ^^^ 2 ^ k).testBit k = true := by
      rw [Nat.testBit_xor, Nat.testBit_two_pow_self]
      cases c : f.testBit k with
      | false => rfl
      | true => have := (h1 k c).1; omega
    rw [e, Nat.zero_testBit] at this; cases this
  · rw [bb_rd_x, h2, Nat.xor_self]
/-- it is none: it is kept -/
theorem bb_OI_ind {b o : Nat → Nat} {a k : Nat} (ha : bb_df k a = 0) (h : bb_OI b a k o) {j r : Nat} (hj : j < 16) (hr : bb_HD r j) (ho : o j = 0) (hk : bb_rd o 16 (bb_rd b 16 (2 ^ k) ^^^ r) = 0) : bb_OI b a (k + 1) (bb_up o j r) := by
  have mo : ∀ m, m < 16 → o m ≠ 0 → bb_up o j r m = o m := fun m _ e => bb_upn (fun c => e (by rw [c]; exact ho))
  have hE : bb_EF (bb_up o j r) := by
    intro m hm
    by_cases e : m = j
    · subst e; rw [bb_ups]; exact Or.inr hr
    · rw [bb_upn e]; exact h.1 m hm
  have hr0 : bb_rd (bb_up o j r) 16 r = 0 := by
    have := bb_self hE hj
    rwa [bb_ups] at this
  have hr1 : bb_rd (bb_up o j r) 16 (bb_rd b 16 (2 ^ k)) = 0 := by
    have := bb_kx (bb_mono hE mo hk) hr0
    rwa [bb_xx] at this
  refine ⟨hE, fun f hf => ?_, fun f hf hz => ?_, fun m hm e => ?_⟩
  · cases e : f.testBit k with
    | false => exact bb_mono hE mo (h.2.1 f ((bb_SP_s hf).1 e))
    | true =>
      have h1 := bb_mono hE mo (h.2.1 _ ((bb_SP_s hf).2 e).1)
      have := bb_kx h1 hr1
      rwa [← bb_rd_x, bb_xx] at this
  · cases e : f.testBit k with
    | false => exact h.2.2.1 f ((bb_SP_s hf).1 e) hz
    | true =>
      exfalso
      have h1 := h.2.1 _ ((bb_SP_s hf).2 e).1
      rw [bb_rd_x, hz, Nat.zero_xor] at h1
      have := bb_kx h1 hk
      rw [bb_xl] at this
      exact bb_hmem h.1 hj hr this ho
  · by_cases c : m = j
    · subst c
      rw [bb_ups]
      obtain ⟨f, h1, h2⟩ := bb_OI_span h hk
      refine ⟨f ^^^ 2 ^ k, bb_SP_x (bb_SP_le h1 (by omega)) (bb_SP_m (by omega) ha), ?_⟩
      rw [bb_rd_x, h2, Nat.xor_comm, bb_xl]
    · rw [bb_upn c] at e ⊢
      obtain ⟨f, h1, h2⟩ := h.2.2.2 m hm e
      exact ⟨f, bb_SP_le h1 (by omega), h2⟩
end
section
/-! the component's walks: polynomials -/
def bb_np (x : Int32) : Prop := x < 0 ∨ (¬ x < 0 ∧ 65535 < x)
theorem bb_pc (x : Int32) : bb_np x ∨ ∃ f, f < 65536 ∧ x = nI f := by
  by_cases h : x < 0
  · exact Or.inl (Or.inl h)
  · obtain ⟨j, hj, rfl⟩ := nI_of h
    rcases Nat.lt_or_ge j 65536 with e | e
    · exact Or.inr ⟨j, e, rfl⟩
    · exact Or.inl (Or.inr ⟨h, nI_lt (a := 65535) (by omega) hj⟩)
theorem bb_ple {f : Nat} (h : f < 65536) : ¬ (65535 : Int32) < nI f := nI_nlt (a := 65535) (by omega) (by omega)
def bb_ni (x : Int32) : Prop := x < 0 ∨ (¬ x < 0 ∧ 6 ≤ x)
theorem bb_ic (x : Int32) : bb_ni x ∨ ∃ i, i < 6 ∧ x = nI i := by
  by_cases h : x < 0
  · exact Or.inl (Or.inl h)
  · obtain ⟨j, hj, rfl⟩ := nI_of h
    rcases Nat.lt_or_ge j 6 with e | e
    · exact Or.inr ⟨j, e, rfl⟩
    · exact Or.inl (Or.inr ⟨h, nI_le (a := 6) e hj⟩)
theorem bb_xpoly0 {post : Int32 → Prop} {x : Int32} (h : bb_np x) (hp : post 0) : wpX_isPolynomial post x := by
  unfold wpX_isPolynomial
  rcases h with h | ⟨h, h'⟩
  · exact br_t h hp
  · exact br_f h (br_t h' hp)
theorem bb_xpoly1 {post : Int32 → Prop} {f : Nat} (h : f < 65536) (hp : post 1) : wpX_isPolynomial post (nI f) := by
  unfold wpX_isPolynomial
  exact br_f (nI_pos (by omega)) (br_f (bb_ple h) hp)
theorem bb_xtimes_4 {post : Int32 → Prop} {f t : Nat} (hf : f < 65536) (ht : t < 16) (hp : post (nI (bb_tm f t))) : ∀ d i, i + d = 16 → wX_times_4 post (nI f) (nI t) (d + 1) (nI (bb_tmr f t i)) (nI i) := by
  intro d
  induction d with
  | zero =>
    intro i hi
    have : i = 16 := by omega
    subst this
    exact pk_le 16 16 (fun _ => hp) (fun h => absurd h (by omega))
  | succ d ih =>
    intro i hi
    refine pk_le 16 i (fun h => absurd h (by omega)) (fun _ => ?_)
    refine bb_b0 f i hf (by omega) (fun hb => nm_r (nI_1 i) ?_) (fun hb => nm_r (e' := nI (bb_tmr f t (i + 1))) ?_ (nm_r (nI_1 i) (ih (i + 1) (by omega))))
    · have e : bb_tmr f t (i + 1) = bb_tmr f t i := by
        show bb_tmr f t i ^^^ bb_sel (f.testBit i) _ = _
        rw [hb]; exact Nat.xor_zero _
      rw [← e]
      exact ih (i + 1) (by omega)
    · have h16 : i ||| t < 16 := bb_or16 (by omega) ht
      rw [bb_or, bb_sh _ (by omega), nx_xor]
      show _ = nI (bb_tmr f t i ^^^ bb_sel (f.testBit i) _)
      rw [hb]; rfl
theorem bb_xtimes {post : Int32 → Prop} {x y : Int32} (f t : Nat) (hf : f < 65536) (ht : t < 16) (hp : post (nI (bb_tm f t))) (hx : x = nI f := by rfl) (hy : y = nI t := by rfl) : wpX_times post x y := by
  subst hx hy
  exact Exists.intro 17 (bb_xtimes_4 hf ht hp 16 0 rfl)
theorem bb_bxor (a b : Bool) : nI a.toNat ^^^ nI b.toNat = nI (a ^^ b).toNat := by
  cases a <;> cases b <;> decide
theorem bb_xval_4 {post : Int32 → Prop} {f p : Nat} (hf : f < 65536) (hp : p < 16) (h : post (nI (bb_ev f p).toNat)) : ∀ d i, i + d = 16 → wX_valueAt_4 post (nI f) (nI p) (d + 1) (nI (bb_evr f p i).toNat) (nI i) := by
  intro d
  induction d with
  | zero =>
    intro i hi
    have : i = 16 := by omega
    subst this
    exact pk_le 16 16 (fun _ => h) (fun h => absurd h (by omega))
  | succ d ih =>
    intro i hi
    refine pk_le 16 i (fun h => absurd h (by omega)) (fun _ => ?_)
    refine bb_sub i p (by omega) hp (fun e => nm_r (e' := nI (bb_evr f p (i + 1)).toNat) ?_ (nm_r (nI_1 i) (ih (i + 1) (by omega)))) (fun e => nm_r (nI_1 i) ?_)
    · rw [bb_bit (by omega) (by omega), bb_bxor]
      show _ = nI (bb_evr f p i ^^ (f.testBit i && decide (bb_df i p = 0))).toNat
      rw [decide_eq_true e, Bool.and_true]
    · have e2 : bb_evr f p (i + 1) = bb_evr f p i := by
        show (bb_evr f p i ^^ (f.testBit i && decide (bb_df i p = 0))) = _
        rw [decide_eq_false e, Bool.and_false, Bool.xor_false]
      rw [← e2]
      exact ih (i + 1) (by omega)
theorem bb_xval {post : Int32 → Prop} {x y : Int32} (f p : Nat) (hf : f < 65536) (hp : p < 16) (h : post (nI (bb_ev f p).toNat)) (hx : x = nI f := by rfl) (hy : y = nI p := by rfl) : wpX_valueAt post x y := by
  subst hx hy
  exact Exists.intro 17 (bb_xval_4 hf hp h 16 0 rfl)
def bb_hI (f : Nat) : Nat → Int32
  | 0 => -1
  | m + 1 => cond (f.testBit m) (nI m) (bb_hI f m)
theorem bb_hI_HD {f m : Nat} (h : bb_HD f m) : ∀ k, m < k → bb_hI f k = nI m := by
  intro k
  induction k with
  | zero => intro h; omega
  | succ k ih =>
    intro hk
    show cond (f.testBit k) (nI k) (bb_hI f k) = nI m
    cases e : f.testBit k with
    | true =>
      have := bb_HD_b h e
      have : k = m := by omega
      rw [this]; rfl
    | false =>
      refine ih ?_
      rcases Nat.lt_or_ge m k with c | c
      · exact c
      · have : m = k := by omega
        subst this; rw [h.1] at e; cases e
theorem bb_xhead_4 {post : Int32 → Prop} {f : Nat} (hf : f < 65536) (h : post (bb_hI f 16)) : ∀ d i, i + d = 16 → wX_headOf_4 post (nI f) (d + 1) (bb_hI f i) (nI i) := by
  intro d
  induction d with
  | zero =>
    intro i hi
    have : i = 16 := by omega
    subst this
    exact pk_le 16 16 (fun _ => h) (fun h => absurd h (by omega))
  | succ d ih =>
    intro i hi
    refine pk_le 16 i (fun h => absurd h (by omega)) (fun _ => ?_)
    have ih' := ih (i + 1) (by omega)
    have e : bb_hI f (i + 1) = cond (f.testBit i) (nI i) (bb_hI f i) := rfl
    refine bb_b0 f i hf (by omega) (fun hb => nm_r (nI_1 i) ?_) (fun hb => nm_r (nI_1 i) ?_)
    · rw [e, hb] at ih'; exact ih'
    · rw [e, hb] at ih'; exact ih'
theorem bb_xhead {post : Int32 → Prop} {x : Int32} (f : Nat) (hf : f < 65536) (h0 : f ≠ 0) (h : post (nI (bb_tp f))) (hx : x = nI f := by rfl) : wpX_headOf post x := by
  subst hx
  obtain ⟨a, b⟩ := bb_tp_HD hf h0
  refine Exists.intro 17 (bb_xhead_4 hf ?_ 16 0 rfl)
  rw [bb_hI_HD a 16 b]; exact h
section
variable {xp xk xs xc xb xz : Int32} {ag ap ah ab : Nat → Int32}
theorem bb_xhas0 {post : Int32 → Prop} {x : Int32} (h : bb_ni x) (hp : post 0) : wpX_has post (xp, xk, xs, xc, xb, xz, ag, ap, ah, ab) x := by
  unfold wpX_has
  rcases h with h | ⟨h, h'⟩
  · exact br_t h hp
  · exact br_f h (br_t h' hp)
theorem bb_xhas1 {post : Int32 → Prop} {P i : Nat} (hP : P < 64) (hi : i < 6) (hp : post (nI (P.testBit i).toNat)) : wpX_has post (nI P, xk, xs, xc, xb, xz, ag, ap, ah, ab) (nI i) := by
  unfold wpX_has
  refine br_f (nI_pos (by omega)) (br_f (nI_ge (b := 6) hi (by omega)) ?_)
  refine bb_b0 P i (by omega) (by omega) (fun e => ?_) (fun e => ?_)
  · rw [e] at hp; exact hp
  · rw [e] at hp; exact hp
theorem bb_xprod_21 {post : Int32 → Prop} {f g : Nat} (hf : f < 65536) (hg : g < 65536) (hp : post (nI (bb_ml f g))) : ∀ d i, i + d = 16 → wX_product_21 post (nI f) (nI g) xp xk xs xc xb xz ag ap ah ab (d + 1) (nI (bb_mlr f g i)) (nI i) := by
  intro d
  induction d with
  | zero =>
    intro i hi
    have : i = 16 := by omega
    subst this
    exact pk_le 16 16 (fun _ => hp) (fun h => absurd h (by omega))
  | succ d ih =>
    intro i hi
    refine pk_le 16 i (fun h => absurd h (by omega)) (fun _ => ?_)
    refine bb_b0 g i hg (by omega) (fun hb => nm_r (nI_1 i) ?_) (fun hb => ?_)
    · have e : bb_mlr f g (i + 1) = bb_mlr f g i := by
        show bb_mlr f g i ^^^ bb_sel (g.testBit i) _ = _
        rw [hb]; exact Nat.xor_zero _
      rw [← e]
      exact ih (i + 1) (by omega)
    · refine bb_xtimes f i hf (by omega) (nm_r (e' := nI (bb_mlr f g (i + 1))) ?_ (nm_r (nI_1 i) (ih (i + 1) (by omega))))
      rw [nx_xor]
      show _ = nI (bb_mlr f g i ^^^ bb_sel (g.testBit i) _)
      rw [hb]; rfl
theorem bb_xdiv_2 {post : Int32 → Prop} {hd : Nat → Nat} {m n : Nat} (hm : m < 16) (hn : n ≤ 16) (hh : ∀ i, i < n → hd i < 16) (h0 : bb_fd hd m n = none → post (-1)) (h1 : ∀ i, i < n → bb_fd hd m n = some i → post (nI i)) :
    ∀ d i, i + d = n → bb_fd hd m i = none → wX_divisor_2 post (nI m) xp xk (nI n) xc xb xz ag ap (bb_A hd) ab (d + 1) (nI i) := by
  intro d
  induction d with
  | zero =>
    intro i hi hN
    have : i = n := by omega
    subst this
    exact pk_le i i (fun _ => h0 hN) (fun h => absurd h (by omega))
  | succ d ih =>
    intro i hi hN
    refine pk_le n i (fun h => absurd h (by omega)) (fun _ => And.intro (vp_in_nI (by omega) (by omega)) ?_)
    refine bb_sub (hd i) m (hh i (by omega)) hm (fun e => ?_) (fun e => nm_r (nI_1 i) (ih (i + 1) (by omega) (bb_fd_f hN e))) (bb_at (by omega))
    exact h1 i (by omega) (bb_fd_le (bb_fd_t hN e) (by omega))
theorem bb_xdiv {post : Int32 → Prop} {hd : Nat → Nat} {x : Int32} (m n : Nat) (hm : m < 16) (hn : n ≤ 16) (hh : ∀ i, i < n → hd i < 16) (h0 : bb_fd hd m n = none → post (-1)) (h1 : ∀ i, i < n → bb_fd hd m n = some i → post (nI i)) (hx : x = nI m := by rfl) :
    wpX_divisor post (xp, xk, nI n, xc, xb, xz, ag, ap, bb_A hd, ab) x := by
  subst hx
  exact Exists.intro (n + 1) (bb_xdiv_2 hm hn hh h0 h1 n 0 (by omega) rfl)
theorem bb_xred_5 {Z : Nat → Bool} {n : Nat} {pl hd : Nat → Nat} (g : bb_GI Z n pl hd) {post : Int32 → Prop} :
    ∀ k r, k ≤ 16 → r < 65536 → post (nI (bb_rd (bb_bx pl hd n) k r)) → wX_reduce_5 post xp xk (nI n) xc xb xz ag (bb_A pl) (bb_A hd) ab (k + 1) (nI r) (nI k + (-1)) := by
  have n16 := bb_size16 g
  intro k
  induction k with
  | zero => intro r _ _ hp; exact br_t (by decide) hp
  | succ k ih =>
    intro r hk hr hp
    rw [pk_m1]
    refine br_f (nI_pos (by omega)) ?_
    refine bb_b0 r k hr (by omega) (fun hb => ?_) (fun hb => ?_)
    · rw [bb_rd_f hb] at hp
      exact br_t (by decide) (nm_e (ih r (by omega) hr hp))
    · rw [bb_rd_t hb] at hp
      refine bb_xdiv k n (by omega) n16 (fun i hi => (g i hi).2.1) (fun e => ?_) (fun i hi e => ?_)
      · rw [bb_bx_n e, Nat.xor_zero] at hp
        exact br_t (by decide) (nm_e (ih r (by omega) hr hp))
      · rw [bb_bx_s e] at hp
        have h16 := (g i hi).2.1
        have hdl := bb_dfl k (by omega) _ h16
        refine br_f (nI_pos (by omega)) (And.intro (vp_in_nI (by omega) (by omega)) (And.intro (vp_in_nI (by omega) (by omega)) ?_))
        refine bb_xtimes (pl i) (bb_df k (hd i)) (bb_GI_lt g hi) hdl ?_ (bb_at (by omega)) ?_
        · exact nm_r (nx_xor _ _) (nm_e (ih _ (by omega) (bb_xlt hr (bb_tm_lt hdl)) hp))
        · rw [bb_at (by omega)]; exact bb_dfI k (by omega) _ h16
theorem bb_xred {Z : Nat → Bool} {n : Nat} {pl hd : Nat → Nat} (g : bb_GI Z n pl hd) {post : Int32 → Prop} {x : Int32} (f : Nat) (hf : f < 65536) (hp : post (nI (bb_rd (bb_bx pl hd n) 16 f))) (hx : x = nI f := by rfl) :
    wpX_reduce post (xp, xk, nI n, xc, xb, xz, ag, bb_A pl, bb_A hd, ab) x := by
  subst hx
  exact Exists.intro 17 (bb_xred_5 g 16 f (by omega) hf hp)
theorem bb_byte : ∀ t, t < 16 → (nI t).toInt8.toInt32 = nI t := by decide +kernel
theorem bb_xtake {Z : Nat → Bool} {n : Nat} {pl hd : Nat → Nat} (g : bb_GI Z n pl hd) {post : Int32 → SX → Prop} {x : Int32} (f : Nat) (hf : f < 65536) (hI : bb_In Z f)
    (hp : ∀ r n' pl' hd', bb_TK Z n pl hd f n' pl' hd' → post r (xp, xk, nI n', xc, xb, xz, ag, bb_A pl', bb_A hd', ab)) (hx : x = nI f := by rfl) :
    wpX_takeIn post (xp, xk, nI n, xc, xb, xz, ag, bb_A pl, bb_A hd, ab) x := by
  have n16 := bb_size16 g
  have hl := bb_rd_lt (bb_bx_EF g) hf
  unfold wpX_takeIn
  refine bb_xred g f hf ?_ hx
  refine pk_eq (bb_rd (bb_bx pl hd n) 16 f) 0 (fun e => hp _ _ _ _ (bb_TK0 g e)) (fun e => ?_)
  have tk := bb_TK1 g hf hI e
  obtain ⟨_, h16⟩ := bb_tp_HD hl e
  refine pk_lt n 32 (fun _ => And.intro (vp_in_nI (by omega) (by omega)) (nm_r (bb_upA (by omega)) ?_)) (fun h => absurd h (by omega))
  refine bb_xhead _ hl e (And.intro (vp_in_nI (by omega) (by omega)) (nm_r (e' := bb_A (bb_up hd n (bb_tp (bb_rd (bb_bx pl hd n) 16 f)))) ?_ (nm_r (nI_1 n) (hp _ _ _ _ tk))))
  rw [pk_vb, bb_byte _ h16]
  exact bb_upA (by omega)
end
end
section
/-! the component's walks: completing -/
def bb_Sq (n : Nat) (pl hd : Nat → Nat) (i v : Nat) : Prop := ∀ w, w < v → (hd i).testBit w = true → bb_rd (bb_bx pl hd n) 16 (bb_tm (pl i) (2 ^ w) ^^^ pl i) = 0
def bb_Df (n : Nat) (pl hd : Nat → Nat) (i j : Nat) : Prop := ∀ k, k < j → bb_rd (bb_bx pl hd n) 16 (bb_sp pl hd i k) = 0
theorem bb_Sq_le {Z : Nat → Bool} {n : Nat} {pl hd : Nat → Nat} {n' : Nat} {pl' hd' : Nat → Nat} (l : bb_Le n pl hd n' pl' hd') (g : bb_GI Z n' pl' hd') {i v : Nat} (hi : i < n) (h : bb_Sq n pl hd i v) : bb_Sq n' pl' hd' i v := by
  intro w hw hb
  rw [(l.2 i hi).2] at hb
  rw [(l.2 i hi).1]
  exact bb_Le_k l g (h w hw hb)
theorem bb_Le_sp {n : Nat} {pl hd : Nat → Nat} {n' : Nat} {pl' hd' : Nat → Nat} (l : bb_Le n pl hd n' pl' hd') {i j : Nat} (hi : i < n) (hj : j < n) : bb_sp pl' hd' i j = bb_sp pl hd i j := by
  unfold bb_sp
  rw [(l.2 i hi).1, (l.2 i hi).2, (l.2 j hj).1, (l.2 j hj).2]
theorem bb_Df_le {Z : Nat → Bool} {n : Nat} {pl hd : Nat → Nat} {n' : Nat} {pl' hd' : Nat → Nat} (l : bb_Le n pl hd n' pl' hd') (g : bb_GI Z n' pl' hd') {i j : Nat} (hi : i < n) (hj : j ≤ n) (h : bb_Df n pl hd i j) : bb_Df n' pl' hd' i j := by
  intro k hk
  rw [bb_Le_sp l hi (by omega)]
  exact bb_Le_k l g (h k hk)
section
variable {xp xk xs xc xb xz : Int32} {ag ap ah ab : Nat → Int32} {Z : Nat → Bool}
theorem bb_xsq_2 {post : SX → Prop} {i n0 : Nat} {pl0 hd0 : Nat → Nat} (hi : i < n0)
    (hp : ∀ n' pl' hd', bb_Le n0 pl0 hd0 n' pl' hd' → bb_GI Z n' pl' hd' → bb_Sq n' pl' hd' i 4 → post (xp, xk, nI n', xc, xb, xz, ag, bb_A pl', bb_A hd', ab)) :
    ∀ d v n pl hd, v + d = 4 → bb_Le n0 pl0 hd0 n pl hd → bb_GI Z n pl hd → bb_Sq n pl hd i v → wX_takeSquares_2 post (nI i) (d + 1) (nI v) xp xk (nI n) xc xb xz ag (bb_A pl) (bb_A hd) ab := by
  intro d
  induction d with
  | zero =>
    intro v n pl hd hv l g s
    have : v = 4 := by omega
    subst this
    exact pk_le 4 4 (fun _ => hp n pl hd l g s) (fun h => absurd h (by omega))
  | succ d ih =>
    intro v n pl hd hv l g s
    have n16 := bb_size16 g
    have hin : i < n := Nat.lt_of_lt_of_le hi l.1
    obtain ⟨_, h16, _, hI⟩ := g i hin
    have hl := bb_GI_lt g hin
    have v16 := (bb_v16 v (by omega)).1
    have vin : vp_in (nI i) 32 := vp_in_nI (by omega) (by omega)
    refine pk_le 4 v (fun h => absurd h (by omega)) (fun _ => And.intro vin ?_)
    refine bb_b0 (hd i) v (by omega) (by omega) (fun hb => nm_r (nI_1 v) (ih (v + 1) n pl hd (by omega) l g ?_)) (fun hb => And.intro vin ?_) (bb_at (by omega))
    · intro w hw hb'
      rcases Nat.lt_or_ge w v with e | e
      · exact s w e hb'
      · have : w = v := by omega
        subst this; rw [hb] at hb'; cases hb'
    · refine bb_xtimes (pl i) (2 ^ v) hl v16 (And.intro vin ?_) (bb_at (by omega)) (bb_sh v (by omega))
      refine bb_xtake g (bb_tm (pl i) (2 ^ v) ^^^ pl i) (bb_xlt (bb_tm_lt v16) hl) (bb_In_x (bb_In_t hl v16 hI) hI) (fun r n' pl' hd' tk => nm_r (nI_1 v) (ih (v + 1) n' pl' hd' (by omega) (bb_Le_t l tk.1) tk.2.1 ?_)) ?_
      · intro w hw hb'
        rcases Nat.lt_or_ge w v with e | e
        · exact bb_Sq_le tk.1 tk.2.1 hin s w e hb'
        · have : w = v := by omega
          subst this
          rw [(tk.1.2 i hin).1]
          exact tk.2.2
      · rw [bb_at (by omega), nx_xor]
theorem bb_xsq {post : SX → Prop} {i n : Nat} {pl hd : Nat → Nat} (hi : i < n) (g : bb_GI Z n pl hd)
    (hp : ∀ n' pl' hd', bb_Le n pl hd n' pl' hd' → bb_GI Z n' pl' hd' → bb_Sq n' pl' hd' i 4 → post (xp, xk, nI n', xc, xb, xz, ag, bb_A pl', bb_A hd', ab)) :
    wpX_takeSquares post (xp, xk, nI n, xc, xb, xz, ag, bb_A pl, bb_A hd, ab) (nI i) :=
  Exists.intro 5 (bb_xsq_2 hi hp 4 0 n pl hd rfl (bb_Le_r _ _ _) g (fun w hw => absurd hw (Nat.not_lt_zero w)))
theorem bb_xdf {post : SX → Prop} {i j n : Nat} {pl hd : Nat → Nat} (hi : i < n) (hj : j < n) (g : bb_GI Z n pl hd)
    (hp : ∀ n' pl' hd', bb_TK Z n pl hd (bb_sp pl hd i j) n' pl' hd' → post (xp, xk, nI n', xc, xb, xz, ag, bb_A pl', bb_A hd', ab)) :
    wpX_takeDifference post (xp, xk, nI n, xc, xb, xz, ag, bb_A pl, bb_A hd, ab) (nI i) (nI j) := by
  have n16 := bb_size16 g
  obtain ⟨_, hi16, _, hiI⟩ := g i hi
  obtain ⟨_, hj16, _, hjI⟩ := g j hj
  have hil := bb_GI_lt g hi
  have hjl := bb_GI_lt g hj
  have c16 : hd i ||| hd j < 16 := bb_or16 hi16 hj16
  have vi : vp_in (nI i) 32 := vp_in_nI (by omega) (by omega)
  have vj : vp_in (nI j) 32 := vp_in_nI (by omega) (by omega)
  have ei : bb_A hd (nI i).toNatClampNeg = nI (hd i) := bb_at (by omega)
  have ej : bb_A hd (nI j).toNatClampNeg = nI (hd j) := bb_at (by omega)
  have d1 := bb_dfl _ c16 _ hi16
  have d2 := bb_dfl _ c16 _ hj16
  unfold wpX_takeDifference
  refine And.intro vi (And.intro vj (nm_r (e' := nI (hd i ||| hd j)) (by rw [ei, ej, bb_or]) (And.intro vi (And.intro vi ?_))))
  refine bb_xtimes (pl i) (bb_df (hd i ||| hd j) (hd i)) hil d1 (And.intro vj (And.intro vj ?_)) (bb_at (by omega)) (by rw [ei]; exact bb_dfI _ c16 _ hi16)
  refine bb_xtimes (pl j) (bb_df (hd i ||| hd j) (hd j)) hjl d2 ?_ (bb_at (by omega)) (by rw [ej]; exact bb_dfI _ c16 _ hj16)
  exact bb_xtake g (bb_sp pl hd i j) (bb_xlt (bb_tm_lt d1) (bb_tm_lt d2)) (bb_In_x (bb_In_t hil d1 hiI) (bb_In_t hjl d2 hjI)) (fun r n' pl' hd' tk => hp n' pl' hd' tk) (nx_xor _ _)
theorem bb_xc55 {post : SX → Prop} {J : Int32 → Int32 → Int32 → Int32 → Int32 → Int32 → Int32 → (Nat → Int32) → (Nat → Int32) → (Nat → Int32) → (Nat → Int32) → Prop} {i n0 : Nat} {pl0 hd0 : Nat → Nat} (hi : i < n0)
    (hp : ∀ n' pl' hd', bb_Le n0 pl0 hd0 n' pl' hd' → bb_GI Z n' pl' hd' → bb_Df n' pl' hd' i i → J (nI (i + 1)) xp xk (nI n') xc xb xz ag (bb_A pl') (bb_A hd') ab) :
    ∀ d j n pl hd, j + d = i → bb_Le n0 pl0 hd0 n pl hd → bb_GI Z n pl hd → bb_Df n pl hd i j → wX_complete_55 post J (nI i) (d + 1) (nI j) xp xk (nI n) xc xb xz ag (bb_A pl) (bb_A hd) ab := by
  intro d
  induction d with
  | zero =>
    intro j n pl hd hv l g s
    have n16 := bb_size16 g
    have hin : i < n := Nat.lt_of_lt_of_le hi l.1
    have : j = i := by omega
    subst this
    exact pk_le j j (fun _ => nm_r (nI_1 j) (hp n pl hd l g s)) (fun h => absurd h (by omega))
  | succ d ih =>
    intro j n pl hd hv l g s
    have n16 := bb_size16 g
    have hin : i < n := Nat.lt_of_lt_of_le hi l.1
    refine pk_le i j (fun h => absurd h (by omega)) (fun _ => ?_)
    refine bb_xdf hin (by omega) g (fun n' pl' hd' tk => nm_r (nI_1 j) (ih (j + 1) n' pl' hd' (by omega) (bb_Le_t l tk.1) tk.2.1 ?_))
    intro k hk
    rcases Nat.lt_or_ge k j with e | e
    · exact bb_Df_le tk.1 tk.2.1 hin (by omega) s k e
    · have : k = j := by omega
      subst this
      rw [bb_Le_sp tk.1 hin (by omega)]
      exact tk.2.2
theorem bb_xc40 {post : SX → Prop} {n0 : Nat} {pl0 hd0 : Nat → Nat}
    (hp : ∀ n' pl' hd', bb_Le n0 pl0 hd0 n' pl' hd' → bb_GI Z n' pl' hd' → bb_CP n' pl' hd' → post (xp, xk, nI n', xc, xb, xz, ag, bb_A pl', bb_A hd', ab)) :
    ∀ d i n pl hd, i + d = 16 → bb_Le n0 pl0 hd0 n pl hd → bb_GI Z n pl hd → i ≤ n → (∀ k, k < i → bb_Sq n pl hd k 4 ∧ bb_Df n pl hd k k) → wX_complete_40 post (d + 1) (nI i) xp xk (nI n) xc xb xz ag (bb_A pl) (bb_A hd) ab := by
  intro d
  induction d with
  | zero =>
    intro i n pl hd hv l g hin s
    have n16 := bb_size16 g
    refine pk_le n i (fun h => hp n pl hd l g (fun k hk => s k (by omega))) (fun h => absurd h (by omega))
  | succ d ih =>
    intro i n pl hd hv l g hin s
    have n16 := bb_size16 g
    refine pk_le n i (fun h => hp n pl hd l g (fun k hk => s k (by omega))) (fun h => ?_)
    refine bb_xsq h g (fun n1 pl1 hd1 l1 g1 s1 => Exists.intro (i + 1) ?_)
    have hi1 : i < n1 := Nat.lt_of_lt_of_le h l1.1
    refine bb_xc55 hi1 (fun n2 pl2 hd2 l2 g2 s2 => ?_) i 0 n1 pl1 hd1 (by omega) (bb_Le_r _ _ _) g1 (fun k hk => absurd hk (Nat.not_lt_zero k))
    have hi2 : i < n2 := Nat.lt_of_lt_of_le hi1 l2.1
    refine ih (i + 1) n2 pl2 hd2 (by omega) (bb_Le_t l (bb_Le_t l1 l2)) g2 (by omega) (fun k hk => ?_)
    rcases Nat.lt_or_ge k i with e | e
    · exact ⟨bb_Sq_le (bb_Le_t l1 l2) g2 (by omega) (s k e).1, bb_Df_le (bb_Le_t l1 l2) g2 (by omega) (by omega) (s k e).2⟩
    · have : k = i := by omega
      subst this
      exact ⟨bb_Sq_le l2 g2 hi1 s1, s2⟩
theorem bb_xc7 {post : SX → Prop} {Q : Nat} {G : Nat → Nat} (hQ : Q < 64) (hG : ∀ i, i < 6 → G i < 65536)
    (hp : ∀ n' pl' hd', bb_GI (bb_Z Q G) n' pl' hd' → bb_EI (bb_Z Q G) (bb_bx pl' hd' n') → post (xp, xk, nI n', xc, xb, xz, bb_A G, bb_A pl', bb_A hd', ab)) :
    ∀ d i n pl hd, i + d = 6 → bb_GI (bb_Z Q G) n pl hd → (∀ k, k < i → Q.testBit k = true → bb_rd (bb_bx pl hd n) 16 (G k) = 0) → wX_complete_7 post (nI Q) (d + 1) (nI i) xp xk (nI n) xc xb xz (bb_A G) (bb_A pl) (bb_A hd) ab := by
  intro d
  induction d with
  | zero =>
    intro i n pl hd hv g s
    have : i = 6 := by omega
    subst this
    refine pk_le 6 6 (fun _ => Exists.intro 17 ?_) (fun h => absurd h (by omega))
    refine bb_xc40 (n0 := n) (pl0 := pl) (hd0 := hd) (fun n' pl' hd' l g' cp => hp n' pl' hd' g' (bb_grob g' cp hG (fun k hk hb => bb_Le_k l g' (s k hk hb)))) 16 0 n pl hd rfl (bb_Le_r _ _ _) g (Nat.zero_le _) (fun k hk => absurd hk (Nat.not_lt_zero k))
  | succ d ih =>
    intro i n pl hd hv g s
    refine pk_le 6 i (fun h => absurd h (by omega)) (fun _ => ?_)
    refine bb_b0 Q i (by omega) (by omega) (fun hb => nm_r (nI_1 i) (ih (i + 1) n pl hd (by omega) g (fun k hk hb' => ?_))) (fun hb => And.intro (vp_in_nI (by omega) (by omega)) ?_)
    · rcases Nat.lt_or_ge k i with e | e
      · exact s k e hb'
      · have : k = i := by omega
        subst this; rw [hb] at hb'; cases hb'
    · refine bb_xtake g (G i) (hG i (by omega)) (bb_In_G (by omega) hb) (fun r n' pl' hd' tk => nm_r (nI_1 i) (ih (i + 1) n' pl' hd' (by omega) tk.2.1 (fun k hk hb' => ?_))) (bb_at (by omega))
      rcases Nat.lt_or_ge k i with e | e
      · exact bb_Le_k tk.1 tk.2.1 (s k e hb')
      · have : k = i := by omega
        subst this; exact tk.2.2
theorem bb_xcomp {post : SX → Prop} {x : Int32} (Q : Nat) {G pl hd : Nat → Nat} (hQ : Q < 64) (hG : ∀ i, i < 6 → G i < 65536)
    (hp : ∀ n' pl' hd', bb_GI (bb_Z Q G) n' pl' hd' → bb_EI (bb_Z Q G) (bb_bx pl' hd' n') → post (xp, xk, nI n', xc, xb, xz, bb_A G, bb_A pl', bb_A hd', ab)) (hx : x = nI Q := by rfl) :
    wpX_complete post (xp, xk, xs, xc, xb, xz, bb_A G, bb_A pl, bb_A hd, ab) x := by
  subst hx
  exact Exists.intro 7 (bb_xc7 hQ hG hp 6 0 0 pl hd rfl (fun i hi => absurd hi (Nat.not_lt_zero i)) (fun k hk => absurd hk (Nat.not_lt_zero k)))
end
end
section
/-! the component's walks: learning -/
theorem bb_brb {A B : Prop} {x : Int32} (c : Bool) (hA : c = false → A) (hB : c = true → B) (hx : x = nI c.toNat := by rfl) : (x = 0 → A) ∧ (¬ x = 0 → B) := by
  subst hx
  cases c with
  | false => exact br_t (by decide) (hA rfl)
  | true => exact br_f (by decide) (hB rfl)
def bb_BA (b : Nat → Nat) (k : Nat) (ab : Nat → Nat) : Prop := ∀ m, m < k → bb_ls b m = true → ab (bb_ct (bb_ls b) m) = bb_bs b m
def bb_KN (P : Nat) (G : Nat → Nat) (n : Nat) (pl hd ab : Nat → Nat) : Prop := bb_GI (bb_Z P G) n pl hd ∧ bb_EI (bb_Z P G) (bb_bx pl hd n) ∧ bb_BA (bb_bx pl hd n) 16 ab
section
variable {xp xk xs xc xb xz : Int32} {ag ap ah : Nat → Int32} {Z : Nat → Bool}
theorem bb_xleast_12 {ax : Nat → Int32} {n : Nat} {pl hd : Nat → Nat} (g : bb_GI Z n pl hd) (hE : bb_EI Z (bb_bx pl hd n)) {post : Int32 → Prop} {m : Nat} (hm : m < 16) (hb : bb_bx pl hd n m ≠ 0) (hp : post (nI (bb_ls (bb_bx pl hd n) m).toNat)) :
    ∀ d v, v + d = 4 → (∀ w, w < v → bb_df m (2 ^ w) ≠ m → bb_bx pl hd n (bb_df m (2 ^ w)) = 0) → wX_leastBound_12 post (nI m) xp xk (nI n) xc xb xz ag ap (bb_A hd) ax (d + 1) (nI v) := by
  have n16 := bb_size16 g
  intro d
  induction d with
  | zero =>
    intro v hv s
    have : v = 4 := by omega
    subst this
    have e : bb_ls (bb_bx pl hd n) m = true := (bb_ls_iff hE hm).2 ⟨hb, s⟩
    rw [e] at hp
    exact pk_le 4 4 (fun _ => hp) (fun h => absurd h (by omega))
  | succ d ih =>
    intro v hv s
    have v16 := (bb_v16 v (by omega)).1
    have dl := bb_dfl m hm _ v16
    refine pk_le 4 v (fun h => absurd h (by omega)) (fun _ => nm_r (e' := nI (bb_df m (2 ^ v))) (by rw [bb_sh v (by omega)]; exact bb_dfI m hm _ v16) ?_)
    have next : (bb_df m (2 ^ v) ≠ m → bb_bx pl hd n (bb_df m (2 ^ v)) = 0) → ∀ w, w < v + 1 → bb_df m (2 ^ w) ≠ m → bb_bx pl hd n (bb_df m (2 ^ w)) = 0 := by
      intro c w hw e
      rcases Nat.lt_or_ge w v with h | h
      · exact s w h e
      · have : w = v := by omega
        subst this; exact c e
    refine pk_eq (bb_df m (2 ^ v)) m (fun e => nm_r (nI_1 v) (ih (v + 1) (by omega) (next (fun c => absurd e c)))) (fun e => ?_)
    refine bb_xdiv (bb_df m (2 ^ v)) n dl n16 (fun i hi => (g i hi).2.1) (fun c => ?_) (fun i hi c => ?_)
    · exact br_t (by decide) (nm_r (nI_1 v) (ih (v + 1) (by omega) (next (fun _ => bb_bx_n c))))
    · refine br_f (nI_pos (by omega)) ?_
      have e0 : bb_ls (bb_bx pl hd n) m = false := by
        cases q : bb_ls (bb_bx pl hd n) m with
        | false => rfl
        | true => exact absurd (((bb_ls_iff hE hm).1 q).2 v (by omega) e) ((bb_bx_ne g dl).2 ⟨i, c⟩)
      rw [e0] at hp; exact hp
theorem bb_xleast {ax : Nat → Int32} {n : Nat} {pl hd : Nat → Nat} (g : bb_GI Z n pl hd) (hE : bb_EI Z (bb_bx pl hd n)) {post : Int32 → Prop} {x : Int32} (m : Nat) (hm : m < 16) (hp : post (nI (bb_ls (bb_bx pl hd n) m).toNat)) (hx : x = nI m := by rfl) :
    wpX_leastBound post (xp, xk, nI n, xc, xb, xz, ag, ap, bb_A hd, ax) x := by
  subst hx
  have n16 := bb_size16 g
  unfold wpX_leastBound
  refine bb_xdiv m n hm n16 (fun i hi => (g i hi).2.1) (fun e => ?_) (fun i hi e => ?_)
  · refine br_f (by decide) ?_
    have e0 : bb_ls (bb_bx pl hd n) m = false := by
      cases q : bb_ls (bb_bx pl hd n) m with
      | false => rfl
      | true => exact absurd (bb_bx_n e) ((bb_ls_iff hE hm).1 q).1
    rw [e0] at hp; exact hp
  · exact br_t (nI_pos' (by omega)) (Exists.intro 5 (bb_xleast_12 g hE hm ((bb_bx_ne g hm).2 ⟨i, e⟩) hp 4 0 rfl (fun w hw => absurd hw (Nat.not_lt_zero w))))
theorem bb_xvan_2 {post : Int32 → Prop} {c p : Nat} {ab : Nat → Nat} (hc : c ≤ 16) (hp : p < 16) (hl : ∀ j, j < c → ab j < 65536) (h1 : (∀ j, j < c → bb_ev (ab j) p = false) → post 1) (h0 : ∀ j, j < c → bb_ev (ab j) p = true → post 0) :
    ∀ d i, i + d = c → (∀ j, j < i → bb_ev (ab j) p = false) → wX_vanishes_2 post (nI p) xp xk xs (nI c) xb xz ag ap ah (bb_A ab) (d + 1) (nI i) := by
  intro d
  induction d with
  | zero =>
    intro i hi s
    have : i = c := by omega
    subst this
    exact pk_le i i (fun _ => h1 s) (fun h => absurd h (by omega))
  | succ d ih =>
    intro i hi s
    refine pk_le c i (fun h => absurd h (by omega)) (fun _ => And.intro (vp_in_nI (by omega) (by omega)) ?_)
    refine bb_xval (ab i) p (hl i (by omega)) hp ?_ (bb_at (by omega))
    refine bb_brb (bb_ev (ab i) p) (fun e => nm_r (nI_1 i) (ih (i + 1) (by omega) (fun j hj => ?_))) (fun e => h0 i (by omega) e)
    rcases Nat.lt_or_ge j i with h | h
    · exact s j h
    · have : j = i := by omega
      subst this; exact e
theorem bb_xvan {post : Int32 → Prop} {x : Int32} {P : Nat} {G b ab : Nat → Nat} (p : Nat) (hG : ∀ i, i < 6 → G i < 65536) (hE : bb_EI (bb_Z P G) b) (hA : bb_BA b 16 ab) (hp : p < 16) (h : post (nI (bb_Z P G p).toNat)) (hx : x = nI p := by rfl) :
    wpX_vanishes post (xp, xk, xs, nI (bb_ct (bb_ls b) 16), xb, xz, ag, ap, ah, bb_A ab) x := by
  subst hx
  have hc := bb_ct_le (bb_ls b) 16
  have key : ∀ j, j < bb_ct (bb_ls b) 16 → ∃ m, m < 16 ∧ bb_ls b m = true ∧ ab j = bb_bs b m := by
    intro j hj
    obtain ⟨m, h1, h2, h3⟩ := bb_ct_ex 16 hj
    exact ⟨m, h1, h2, by rw [← h3]; exact hA m h1 h2⟩
  refine Exists.intro (bb_ct (bb_ls b) 16 + 1) (bb_xvan_2 hc hp (fun j hj => ?_) (fun s => ?_) (fun j hj e => ?_) _ 0 (by omega) (fun j hj => absurd hj (Nat.not_lt_zero j)))
  · obtain ⟨m, h1, h2, h3⟩ := key j hj
    rw [h3]; exact bb_bs_lt hE.1 h1
  · have e : bb_Z P G p = true := by
      refine (bb_van hG hE hp).1 (fun m hm hl => ?_)
      rw [← hA m hm hl]
      refine s _ ?_
      have := bb_ct_mono (bb_ls b) (show m + 1 ≤ 16 from hm)
      rw [bb_ct_s hl] at this; omega
    rw [e] at h; exact h
  · obtain ⟨m, h1, h2, h3⟩ := key j hj
    have e0 : bb_Z P G p = false := by
      cases q : bb_Z P G p with
      | false => rfl
      | true =>
        have := (bb_van hG hE hp).2 q m h1 h2
        rw [← h3, e] at this; cases this
    rw [e0] at h; exact h
theorem bb_x114 {post : SX → Prop} {P : Nat} {G b ab : Nat → Nat} (hG : ∀ i, i < 6 → G i < 65536) (hE : bb_EI (bb_Z P G) b) (hA : bb_BA b 16 ab)
    (hp : post (xp, xk, xs, nI (bb_ct (bb_ls b) 16), xb, nI (bb_zs (bb_Z P G) 16), ag, ap, ah, bb_A ab)) :
    ∀ d p, p + d = 16 → wX_learn_114 post xp xk xs (nI (bb_ct (bb_ls b) 16)) xb ag ap ah (bb_A ab) (d + 1) (nI p) (nI (bb_zs (bb_Z P G) p)) := by
  intro d
  induction d with
  | zero =>
    intro p h
    have : p = 16 := by omega
    subst this
    exact pk_le 16 16 (fun _ => hp) (fun h => absurd h (by omega))
  | succ d ih =>
    intro p h
    refine pk_le 16 p (fun h => absurd h (by omega)) (fun _ => ?_)
    have ih' := ih (p + 1) (by omega)
    have e : bb_zs (bb_Z P G) (p + 1) = bb_zs (bb_Z P G) p ||| bb_sel (bb_Z P G p) (2 ^ p) := rfl
    rw [e] at ih'
    refine bb_xvan p hG hE hA (by omega) ?_
    refine bb_brb (bb_Z P G p) (fun c => ?_) (fun c => ?_)
    · rw [c] at ih'
      exact nm_r (bb_or _ 0) (nm_r (nI_1 p) ih')
    · rw [c] at ih'
      exact nm_r (e' := nI (bb_zs (bb_Z P G) p ||| 2 ^ p)) (by rw [bb_sh p (by omega), bb_or]) (nm_r (nI_1 p) ih')
theorem bb_x33 {post : SX → Prop} {P n : Nat} {G pl hd : Nat → Nat} (hG : ∀ i, i < 6 → G i < 65536) (g : bb_GI (bb_Z P G) n pl hd) (hE : bb_EI (bb_Z P G) (bb_bx pl hd n))
    (hp : ∀ ab', bb_BA (bb_bx pl hd n) 16 ab' → post (xp, xk, nI n, nI (bb_ct (bb_ls (bb_bx pl hd n)) 16), nI (bb_bd (bb_bx pl hd n) 16), nI (bb_zs (bb_Z P G) 16), ag, bb_A pl, bb_A hd, bb_A ab')) :
    ∀ d m ab, m + d = 16 → bb_BA (bb_bx pl hd n) m ab → wX_learn_33 post xp xk (nI n) xz (d + 1) (nI m) (nI (bb_ct (bb_ls (bb_bx pl hd n)) m)) (nI (bb_bd (bb_bx pl hd n) m)) ag (bb_A pl) (bb_A hd) (bb_A ab) := by
  have n16 := bb_size16 g
  intro d
  induction d with
  | zero =>
    intro m ab h s
    have : m = 16 := by omega
    subst this
    exact pk_le 16 16 (fun _ => Exists.intro 17 (bb_x114 hG hE s (hp ab s) 16 0 rfl)) (fun h => absurd h (by omega))
  | succ d ih =>
    intro m ab h s
    have hm : m < 16 := by omega
    have ct := bb_ct_le (bb_ls (bb_bx pl hd n)) m
    refine pk_le 16 m (fun h => absurd h (by omega)) (fun _ => ?_)
    have K : ∀ z0, z0 = nI (bb_sel (decide (bb_bx pl hd n m ≠ 0)) (2 ^ m)) → wX_learn_59 post (wX_learn_33 post xp xk (nI n) xz (d + 1)) (nI m) z0 (nI (bb_bd (bb_bx pl hd n) m)) xp xk (nI n) (nI (bb_ct (bb_ls (bb_bx pl hd n)) m)) (nI (bb_bd (bb_bx pl hd n) m)) xz ag (bb_A pl) (bb_A hd) (bb_A ab) := by
      intro z0 ez
      unfold wX_learn_59
      refine nm_r (e' := nI (bb_bd (bb_bx pl hd n) (m + 1))) (by rw [ez, bb_or]; rfl) ?_
      refine bb_xleast g hE m hm ?_
      refine bb_brb (bb_ls (bb_bx pl hd n) m) (fun c => nm_r (nI_1 m) ?_) (fun c => ?_)
      · have ih' := ih (m + 1) ab (by omega) (fun k hk e => by
          rcases Nat.lt_or_ge k m with h | h
          · exact s k h e
          · have : k = m := by omega
            subst this; rw [c] at e; cases e)
        rw [bb_ct_z c] at ih'
        exact ih'
      · have ih' := ih (m + 1) (bb_up ab (bb_ct (bb_ls (bb_bx pl hd n)) m) (bb_bs (bb_bx pl hd n) m)) (by omega) (fun k hk e => by
          rcases Nat.lt_or_ge k m with h | h
          · rw [bb_upn]
            · exact s k h e
            · intro q
              have := bb_ct_inj e c q
              omega
          · have : k = m := by omega
            subst this; exact bb_ups)
        rw [bb_ct_s c] at ih'
        refine bb_xred g (2 ^ m) (bb_p16 hm) (And.intro (vp_in_nI (by omega) (by omega)) ?_) (bb_sh m (by omega))
        refine nm_r (e' := bb_A (bb_up ab (bb_ct (bb_ls (bb_bx pl hd n)) m) (bb_bs (bb_bx pl hd n) m))) ?_ (nm_r (nI_1 _) (nm_r (nI_1 m) ih'))
        rw [bb_sh m (by omega), nx_xor]
        exact bb_upA (by omega)
    refine bb_xdiv m n hm n16 (fun i hi => (g i hi).2.1) (fun e => br_t (by decide) (K _ ?_)) (fun i hi e => br_f (nI_pos (by omega)) (K _ ?_))
    · rw [decide_eq_false (fun h => h (bb_bx_n e))]; rfl
    · rw [decide_eq_true ((bb_bx_ne g hm).2 ⟨i, e⟩)]; exact bb_sh m (by omega)
theorem bb_xlearn {post : SX → Prop} {P : Nat} {G pl hd ab : Nat → Nat} (hP : P < 64) (hG : ∀ i, i < 6 → G i < 65536)
    (hk : xk = 0 ∨ (xk = 1 ∧ ∃ n, bb_KN P G n pl hd ab ∧ xs = nI n ∧ xc = nI (bb_ct (bb_ls (bb_bx pl hd n)) 16) ∧ xb = nI (bb_bd (bb_bx pl hd n) 16) ∧ xz = nI (bb_zs (bb_Z P G) 16)))
    (hp : ∀ n pl' hd' ab', bb_KN P G n pl' hd' ab' → post (nI P, 1, nI n, nI (bb_ct (bb_ls (bb_bx pl' hd' n)) 16), nI (bb_bd (bb_bx pl' hd' n) 16), nI (bb_zs (bb_Z P G) 16), bb_A G, bb_A pl', bb_A hd', bb_A ab')) :
    wpX_learn post (nI P, xk, xs, xc, xb, xz, bb_A G, bb_A pl, bb_A hd, bb_A ab) := by
  unfold wpX_learn
  rcases hk with e | ⟨e, n, k, e1, e2, e3, e4⟩
  · subst e
    refine br_t rfl (bb_xcomp P hP hG (fun n' pl' hd' g hE => Exists.intro 17 ?_))
    exact bb_x33 hG g hE (fun ab' s => hp n' pl' hd' ab' ⟨g, hE, s⟩) 16 0 ab rfl (fun k hk => absurd hk (Nat.not_lt_zero k))
  · subst e e1 e2 e3 e4
    exact br_f (by decide) (hp n pl hd ab k)
end
end
section
/-! the reference's walks -/
def bb_bt (P i : Nat) : Nat := (P.testBit i).toNat
section
variable {at' ag ah ao : Nat → Int32}
theorem bb_ypoly0 {post : Int32 → Prop} {x : Int32} (h : bb_np x) (hp : post 0) : wpY_polynomial post (at', ag, ah, ao) x := by
  unfold wpY_polynomial
  rcases h with h | ⟨h, h'⟩
  · exact br_t h hp
  · exact br_f h (br_t h' hp)
theorem bb_ypoly1 {post : Int32 → Prop} {x : Int32} (f : Nat) (h : f < 65536) (hp : post 1) (hx : x = nI f := by rfl) : wpY_polynomial post (at', ag, ah, ao) x := by
  subst hx
  unfold wpY_polynomial
  exact br_f (nI_pos (by omega)) (br_f (bb_ple h) hp)
theorem bb_yp33 {post : Int32 → Prop} {J : Int32 → Int32 → Prop} {f g m s : Nat} (hf : f < 65536) (hg : g < 65536) (hm : m < 16) (hJ : J (nI (s ^^^ bb_sel (f.testBit m) (bb_tm g m))) (nI (m + 1))) :
    ∀ d j, j + d = 16 → wY_product_33 post J (nI f) (nI g) (nI m) at' ag ah ao (d + 1) (nI (s ^^^ bb_sel (f.testBit m) (bb_tmr g m j))) (nI j) := by
  intro d
  induction d with
  | zero =>
    intro j hj
    have : j = 16 := by omega
    subst this
    exact pk_le 16 16 (fun _ => nm_r (nI_1 m) hJ) (fun h => absurd h (by omega))
  | succ d ih =>
    intro j hj
    have ih' := ih (j + 1) (by omega)
    have e : bb_tmr g m (j + 1) = bb_tmr g m j ^^^ bb_sel (g.testBit j) (2 ^ (j ||| m)) := rfl
    refine pk_le 16 j (fun h => absurd h (by omega)) (fun _ => ?_)
    refine bb_b1 f m hf (by omega) (fun hb => bb_b1 g j hg (by omega) (fun hc => ?_) (fun hc => ?_)) (fun hb => ?_)
    · have h16 : m ||| j < 16 := bb_or16 hm (by omega)
      refine br_f (by decide) (nm_r (e' := nI (s ^^^ bb_sel (f.testBit m) (bb_tmr g m (j + 1)))) ?_ (nm_r (nI_1 j) ih'))
      rw [bb_or, bb_sh _ (by omega), nx_xor, e, hb, hc, Nat.or_comm m j, Nat.xor_assoc]; rfl
    · rw [e, hc, show bb_sel false (2 ^ (j ||| m)) = 0 from rfl, Nat.xor_zero] at ih'
      exact br_t rfl (nm_r (nI_1 j) ih')
    · rw [hb] at ih' ⊢
      exact br_t rfl (nm_r (nI_1 j) ih')
theorem bb_yp23 {post : Int32 → Prop} {f g : Nat} (hf : f < 65536) (hg : g < 65536) (hp : post (nI (bb_ml g f))) :
    ∀ d m, m + d = 16 → wY_product_23 post (nI f) (nI g) at' ag ah ao (d + 1) (nI (bb_mlr g f m)) (nI m) := by
  intro d
  induction d with
  | zero =>
    intro m hm
    have : m = 16 := by omega
    subst this
    exact pk_le 16 16 (fun _ => hp) (fun h => absurd h (by omega))
  | succ d ih =>
    intro m hm
    refine pk_le 16 m (fun h => absurd h (by omega)) (fun _ => Exists.intro 17 ?_)
    have := bb_yp33 (post := post) (at' := at') (ag := ag) (ah := ah) (ao := ao) (s := bb_mlr g f m) hf hg (show m < 16 by omega) (ih (m + 1) (by omega)) 16 0 rfl
    have z : bb_sel (f.testBit m) (bb_tmr g m 0) = 0 := by cases f.testBit m <;> rfl
    rw [z, Nat.xor_zero] at this
    exact this
theorem bb_yprod {post : Int32 → Prop} {x y : Int32} (f g : Nat) (hf : f < 65536) (hg : g < 65536) (hp : post (nI (bb_ml f g))) (hx : x = nI f := by rfl) (hy : y = nI g := by rfl) : wpY_product post (at', ag, ah, ao) x y := by
  subst hx hy
  unfold wpY_product
  refine bb_ypoly1 f hf (br_f (by decide) ?_)
  refine bb_ypoly1 g hg (br_f (by decide) (Exists.intro 17 ?_))
  refine bb_yp23 hf hg ?_ 16 0 rfl
  rw [bb_ml_c hg hf]; exact hp
theorem bb_yv25 {post : Int32 → Prop} {f p : Nat} (hf : f < 65536) (hp : p < 16) (h : post (nI (bb_ev f p).toNat)) : ∀ d i, i + d = 16 → wY_value_25 post (nI f) (nI p) at' ag ah ao (d + 1) (nI (bb_evr f p i).toNat) (nI i) := by
  intro d
  induction d with
  | zero =>
    intro i hi
    have : i = 16 := by omega
    subst this
    exact pk_le 16 16 (fun _ => h) (fun h => absurd h (by omega))
  | succ d ih =>
    intro i hi
    refine pk_le 16 i (fun h => absurd h (by omega)) (fun _ => ?_)
    refine bb_sub i p (by omega) hp (fun e => nm_r (e' := nI (bb_evr f p (i + 1)).toNat) ?_ (nm_r (nI_1 i) (ih (i + 1) (by omega)))) (fun e => nm_r (nI_1 i) ?_)
    · rw [bb_bit (by omega) (by omega), bb_bxor]
      show _ = nI (bb_evr f p i ^^ (f.testBit i && decide (bb_df i p = 0))).toNat
      rw [decide_eq_true e, Bool.and_true]
    · have e2 : bb_evr f p (i + 1) = bb_evr f p i := by
        show (bb_evr f p i ^^ (f.testBit i && decide (bb_df i p = 0))) = _
        rw [decide_eq_false e, Bool.and_false, Bool.xor_false]
      rw [← e2]
      exact ih (i + 1) (by omega)
theorem bb_yval {post : Int32 → Prop} {x y : Int32} (f p : Nat) (hf : f < 65536) (hp : p < 16) (h : post (nI (bb_ev f p).toNat)) (hx : x = nI f := by rfl) (hy : y = nI p := by rfl) : wpY_value post (at', ag, ah, ao) x y := by
  subst hx hy
  unfold wpY_value
  refine bb_ypoly1 f hf (br_f (by decide) (br_f (nI_pos (by omega)) ?_))
  exact pk_le p 15 (fun _ => Exists.intro 17 (bb_yv25 hf hp h 16 0 rfl)) (fun h => absurd h (by omega))
theorem bb_yred_5 {b : Nat → Nat} (hb : bb_EF b) {post : Int32 → Prop} :
    ∀ k r, k ≤ 16 → post (nI (bb_rd b k r)) → r < 65536 → wY_reduce_5 post at' ag (bb_A b) ao (k + 1) (nI r) (nI k + (-1)) := by
  intro k
  induction k with
  | zero => intro r _ hp _; exact br_t (by decide) hp
  | succ k ih =>
    intro r hk hp hr
    rw [pk_m1]
    have hl := bb_EF_l16 hb (m := k) (by omega)
    refine br_f (nI_pos (by omega)) ?_
    refine bb_b1 r k hr (by omega) (fun h => And.intro (vp_in_nI (by omega) (by omega)) ?_) (fun h => ?_)
    · rw [bb_rd_t h] at hp
      refine pk_eq (b k) 0 (fun e => ?_) (fun e => ?_) (bb_at (by omega))
      · rw [e, Nat.xor_zero] at hp
        exact nm_e (ih r (by omega) hp hr)
      · refine And.intro (vp_in_nI (by omega) (by omega)) (nm_r (e' := nI (r ^^^ b k)) (by rw [bb_at (by omega), nx_xor]) (nm_e (ih _ (by omega) hp (bb_xlt hr hl))))
    · rw [bb_rd_f h] at hp
      exact nm_e (ih r (by omega) hp hr)
theorem bb_yred {b : Nat → Nat} (hb : bb_EF b) {post : Int32 → Prop} {x : Int32} (f : Nat) (hf : f < 65536) (hp : post (nI (bb_rd b 16 f))) (hx : x = nI f := by rfl) : wpY_reduce post (at', ag, bb_A b, ao) x := by
  subst hx
  exact Exists.intro 17 (bb_yred_5 hb 16 f (by omega) hp hf)
/-- the family goes on -/
def bb_YL (b b' : Nat → Nat) : Prop := ∀ m, m < 16 → b m ≠ 0 → b' m = b m
theorem bb_YL_r (b : Nat → Nat) : bb_YL b b := fun _ _ _ => rfl
theorem bb_YL_t {b c d : Nat → Nat} (h : bb_YL b c) (h' : bb_YL c d) : bb_YL b d := by
  intro m hm e
  have e1 := h m hm e
  rw [h' m hm (by rw [e1]; exact e), e1]
def bb_WI (Z : Nat → Bool) (b : Nat → Nat) : Prop := bb_EF b ∧ ∀ m, m < 16 → bb_In Z (b m)
theorem bb_yk9 {b : Nat → Nat} {post : SY → Prop} {r : Nat} (hr : r < 65536) (h0 : r = 0 → post (at', ag, bb_A b, ao)) (h1 : ∀ m, m < 16 → bb_HD r m → post (at', ag, bb_A (bb_up b m r), ao)) :
    ∀ k, k ≤ 16 → r < 2 ^ k → wY_keep_9 post (nI r) at' ag (bb_A b) ao (k + 1) (nI k + (-1)) := by
  intro k
  induction k with
  | zero =>
    intro _ h
    have : r = 0 := by simp at h; exact h
    exact br_t (by decide) (h0 this)
  | succ k ih =>
    intro hk h
    rw [pk_m1]
    refine br_f (nI_pos (by omega)) ?_
    refine bb_b1 r k hr (by omega) (fun c => And.intro (vp_in_nI (by omega) (by omega)) (nm_r (bb_upA (by omega)) (h1 k (by omega) ⟨c, h⟩))) (fun c => nm_e (ih (by omega) (bb_low h c)))
theorem bb_ykeep {Z : Nat → Bool} {b : Nat → Nat} (hW : bb_WI Z b) {post : SY → Prop} {x : Int32} (f : Nat) (hf : f < 65536) (hI : bb_In Z f)
    (hp : ∀ b', bb_WI Z b' → bb_YL b b' → bb_rd b' 16 f = 0 → post (at', ag, bb_A b', ao)) (hx : x = nI f := by rfl) : wpY_keep post (at', ag, bb_A b, ao) x := by
  have hl := bb_rd_lt hW.1 hf
  have hk := bb_idem hW.1 f
  have hin : bb_In Z (bb_rd b 16 f) := by
    have h1 : bb_In Z (f ^^^ bb_rd b 16 f) := bb_span (bb_In_0 Z) (fun _ _ => bb_In_x) 16 (fun m hm _ => hW.2 m hm) f
    have := bb_In_x hI h1
    rwa [bb_xl] at this
  unfold wpY_keep
  refine bb_yred hW.1 f hf (Exists.intro 17 ?_) hx
  refine bb_yk9 hl (fun e => hp b hW (bb_YL_r b) e) (fun m hm hd => ?_) 16 (by omega) hl
  have hz : b m = 0 := Classical.byContradiction (fun c => by
    have := bb_rd_cl hW.1 c 16 f (by omega) hm
    rw [hd.1] at this; cases this)
  have hE : bb_EF (bb_up b m (bb_rd b 16 f)) := by
    intro j hj
    by_cases e : j = m
    · subst e; rw [bb_ups]; exact Or.inr hd
    · rw [bb_upn e]; exact hW.1 j hj
  have yl : bb_YL b (bb_up b m (bb_rd b 16 f)) := fun j hj e => bb_upn (fun c => e (by rw [c]; exact hz))
  refine hp _ ⟨hE, fun j hj => ?_⟩ yl ?_
  · by_cases e : j = m
    · subst e; rw [bb_ups]; exact hin
    · rw [bb_upn e]; exact hW.2 j hj
  · have k1 := bb_mono hE yl hk
    have k2 := bb_self hE hm
    rw [bb_ups] at k2
    have := bb_kx k1 k2
    rwa [bb_xx] at this
theorem bb_yw31 {post : SY → Prop} {J : Int32 → (Nat → Int32) → (Nat → Int32) → (Nat → Int32) → (Nat → Int32) → Prop} {nv : Int32} {P Q i : Nat} {G b0 : Nat → Nat} (hi : i < 6) (hG : ∀ i, i < 6 → G i < 65536)
    (hQ : Q.testBit i = true ↔ P.testBit i = true ∧ nI i ≠ nv)
    (hJ : ∀ b', bb_WI (bb_Z Q G) b' → bb_YL b0 b' → (Q.testBit i = true → ∀ m, m < 16 → bb_rd b' 16 (bb_tm (G i) m) = 0) → J (nI (i + 1)) (bb_A (bb_bt P)) (bb_A G) (bb_A b') ao) :
    ∀ d m b, m + d = 16 → bb_WI (bb_Z Q G) b → bb_YL b0 b → (Q.testBit i = true → ∀ k, k < m → bb_rd b 16 (bb_tm (G i) k) = 0) → wY_work_31 post J nv (nI i) (d + 1) (nI m) (bb_A (bb_bt P)) (bb_A G) (bb_A b) ao := by
  intro d
  induction d with
  | zero =>
    intro m b hm hW hL s
    have : m = 16 := by omega
    subst this
    exact pk_le 16 16 (fun _ => nm_r (nI_1 i) (hJ b hW hL s)) (fun h => absurd h (by omega))
  | succ d ih =>
    intro m b hm hW hL s
    have vi : vp_in (nI i) 6 := vp_in_nI hi (by omega)
    refine pk_le 16 m (fun h => absurd h (by omega)) (fun _ => And.intro vi ?_)
    refine bb_brb (P.testBit i) (fun e => nm_r (nI_1 m) (ih (m + 1) b (by omega) hW hL (fun q => ?_))) (fun e => ?_) (bb_at (by omega))
    · rw [hQ, e] at q; cases q.1
    · refine br_c (fun c => nm_r (nI_1 m) (ih (m + 1) b (by omega) hW hL (fun q => absurd c (hQ.1 q).2))) (fun c => And.intro vi ?_)
      have q : Q.testBit i = true := hQ.2 ⟨e, c⟩
      refine bb_yprod (G i) (2 ^ m) (hG i hi) (bb_p16 (by omega)) ?_ (bb_at (by omega)) (bb_sh m (by omega))
      rw [bb_ml_m (hG i hi) (by omega)]
      refine bb_ykeep hW (bb_tm (G i) m) (bb_tm_lt (by omega)) (bb_In_t (hG i hi) (by omega) (bb_In_G hi q)) (fun b' hW' hL' hk => nm_r (nI_1 m) (ih (m + 1) b' (by omega) hW' (bb_YL_t hL hL') (fun _ k hk' => ?_)))
      rcases Nat.lt_or_ge k m with h | h
      · exact bb_mono hW'.1 hL' (s q k h)
      · have : k = m := by omega
        subst this; exact hk
theorem bb_yw23 {post : SY → Prop} {nv : Int32} {P Q : Nat} {G : Nat → Nat} (hG : ∀ i, i < 6 → G i < 65536)
    (hQ : ∀ i, i < 6 → (Q.testBit i = true ↔ P.testBit i = true ∧ nI i ≠ nv))
    (hp : ∀ b', bb_EI (bb_Z Q G) b' → post (bb_A (bb_bt P), bb_A G, bb_A b', ao)) :
    ∀ d i b, i + d = 6 → bb_WI (bb_Z Q G) b → (∀ k, k < i → Q.testBit k = true → ∀ m, m < 16 → bb_rd b 16 (bb_tm (G k) m) = 0) → wY_work_23 post nv (d + 1) (nI i) (bb_A (bb_bt P)) (bb_A G) (bb_A b) ao := by
  intro d
  induction d with
  | zero =>
    intro i b hi hW s
    have : i = 6 := by omega
    subst this
    refine pk_le 6 6 (fun _ => hp b ⟨hW.1, fun f hf => ⟨fun h => ?_, fun h => ?_⟩⟩) (fun h => absurd h (by omega))
    · exact bb_span0 (bb_In_0 _) (fun _ _ => bb_In_x) (fun m hm _ => hW.2 m hm) h
    · exact bb_null (K := fun f => bb_rd b 16 f = 0) hG (bb_rd_0 _ _) (fun _ _ => bb_kx) s hf h
  | succ d ih =>
    intro i b hi hW s
    refine pk_le 6 i (fun h => absurd h (by omega)) (fun _ => Exists.intro 17 ?_)
    refine bb_yw31 (b0 := b) (by omega) hG (hQ i (by omega)) (fun b' hW' hL' s' => ih (i + 1) b' (by omega) hW' (fun k hk q m hm => ?_)) 16 0 b rfl hW (bb_YL_r b) (fun _ k hk => absurd hk (Nat.not_lt_zero k))
    rcases Nat.lt_or_ge k i with h | h
    · exact bb_mono hW'.1 hL' (s k h q m hm)
    · have : k = i := by omega
      subst this; exact s' q m hm
theorem bb_yw2 {post : SY → Prop} {nv : Int32} {P Q : Nat} {G : Nat → Nat} (hG : ∀ i, i < 6 → G i < 65536)
    (hQ : ∀ i, i < 6 → (Q.testBit i = true ↔ P.testBit i = true ∧ nI i ≠ nv))
    (hp : ∀ b', bb_EI (bb_Z Q G) b' → post (bb_A (bb_bt P), bb_A G, bb_A b', ao)) :
    ∀ d m b, m + d = 16 → (∀ k, k < m → b k = 0) → wY_work_2 post nv (d + 1) (nI m) (bb_A (bb_bt P)) (bb_A G) (bb_A b) ao := by
  intro d
  induction d with
  | zero =>
    intro m b hm s
    have : m = 16 := by omega
    subst this
    refine pk_le 16 16 (fun _ => Exists.intro 7 ?_) (fun h => absurd h (by omega))
    refine bb_yw23 hG hQ hp 6 0 b rfl ⟨fun m hm => Or.inl (s m hm), fun m hm => by rw [s m hm]; exact bb_In_0 _⟩ (fun k hk => absurd hk (Nat.not_lt_zero k))
  | succ d ih =>
    intro m b hm s
    refine pk_le 16 m (fun h => absurd h (by omega)) (fun _ => And.intro (vp_in_nI (by omega) (by omega)) ?_)
    refine nm_r (e' := bb_A (bb_up b m 0)) (bb_upA (by omega)) (nm_r (nI_1 m) (ih (m + 1) _ (by omega) (fun k hk => ?_)))
    rcases Nat.lt_or_ge k m with h | h
    · rw [bb_upn (by omega)]; exact s k h
    · have : k = m := by omega
      subst this; exact bb_ups
theorem bb_ywork {post : SY → Prop} {nv : Int32} {P : Nat} (Q : Nat) {G b : Nat → Nat} (hG : ∀ i, i < 6 → G i < 65536)
    (hQ : ∀ i, i < 6 → (Q.testBit i = true ↔ P.testBit i = true ∧ nI i ≠ nv))
    (hp : ∀ b', bb_EI (bb_Z Q G) b' → post (bb_A (bb_bt P), bb_A G, bb_A b', ao)) : wpY_work post (bb_A (bb_bt P), bb_A G, bb_A b, ao) nv :=
  Exists.intro 17 (bb_yw2 hG hQ hp 16 0 b rfl (fun k hk => absurd hk (Nat.not_lt_zero k)))
theorem bb_nIm1 : ∀ i, i < 6 → nI i ≠ (-1) := by decide +kernel
theorem bb_ywork1 {post : SY → Prop} {P : Nat} {G b : Nat → Nat} (hG : ∀ i, i < 6 → G i < 65536)
    (hp : ∀ b', bb_EI (bb_Z P G) b' → post (bb_A (bb_bt P), bb_A G, bb_A b', ao)) : wpY_work post (bb_A (bb_bt P), bb_A G, bb_A b, ao) (-1) :=
  bb_ywork P hG (fun i hi => ⟨fun h => ⟨h, bb_nIm1 i hi⟩, fun h => h.1⟩) hp
end
end
section
/-! the reference's walks: questions -/
theorem bb_nb (c : Bool) : narrow .boolean (.int (nI c.toNat)) = .int (nI c.toNat) := by cases c <;> rfl
section
variable {at' ag ah ao : Nat → Int32}
theorem bb_yl17 {b : Nat → Nat} (hb : bb_EF b) {post : Int32 → Prop} {m : Nat} (hm : m < 16) (hp : post (nI (bb_ls b m).toNat)) :
    ∀ d i, i + d = 16 → wY_least_17 post (nI m) at' ag (bb_A b) ao (d + 1) (nI (bb_lr b m i).toNat) (nI i) := by
  intro d
  induction d with
  | zero =>
    intro i hi
    have : i = 16 := by omega
    subst this
    exact pk_le 16 16 (fun _ => And.intro (bb_nb _) hp) (fun h => absurd h (by omega))
  | succ d ih =>
    intro i hi
    have hl := bb_EF_l16 hb (m := i) (by omega)
    have K0 : bb_lr b m (i + 1) = false → wY_least_17 post (nI m) at' ag (bb_A b) ao (d + 1) 0 (nI (i + 1)) := by
      intro c
      have ih' := ih (i + 1) (by omega)
      rw [c] at ih'; exact ih'
    have K1 : bb_lr b m (i + 1) = true → wY_least_17 post (nI m) at' ag (bb_A b) ao (d + 1) 1 (nI (i + 1)) := by
      intro c
      have ih' := ih (i + 1) (by omega)
      rw [c] at ih'; exact ih'
    have st : bb_lr b m (i + 1) = (bb_lr b m i && !(decide (i ≠ m) && (decide (bb_df i m = 0) && decide (b i ≠ 0)))) := rfl
    refine pk_le 16 i (fun h => absurd h (by omega)) (fun _ => ?_)
    refine bb_brb (bb_lr b m i) (fun e => nm_r (nI_1 i) (K0 (by rw [st, e]; rfl))) (fun e => ?_)
    refine pk_eq i m (fun c => nm_r (nI_1 i) (K1 ?_)) (fun c => ?_)
    · rw [st, e, decide_eq_false (fun h => h c)]; rfl
    · refine bb_sub i m (by omega) hm (fun c2 => And.intro (vp_in_nI (by omega) (by omega)) ?_) (fun c2 => nm_r (nI_1 i) (K1 ?_))
      · refine pk_eq (b i) 0 (fun c3 => nm_r (nI_1 i) (K1 ?_)) (fun c3 => nm_r (nI_1 i) (K0 ?_)) (bb_at (by omega))
        · rw [st, e, decide_eq_false (fun h : b i ≠ 0 => h c3), Bool.and_false, Bool.and_false]; rfl
        · rw [st, e, decide_eq_true c, decide_eq_true c2, decide_eq_true c3]; rfl
      · rw [st, e, decide_eq_false c2, Bool.false_and, Bool.and_false]; rfl
theorem bb_yleast {b : Nat → Nat} (hb : bb_EF b) {post : Int32 → Prop} {x : Int32} (m : Nat) (hm : m < 16) (hp : post (nI (bb_ls b m).toNat)) (hx : x = nI m := by rfl) : wpY_least post (at', ag, bb_A b, ao) x := by
  subst hx
  have hl := bb_EF_l16 hb hm
  have k := bb_yl17 (at' := at') (ag := ag) (ao := ao) hb hm hp 16 0 rfl
  have st : bb_lr b m 0 = decide (b m ≠ 0) := rfl
  unfold wpY_least
  refine And.intro (vp_in_nI hm (by omega)) (pk_eq (b m) 0 (fun e => Exists.intro 17 ?_) (fun e => Exists.intro 17 ?_) (bb_at (by omega)))
  · rw [st, decide_eq_false (fun h => h e)] at k; exact k
  · rw [st, decide_eq_true e] at k; exact k
theorem bb_ybs9 {b : Nat → Nat} (hb : bb_EF b) {post : Int32 → SY → Prop} (hp : post (nI (bb_ct (bb_ls b) 16)) (at', ag, bb_A b, ao)) :
    ∀ d i, i + d = 16 → wY_basisSize_9 post at' ag (bb_A b) ao (d + 1) (nI (bb_ct (bb_ls b) i)) (nI i) := by
  intro d
  induction d with
  | zero =>
    intro i hi
    have : i = 16 := by omega
    subst this
    exact pk_le 16 16 (fun _ => hp) (fun h => absurd h (by omega))
  | succ d ih =>
    intro i hi
    have ih' := ih (i + 1) (by omega)
    refine pk_le 16 i (fun h => absurd h (by omega)) (fun _ => bb_yleast hb i (by omega) ?_)
    refine bb_brb (bb_ls b i) (fun e => nm_r (nI_1 i) ?_) (fun e => nm_r (nI_1 _) (nm_r (nI_1 i) ?_))
    · rw [bb_ct_z e] at ih'; exact ih'
    · rw [bb_ct_s e] at ih'; exact ih'
theorem bb_yba9 {b : Nat → Nat} (hb : bb_EF b) {post : Int32 → SY → Prop} {x : Int32}
    (h1 : ∀ m, m < 16 → bb_ls b m = true → nI (bb_ct (bb_ls b) m) = x → post (nI (bb_bs b m)) (at', ag, bb_A b, ao))
    (h0 : (∀ m, m < 16 → bb_ls b m = true → nI (bb_ct (bb_ls b) m) ≠ x) → post (-1) (at', ag, bb_A b, ao)) :
    ∀ d i, i + d = 16 → (∀ m, m < i → bb_ls b m = true → nI (bb_ct (bb_ls b) m) ≠ x) → wY_basisAt_9 post x at' ag (bb_A b) ao (d + 1) (nI (bb_ct (bb_ls b) i)) (nI i) := by
  intro d
  induction d with
  | zero =>
    intro i hi s
    have : i = 16 := by omega
    subst this
    exact pk_le 16 16 (fun _ => h0 s) (fun h => absurd h (by omega))
  | succ d ih =>
    intro i hi s
    have ih' := ih (i + 1) (by omega)
    refine pk_le 16 i (fun h => absurd h (by omega)) (fun _ => bb_yleast hb i (by omega) ?_)
    refine bb_brb (bb_ls b i) (fun e => nm_r (nI_1 i) ?_) (fun e => br_c (fun c => ?_) (fun c => nm_r (nI_1 _) (nm_r (nI_1 i) ?_)))
    · rw [bb_ct_z e] at ih'
      refine ih' (fun m hm l => ?_)
      rcases Nat.lt_or_ge m i with h | h
      · exact s m h l
      · have : m = i := by omega
        subst this; rw [e] at l; cases l
    · refine bb_yred hb (2 ^ i) (bb_p16 (by omega)) ?_ (bb_sh i (by omega))
      have e2 : ((1 : Int32) <<< (nI i &&& 31)) ^^^ nI (bb_rd b 16 (2 ^ i)) = nI (bb_bs b i) := by rw [bb_sh i (by omega), nx_xor]; rfl
      rw [e2]
      exact h1 i (by omega) e c
    · rw [bb_ct_s e] at ih'
      refine ih' (fun m hm l => ?_)
      rcases Nat.lt_or_ge m i with h | h
      · exact s m h l
      · have : m = i := by omega
        subst this; exact c
theorem bb_ybd9 {b : Nat → Nat} (hb : bb_EF b) {post : Int32 → SY → Prop} (hp : post (nI (bb_bd b 16)) (at', ag, bb_A b, ao)) :
    ∀ d i, i + d = 16 → wY_bound_9 post at' ag (bb_A b) ao (d + 1) (nI (bb_bd b i)) (nI i) := by
  intro d
  induction d with
  | zero =>
    intro i hi
    have : i = 16 := by omega
    subst this
    exact pk_le 16 16 (fun _ => hp) (fun h => absurd h (by omega))
  | succ d ih =>
    intro i hi
    have hl := bb_EF_l16 hb (m := i) (by omega)
    have ih' := ih (i + 1) (by omega)
    have st : bb_bd b (i + 1) = bb_bd b i ||| bb_sel (decide (b i ≠ 0)) (2 ^ i) := rfl
    refine pk_le 16 i (fun h => absurd h (by omega)) (fun _ => And.intro (vp_in_nI (by omega) (by omega)) ?_)
    refine pk_eq (b i) 0 (fun e => nm_r (nI_1 i) ?_) (fun e => nm_r (e' := nI (bb_bd b (i + 1))) ?_ (nm_r (nI_1 i) ih')) (bb_at (by omega))
    · have z : bb_bd b (i + 1) = bb_bd b i := by
        rw [st, decide_eq_false (fun h => h e)]; exact Nat.or_zero _
      rw [z] at ih'; exact ih'
    · rw [bb_sh i (by omega), bb_or, st, decide_eq_true e]; rfl
/-! zeros -/
theorem bb_yz15 {post : Int32 → Prop} {J : Int32 → Int32 → Prop} {P p s : Nat} {G : Nat → Nat} (hG : ∀ i, i < 6 → G i < 65536) (hp : p < 16)
    (hJ : J (nI (s ||| bb_sel (bb_Z P G p) (2 ^ p))) (nI (p + 1))) :
    ∀ d i, i + d = 6 → wY_zeros_15 post J (nI s) (nI p) (bb_A (bb_bt P)) (bb_A G) ah ao (d + 1) (nI (bb_zr P G p i).toNat) (nI i) := by
  intro d
  induction d with
  | zero =>
    intro i hi
    have : i = 6 := by omega
    subst this
    refine pk_le 6 6 (fun _ => bb_brb (bb_Z P G p) (fun e => nm_r (nI_1 p) ?_) (fun e => nm_r (e' := nI (s ||| 2 ^ p)) ?_ (nm_r (nI_1 p) ?_))) (fun h => absurd h (by omega))
    · rw [e, show bb_sel false (2 ^ p) = 0 from rfl, Nat.or_zero] at hJ; exact hJ
    · rw [bb_sh p (by omega), bb_or]
    · rw [e] at hJ; exact hJ
  | succ d ih =>
    intro i hi
    have K0 : bb_zr P G p (i + 1) = false → wY_zeros_15 post J (nI s) (nI p) (bb_A (bb_bt P)) (bb_A G) ah ao (d + 1) 0 (nI (i + 1)) := by
      intro c
      have ih' := ih (i + 1) (by omega)
      rw [c] at ih'; exact ih'
    have K1 : bb_zr P G p (i + 1) = true → wY_zeros_15 post J (nI s) (nI p) (bb_A (bb_bt P)) (bb_A G) ah ao (d + 1) 1 (nI (i + 1)) := by
      intro c
      have ih' := ih (i + 1) (by omega)
      rw [c] at ih'; exact ih'
    have st : bb_zr P G p (i + 1) = (bb_zr P G p i && (!P.testBit i || !bb_ev (G i) p)) := rfl
    have vi : vp_in (nI i) 6 := vp_in_nI (by omega) (by omega)
    refine pk_le 6 i (fun h => absurd h (by omega)) (fun _ => ?_)
    refine bb_brb (bb_zr P G p i) (fun e => nm_r (nI_1 i) (K0 (by rw [st, e]; rfl))) (fun e => And.intro vi ?_)
    refine bb_brb (P.testBit i) (fun c => nm_r (nI_1 i) (K1 (by rw [st, e, c]; rfl))) (fun c => And.intro vi ?_) (bb_at (by omega))
    refine bb_yval (G i) p (hG i (by omega)) hp ?_ (bb_at (by omega))
    exact bb_brb (bb_ev (G i) p) (fun q => nm_r (nI_1 i) (K1 (by rw [st, e, c, q]; rfl))) (fun q => nm_r (nI_1 i) (K0 (by rw [st, e, c, q]; rfl)))
theorem bb_yz4 {post : Int32 → Prop} {P : Nat} {G : Nat → Nat} (hG : ∀ i, i < 6 → G i < 65536) (hp : post (nI (bb_zs (bb_Z P G) 16))) :
    ∀ d p, p + d = 16 → wY_zeros_4 post (bb_A (bb_bt P)) (bb_A G) ah ao (d + 1) (nI (bb_zs (bb_Z P G) p)) (nI p) := by
  intro d
  induction d with
  | zero =>
    intro i hi
    have : i = 16 := by omega
    subst this
    exact pk_le 16 16 (fun _ => hp) (fun h => absurd h (by omega))
  | succ d ih =>
    intro p hi
    refine pk_le 16 p (fun h => absurd h (by omega)) (fun _ => Exists.intro 7 ?_)
    exact bb_yz15 hG (by omega) (ih (p + 1) (by omega)) 6 0 rfl
theorem bb_yzeros {post : Int32 → Prop} {P : Nat} {G : Nat → Nat} (hG : ∀ i, i < 6 → G i < 65536) (hp : post (nI (bb_zs (bb_Z P G) 16))) : wpY_zeros post (bb_A (bb_bt P), bb_A G, ah, ao) :=
  Exists.intro 17 (bb_yz4 hG hp 16 0 rfl)
theorem bb_yzc9 {post : Int32 → Prop} {z : Nat} (hz : z < 65536) (hp : post (nI (bb_ct (fun p => z.testBit p) 16))) :
    ∀ d p, p + d = 16 → wY_zeroCount_9 post (nI z) at' ag ah ao (d + 1) (nI (bb_ct (fun p => z.testBit p) p)) (nI p) := by
  intro d
  induction d with
  | zero =>
    intro i hi
    have : i = 16 := by omega
    subst this
    exact pk_le 16 16 (fun _ => hp) (fun h => absurd h (by omega))
  | succ d ih =>
    intro p hi
    refine pk_le 16 p (fun h => absurd h (by omega)) (fun _ => nm_r (e' := nI (bb_ct (fun p => z.testBit p) (p + 1))) ?_ (nm_r (nI_1 p) (ih (p + 1) (by omega))))
    rw [bb_bit (by omega) (by omega), nI_add]; rfl
def bb_vl (z : Nat) (x : Int32) : Nat → Int32
  | 0 => 0
  | p + 1 => cond (z.testBit p) (bb_vl z x p ||| ((1 : Int32) <<< (((nI p >>> (x &&& 31)) &&& 1) &&& 31))) (bb_vl z x p)
theorem bb_yv10 {post : Int32 → Prop} {z : Nat} {x : Int32} (hz : z < 65536) (hx0 : ¬ x < 0) (hx3 : ¬ 3 < x) (hp : post (bb_vl z x 16)) :
    ∀ d p, p + d = 16 → wY_values_10 post x (nI z) at' ag ah ao (d + 1) (bb_vl z x p) (nI p) := by
  intro d
  induction d with
  | zero =>
    intro i hi
    have : i = 16 := by omega
    subst this
    exact pk_le 16 16 (fun _ => hp) (fun h => absurd h (by omega))
  | succ d ih =>
    intro p hi
    have ih' := ih (p + 1) (by omega)
    have st : bb_vl z x (p + 1) = cond (z.testBit p) (bb_vl z x p ||| ((1 : Int32) <<< (((nI p >>> (x &&& 31)) &&& 1) &&& 31))) (bb_vl z x p) := rfl
    refine pk_le 16 p (fun h => absurd h (by omega)) (fun _ => br_f hx0 (br_f hx3 ?_))
    refine bb_b1 z p hz (by omega) (fun e => ?_) (fun e => ?_)
    · rw [st, e] at ih'; exact nm_e (nm_r (nI_1 p) ih')
    · rw [st, e] at ih'; exact nm_r (nI_1 p) ih'
theorem bb_yv10' {post : Int32 → Prop} {x y z : Int32} (h : x < 0 ∨ (¬ x < 0 ∧ 3 < x)) (hp : post y) : wY_values_10 post x z at' ag ah ao 1 y 0 := by
  rcases h with h | ⟨h, h'⟩
  · exact pk_le 16 0 (fun h => absurd h (by omega)) (fun _ => br_t h hp)
  · exact pk_le 16 0 (fun h => absurd h (by omega)) (fun _ => br_f h (br_t h' hp))
/-! a relation of some variables -/
theorem bb_yi5 {o : Nat → Nat} (ho : bb_EF o) {post : Int32 → SY → Prop} {r0 : Nat} (h0 : bb_rd o 16 r0 = 0 → post 0 (at', ag, ah, bb_A o))
    (h1 : ∀ j r, j < 16 → bb_HD r j → o j = 0 → bb_rd o 16 (r0 ^^^ r) = 0 → post 1 (at', ag, ah, bb_A (bb_up o j r))) :
    ∀ k r, k ≤ 16 → r < 2 ^ k → r < 65536 → bb_rd o 16 (r0 ^^^ r) = 0 → wY_independent_5 post at' ag ah (bb_A o) (k + 1) (nI r) (nI k + (-1)) := by
  intro k
  induction k with
  | zero =>
    intro r _ h _ hk
    have : r = 0 := by simp at h; exact h
    rw [this, Nat.xor_zero] at hk
    exact br_t (by decide) (h0 hk)
  | succ k ih =>
    intro r hk hr hl hz
    rw [pk_m1]
    have hol := bb_EF_l16 ho (m := k) (by omega)
    have vi : vp_in (nI k) 16 := vp_in_nI (by omega) (by omega)
    refine br_f (nI_pos (by omega)) ?_
    refine bb_b1 r k hl (by omega) (fun hb => And.intro vi ?_) (fun hb => nm_e (ih r (by omega) (bb_low hr hb) hl hz))
    refine pk_eq (o k) 0 (fun e => And.intro vi (nm_r (bb_upA (by omega)) (h1 k r (by omega) ⟨hb, hr⟩ e hz))) (fun e => And.intro vi ?_) (bb_at (by omega))
    refine nm_r (e' := nI (r ^^^ o k)) (by rw [bb_at (by omega), nx_xor]) (nm_e (ih _ (by omega) (bb_HD_x ⟨hb, hr⟩ (bb_EF_hd ho (by omega) e)) (bb_xlt hl hol) ?_))
    rw [← Nat.xor_assoc]
    exact bb_kx hz (bb_self ho (by omega))
theorem bb_yind {o : Nat → Nat} (ho : bb_EF o) {post : Int32 → SY → Prop} {x : Int32} (r0 : Nat) (hr : r0 < 65536) (h0 : bb_rd o 16 r0 = 0 → post 0 (at', ag, ah, bb_A o))
    (h1 : ∀ j r, j < 16 → bb_HD r j → o j = 0 → bb_rd o 16 (r0 ^^^ r) = 0 → post 1 (at', ag, ah, bb_A (bb_up o j r))) (hx : x = nI r0 := by rfl) : wpY_independent post (at', ag, ah, bb_A o) x := by
  subst hx
  exact Exists.intro 17 (bb_yi5 ho h0 h1 16 r0 (by omega) hr hr (by rw [Nat.xor_self, bb_rd_0]))
theorem bb_yr42t {b : Nat → Nat} {post : Int32 → SY → Prop} {a : Nat} {o : Nat → Nat} (ha : a < 16) (hp : post 1 (at', ag, bb_A b, bb_A o)) :
    ∀ d i, i + d = 16 → wY_relates_42 post (nI a) (d + 1) 1 (nI i) at' ag (bb_A b) (bb_A o) := by
  intro d
  induction d with
  | zero =>
    intro i hi
    have : i = 16 := by omega
    subst this
    exact pk_le 16 16 (fun _ => And.intro (bb_nb true) hp) (fun h => absurd h (by omega))
  | succ d ih =>
    intro i hi
    have ih' := ih (i + 1) (by omega)
    refine pk_le 16 i (fun h => absurd h (by omega)) (fun _ => ?_)
    exact bb_sub i a (by omega) ha (fun _ => br_f (by decide) (nm_r (nI_1 i) ih')) (fun _ => nm_r (nI_1 i) ih')
theorem bb_yr42 {b : Nat → Nat} (hb : bb_EF b) {post : Int32 → SY → Prop} {a : Nat} (ha : a < 16)
    (h1 : (∃ f, bb_SP a 16 f ∧ f ≠ 0 ∧ bb_rd b 16 f = 0) → ∀ o, post 1 (at', ag, bb_A b, bb_A o))
    (h0 : (∀ f, bb_SP a 16 f → bb_rd b 16 f = 0 → f = 0) → ∀ o, post 0 (at', ag, bb_A b, bb_A o)) :
    ∀ d i o, i + d = 16 → bb_OI b a i o → wY_relates_42 post (nI a) (d + 1) 0 (nI i) at' ag (bb_A b) (bb_A o) := by
  intro d
  induction d with
  | zero =>
    intro i o hi hO
    have : i = 16 := by omega
    subst this
    exact pk_le 16 16 (fun _ => And.intro (bb_nb false) (h0 hO.2.2.1 o)) (fun h => absurd h (by omega))
  | succ d ih =>
    intro i o hi hO
    refine pk_le 16 i (fun h => absurd h (by omega)) (fun _ => ?_)
    refine bb_sub i a (by omega) ha (fun e => br_t rfl ?_) (fun e => nm_r (nI_1 i) (ih (i + 1) o (by omega) (bb_OI_skip hO e)))
    refine bb_yred hb (2 ^ i) (bb_p16 (by omega)) ?_ (bb_sh i (by omega))
    refine bb_yind hO.1 (bb_rd b 16 (2 ^ i)) (bb_rd_lt hb (bb_p16 (by omega))) (fun z => br_t rfl (nm_r (nI_1 i) ?_)) (fun j r hj hd hoj hz => br_f (by decide) (nm_r (nI_1 i) ?_))
    · exact bb_yr42t ha (h1 (bb_OI_dep (by omega) e hO z) o) d (i + 1) (by omega)
    · exact ih (i + 1) _ (by omega) (bb_OI_ind e hO hj hd hoj hz)
theorem bb_yr19 {b : Nat → Nat} (hb : bb_EF b) {post : Int32 → SY → Prop} {a : Nat} (ha : a < 16)
    (h1 : (∃ f, bb_SP a 16 f ∧ f ≠ 0 ∧ bb_rd b 16 f = 0) → ∀ o, post 1 (at', ag, bb_A b, bb_A o))
    (h0 : (∀ f, bb_SP a 16 f → bb_rd b 16 f = 0 → f = 0) → ∀ o, post 0 (at', ag, bb_A b, bb_A o)) :
    ∀ d m o, m + d = 16 → (∀ k, k < m → o k = 0) → wY_relates_19 post (nI a) (d + 1) (nI m) at' ag (bb_A b) (bb_A o) := by
  intro d
  induction d with
  | zero =>
    intro m o hm s
    have : m = 16 := by omega
    subst this
    exact pk_le 16 16 (fun _ => Exists.intro 17 (bb_yr42 hb ha h1 h0 16 0 o rfl (bb_OI_0 s))) (fun h => absurd h (by omega))
  | succ d ih =>
    intro m o hm s
    refine pk_le 16 m (fun h => absurd h (by omega)) (fun _ => And.intro (vp_in_nI (by omega) (by omega)) ?_)
    refine nm_r (e' := bb_A (bb_up o m 0)) (bb_upA (by omega)) (nm_r (nI_1 m) (ih (m + 1) _ (by omega) (fun k hk => ?_)))
    rcases Nat.lt_or_ge k m with h | h
    · rw [bb_upn (by omega)]; exact s k h
    · have : k = m := by omega
      subst this; exact bb_ups
end
end
section
/-! the component's walks: questions -/
section
variable {xp xk xs xc xb xz : Int32} {ag ap ah ax : Nat → Int32}
theorem bb_xzc8 {post : Int32 → SX → Prop} {z : Nat} (hz : z < 65536) (hp : post (nI (bb_ct (fun p => z.testBit p) 16)) (xp, xk, xs, xc, xb, nI z, ag, ap, ah, ax)) :
    ∀ d p, p + d = 16 → wX_zeroCount_8 post xp xk xs xc xb (nI z) ag ap ah ax (d + 1) (nI (bb_ct (fun p => z.testBit p) p)) (nI p) := by
  intro d
  induction d with
  | zero =>
    intro i hi
    have : i = 16 := by omega
    subst this
    exact pk_le 16 16 (fun _ => hp) (fun h => absurd h (by omega))
  | succ d ih =>
    intro p hi
    refine pk_le 16 p (fun h => absurd h (by omega)) (fun _ => nm_r (e' := nI (bb_ct (fun p => z.testBit p) (p + 1))) ?_ (nm_r (nI_1 p) (ih (p + 1) (by omega))))
    rw [bb_bit (by omega) (by omega), nI_add]; rfl
theorem bb_xv19 {post : Int32 → SX → Prop} {z : Nat} {x : Int32} (hz : z < 65536) (hp : post (bb_vl z x 16) (xp, xk, xs, xc, xb, nI z, ag, ap, ah, ax)) :
    ∀ d p, p + d = 16 → wX_values_19 post x xp xk xs xc xb (nI z) ag ap ah ax (d + 1) (bb_vl z x p) (nI p) := by
  intro d
  induction d with
  | zero =>
    intro i hi
    have : i = 16 := by omega
    subst this
    exact pk_le 16 16 (fun _ => hp) (fun h => absurd h (by omega))
  | succ d ih =>
    intro p hi
    have ih' := ih (p + 1) (by omega)
    have st : bb_vl z x (p + 1) = cond (z.testBit p) (bb_vl z x p ||| ((1 : Int32) <<< (((nI p >>> (x &&& 31)) &&& 1) &&& 31))) (bb_vl z x p) := rfl
    refine pk_le 16 p (fun h => absurd h (by omega)) (fun _ => ?_)
    refine bb_b0 z p hz (by omega) (fun e => ?_) (fun e => ?_)
    · rw [st, e] at ih'; exact nm_r (nI_1 p) ih'
    · rw [st, e] at ih'; exact nm_e (nm_r (nI_1 p) ih')
/-- the points that the zeros leave in some variables -/
def bb_sn (z a : Nat) : Nat → Nat
  | 0 => 0
  | p + 1 => bb_sn z a p ||| bb_sel (z.testBit p) (2 ^ (p &&& a))
theorem bb_sn_lt {z a : Nat} (ha : a < 16) : ∀ k, bb_sn z a k < 65536 := by
  intro k
  induction k with
  | zero => show 0 < 65536; omega
  | succ k ih => exact Nat.or_lt_two_pow (n := 16) ih (bb_sellt (by omega) (bb_p16 (bb_and16 ha)))
theorem bb_sn_b {z a q : Nat} : ∀ k, (bb_sn z a k).testBit q = true ↔ ∃ p, p < k ∧ z.testBit p = true ∧ p &&& a = q := by
  intro k
  induction k with
  | zero =>
    constructor
    · intro h; rw [show bb_sn z a 0 = 0 from rfl, Nat.zero_testBit] at h; cases h
    · rintro ⟨p, h, _⟩; exact absurd h (Nat.not_lt_zero p)
  | succ k ih =>
    rw [show bb_sn z a (k + 1) = bb_sn z a k ||| bb_sel (z.testBit k) (2 ^ (k &&& a)) from rfl, Nat.testBit_or, Bool.or_eq_true, ih]
    constructor
    · rintro (⟨p, h1, h2⟩ | h)
      · exact ⟨p, by omega, h2⟩
      · cases e : z.testBit k with
        | false => rw [e, show bb_sel false (2 ^ (k &&& a)) = 0 from rfl, Nat.zero_testBit] at h; cases h
        | true =>
          rw [e, show bb_sel true (2 ^ (k &&& a)) = 2 ^ (k &&& a) from rfl, Nat.testBit_two_pow] at h
          exact ⟨k, by omega, e, of_decide_eq_true h⟩
    · rintro ⟨p, h1, h2, h3⟩
      rcases Nat.lt_or_ge p k with h | h
      · exact Or.inl ⟨p, h, h2, h3⟩
      · have : p = k := by omega
        subst this
        refine Or.inr ?_
        rw [h2, h3]; exact Nat.testBit_two_pow_self
theorem bb_xr53 {post : Int32 → SX → Prop} {a s : Nat} (ha : a < 16) (hs : s < 65536)
    (h1 : (∃ q, q < 16 ∧ bb_df q a = 0 ∧ s.testBit q = false) → post 1 (xp, xk, xs, xc, xb, xz, ag, ap, ah, ax))
    (h0 : (∀ q, q < 16 → bb_df q a = 0 → s.testBit q = true) → post 0 (xp, xk, xs, xc, xb, xz, ag, ap, ah, ax)) :
    ∀ d q, q + d = 16 → (∀ j, j < q → bb_df j a = 0 → s.testBit j = true) → wX_relates_53 post (nI a) (nI s) xp xk xs xc xb xz ag ap ah ax (d + 1) (nI q) := by
  intro d
  induction d with
  | zero =>
    intro i hi h
    have : i = 16 := by omega
    subst this
    exact pk_le 16 16 (fun _ => h0 h) (fun h => absurd h (by omega))
  | succ d ih =>
    intro q hi h
    refine pk_le 16 q (fun h => absurd h (by omega)) (fun _ => ?_)
    have next : (bb_df q a = 0 → s.testBit q = true) → ∀ j, j < q + 1 → bb_df j a = 0 → s.testBit j = true := by
      intro c j hj e
      rcases Nat.lt_or_ge j q with k | k
      · exact h j k e
      · have : j = q := by omega
        subst this; exact c e
    refine bb_sub q a (by omega) ha (fun e => ?_) (fun e => nm_r (nI_1 q) (ih (q + 1) (by omega) (next (fun c => absurd c e))))
    exact bb_b0 s q hs (by omega) (fun c => h1 ⟨q, by omega, e, c⟩) (fun c => nm_r (nI_1 q) (ih (q + 1) (by omega) (next (fun _ => c))))
theorem bb_xr20 {post : Int32 → SX → Prop} {a z : Nat} (ha : a < 16) (hz : z < 65536)
    (h1 : (∃ q, q < 16 ∧ bb_df q a = 0 ∧ (bb_sn z a 16).testBit q = false) → post 1 (xp, xk, xs, xc, xb, nI z, ag, ap, ah, ax))
    (h0 : (∀ q, q < 16 → bb_df q a = 0 → (bb_sn z a 16).testBit q = true) → post 0 (xp, xk, xs, xc, xb, nI z, ag, ap, ah, ax)) :
    ∀ d p, p + d = 16 → wX_relates_20 post (nI a) xp xk xs xc xb (nI z) ag ap ah ax (d + 1) (nI (bb_sn z a p)) (nI p) := by
  intro d
  induction d with
  | zero =>
    intro i hi
    have : i = 16 := by omega
    subst this
    exact pk_le 16 16 (fun _ => Exists.intro 17 (bb_xr53 ha (bb_sn_lt ha 16) h1 h0 16 0 rfl (fun j hj => absurd hj (Nat.not_lt_zero j)))) (fun h => absurd h (by omega))
  | succ d ih =>
    intro p hi
    have ih' := ih (p + 1) (by omega)
    have st : bb_sn z a (p + 1) = bb_sn z a p ||| bb_sel (z.testBit p) (2 ^ (p &&& a)) := rfl
    have l16 : p &&& a < 16 := bb_and16 ha
    refine pk_le 16 p (fun h => absurd h (by omega)) (fun _ => ?_)
    refine bb_b0 z p hz (by omega) (fun e => ?_) (fun e => ?_)
    · rw [st, e, show bb_sel false (2 ^ (p &&& a)) = 0 from rfl, Nat.or_zero] at ih'; exact nm_r (nI_1 p) ih'
    · rw [st, e] at ih'
      exact nm_r (e' := nI (bb_sn z a p ||| 2 ^ (p &&& a))) (by rw [nx_and, bb_sh _ (by omega), bb_or]) (nm_r (nI_1 p) ih')
theorem bb_xrel {post : Int32 → SX → Prop} {a : Nat} {Z : Nat → Bool} (ha : a < 16)
    (h1 : (∃ q, q < 16 ∧ bb_df q a = 0 ∧ ∀ p, p < 16 → Z p = true → p &&& a ≠ q) → post 1 (xp, xk, xs, xc, xb, nI (bb_zs Z 16), ag, ap, ah, ax))
    (h0 : (¬ ∃ q, q < 16 ∧ bb_df q a = 0 ∧ ∀ p, p < 16 → Z p = true → p &&& a ≠ q) → post 0 (xp, xk, xs, xc, xb, nI (bb_zs Z 16), ag, ap, ah, ax)) :
    ∃ n, wX_relates_20 post (nI a) xp xk xs xc xb (nI (bb_zs Z 16)) ag ap ah ax n 0 0 := by
  have bz : ∀ p, p < 16 → ((bb_zs Z 16).testBit p = true ↔ Z p = true) := by
    intro p hp
    rw [bb_zs_b, decide_eq_true hp, Bool.true_and]
  refine Exists.intro 17 (bb_xr20 ha (bb_zs_lt Z 16 (by omega)) (fun h => h1 ?_) (fun h => h0 ?_) 16 0 rfl)
  · obtain ⟨q, hq, hs, e⟩ := h
    refine ⟨q, hq, hs, fun p hp hz c => ?_⟩
    have := (bb_sn_b 16).2 ⟨p, hp, (bz p hp).2 hz, c⟩
    rw [e] at this; cases this
  · rintro ⟨q, hq, hs, e⟩
    obtain ⟨p, hp, hz, c⟩ := (bb_sn_b 16).1 (h q hq hs)
    exact e p hp ((bz p hp).1 hz) c
end
end
section
/-! the generators, and both sides' answers out of one family -/
def bb_rm (P i : Nat) : Nat := P &&& (63 ^^^ 2 ^ i)
theorem bb_rmI : ∀ P, P < 64 → ∀ i, i < 6 → nI P &&& (nI (2 ^ i) ^^^ (-1)) = nI (bb_rm P i) := by decide +kernel
theorem bb_rm_lt : ∀ P, P < 64 → ∀ i, i < 6 → bb_rm P i < 64 := by decide +kernel
theorem bb_rm_b : ∀ P, P < 64 → ∀ i, i < 6 → ∀ j, j < 6 → (bb_rm P i).testBit j = (P.testBit j && decide (j ≠ i)) := by decide +kernel
theorem bb_rm_x {P i : Nat} (hP : P < 64) (hi : i < 6) : nI P &&& (((1 : Int32) <<< (nI i &&& 31)) ^^^ (-1)) = nI (bb_rm P i) := by
  rw [bb_sh i (by omega)]; exact bb_rmI P hP i hi
theorem bb_th1 {P i : Nat} (hi : i < 6) : upd (bb_A (bb_bt P)) (nI i).toNatClampNeg (vp_nar .boolean 1) = bb_A (bb_bt (P ||| 2 ^ i)) := by
  have h : bb_up (bb_bt P) i 1 = bb_bt (P ||| 2 ^ i) := by
    funext j
    by_cases e : j = i
    · subst e
      rw [bb_ups]; unfold bb_bt
      rw [Nat.testBit_or, Nat.testBit_two_pow_self, Bool.or_true]; rfl
    · rw [bb_upn e]; unfold bb_bt
      rw [Nat.testBit_or, Nat.testBit_two_pow_of_ne (fun c => e c.symm), Bool.or_false]
  rw [← h]
  exact bb_upA (x := 1) (by omega)
theorem bb_th0 {P i : Nat} (hP : P < 64) (hi : i < 6) : upd (bb_A (bb_bt P)) (nI i).toNatClampNeg (vp_nar .boolean 0) = bb_A (bb_bt (bb_rm P i)) := by
  have h : bb_up (bb_bt P) i 0 = bb_bt (bb_rm P i) := by
    funext j
    rcases Nat.lt_or_ge j 6 with c | c
    · by_cases e : j = i
      · subst e
        rw [bb_ups]; unfold bb_bt
        rw [bb_rm_b P hP j hi j c, decide_eq_false (fun h => h rfl), Bool.and_false]; rfl
      · rw [bb_upn e]; unfold bb_bt
        rw [bb_rm_b P hP i hi j c, decide_eq_true e, Bool.and_true]
    · rw [bb_upn (by omega)]; unfold bb_bt
      rw [bb_tb (k := 6) hP c, bb_tb (k := 6) (bb_rm_lt P hP i hi) c]
  rw [← h]
  exact bb_upA (x := 0) (by omega)
section
variable {xk xs xc xb xz : Int32} {ap ah ax : Nat → Int32}
theorem bb_xadd {post : Int32 → SX → Prop} {P f : Nat} {G : Nat → Nat} (hP : P < 64)
    (h1 : ∀ i, i < 6 → P.testBit i = false → (∀ j, j < i → P.testBit j = true) → post (nI i) (nI (P ||| 2 ^ i), 0, xs, xc, xb, xz, bb_A (bb_up G i f), ap, ah, ax))
    (h0 : (∀ j, j < 6 → P.testBit j = true) → post (-2) (nI P, xk, xs, xc, xb, xz, bb_A G, ap, ah, ax)) :
    ∀ d i, i + d = 6 → (∀ j, j < i → P.testBit j = true) → wX_add_11 post (nI f) (nI P) xk xs xc xb xz (bb_A G) ap ah ax (d + 1) (nI i) := by
  intro d
  induction d with
  | zero =>
    intro i hi s
    have : i = 6 := by omega
    subst this
    exact pk_le 6 6 (fun _ => h0 s) (fun h => absurd h (by omega))
  | succ d ih =>
    intro i hi s
    refine pk_le 6 i (fun h => absurd h (by omega)) (fun _ => bb_xhas1 hP (by omega) ?_)
    refine bb_brb (P.testBit i) (fun e => ?_) (fun e => nm_r (nI_1 i) (ih (i + 1) (by omega) (lt_s s e)))
    exact nm_r (e' := nI (P ||| 2 ^ i)) (by rw [bb_sh i (by omega), bb_or]) (And.intro (vp_in_nI (by omega) (by omega)) (nm_r (bb_upA (by omega)) (h1 i (by omega) e s)))
theorem bb_yadd {post : Int32 → SY → Prop} {P f : Nat} {G : Nat → Nat} {ao : Nat → Int32}
    (h1 : ∀ i, i < 6 → P.testBit i = false → (∀ j, j < i → P.testBit j = true) → post (nI i) (bb_A (bb_bt (P ||| 2 ^ i)), bb_A (bb_up G i f), ah, ao))
    (h0 : (∀ j, j < 6 → P.testBit j = true) → post (-2) (bb_A (bb_bt P), bb_A G, ah, ao)) :
    ∀ d i, i + d = 6 → (∀ j, j < i → P.testBit j = true) → wY_add_12 post (nI f) (bb_A (bb_bt P)) (bb_A G) ah ao (d + 1) (nI i) := by
  intro d
  induction d with
  | zero =>
    intro i hi s
    have : i = 6 := by omega
    subst this
    exact pk_le 6 6 (fun _ => h0 s) (fun h => absurd h (by omega))
  | succ d ih =>
    intro i hi s
    have vi : vp_in (nI i) 6 := vp_in_nI (by omega) (by omega)
    refine pk_le 6 i (fun h => absurd h (by omega)) (fun _ => And.intro vi ?_)
    refine bb_brb (P.testBit i) (fun e => ?_) (fun e => nm_r (nI_1 i) (ih (i + 1) (by omega) (lt_s s e))) (bb_at (by omega))
    exact And.intro vi (nm_r (bb_th1 (by omega)) (And.intro vi (nm_r (bb_upA (by omega)) (h1 i (by omega) e s))))
def bb_gn (P : Nat) : Nat → Nat
  | 0 => 0
  | i + 1 => bb_gn P i ||| bb_sel (P.testBit i) (2 ^ i)
theorem bb_gn6 : ∀ P, P < 64 → bb_gn P 6 = P := by decide +kernel
theorem bb_ygen {post : Int32 → Prop} {P : Nat} {ag ao : Nat → Int32} (hP : P < 64) (hp : post (nI P)) :
    ∀ d i, i + d = 6 → wY_generators_4 post (bb_A (bb_bt P)) ag ah ao (d + 1) (nI (bb_gn P i)) (nI i) := by
  intro d
  induction d with
  | zero =>
    intro i hi
    have : i = 6 := by omega
    subst this
    rw [bb_gn6 P hP]
    exact pk_le 6 6 (fun _ => hp) (fun h => absurd h (by omega))
  | succ d ih =>
    intro i hi
    have ih' := ih (i + 1) (by omega)
    have st : bb_gn P (i + 1) = bb_gn P i ||| bb_sel (P.testBit i) (2 ^ i) := rfl
    refine pk_le 6 i (fun h => absurd h (by omega)) (fun _ => And.intro (vp_in_nI (by omega) (by omega)) ?_)
    refine bb_brb (P.testBit i) (fun e => ?_) (fun e => ?_) (bb_at (by omega))
    · rw [st, e, show bb_sel false (2 ^ i) = 0 from rfl, Nat.or_zero] at ih'; exact nm_r (nI_1 i) ih'
    · rw [st, e] at ih'
      exact nm_r (e' := nI (bb_gn P i ||| 2 ^ i)) (by rw [bb_sh i (by omega), bb_or]) (nm_r (nI_1 i) ih')
end
theorem bb_qc (x : Int32) : x < 0 ∨ (¬ x < 0 ∧ 16 ≤ x) ∨ ∃ p, p < 16 ∧ x = nI p := by
  by_cases h : x < 0
  · exact Or.inl h
  · obtain ⟨j, hj, rfl⟩ := nI_of h
    rcases Nat.lt_or_ge j 16 with e | e
    · exact Or.inr (Or.inr ⟨j, e, rfl⟩)
    · exact Or.inr (Or.inl ⟨h, nI_le (a := 16) e hj⟩)
theorem bb_vc (x : Int32) : (x < 0 ∨ (¬ x < 0 ∧ 3 < x)) ∨ (¬ x < 0 ∧ x ≤ 3) := by
  by_cases h : x < 0
  · exact Or.inl (Or.inl h)
  · by_cases c : 3 < x
    · exact Or.inl (Or.inr ⟨h, c⟩)
    · exact Or.inr ⟨h, Int32.not_lt.mp c⟩
/-- two families of one ideal give the same answers -/
theorem bb_tr {Z : Nat → Bool} {b c : Nat → Nat} (hb : bb_EI Z b) (hc : bb_EI Z c) :
    (∀ m, m < 16 → bb_ls b m = bb_ls c m) ∧ (∀ k, k ≤ 16 → bb_ct (bb_ls b) k = bb_ct (bb_ls c) k) ∧ bb_bd b 16 = bb_bd c 16 ∧ (∀ m, m < 16 → bb_bs b m = bb_bs c m) ∧ ∀ f, f < 65536 → bb_rd b 16 f = bb_rd c 16 f := by
  obtain ⟨h1, h2⟩ := bb_EI_u hb hc
  have l : ∀ m, m < 16 → bb_ls b m = bb_ls c m := fun m hm => bb_ls_u h1 hm
  refine ⟨l, fun k hk => bb_ct_c k (fun m hm => l m (by omega)), bb_bd_u 16 h1, fun m hm => ?_, h2⟩
  unfold bb_bs
  rw [h2 _ (bb_p16 hm)]
/-! the relation: the same generators; what the component has learnt is right -/
def bb_KK (P : Nat) (G pl hd ab : Nat → Nat) (xk xs xc xb xz : Int32) : Prop :=
  xk = 0 ∨ (xk = 1 ∧ ∃ n, bb_KN P G n pl hd ab ∧ xs = nI n ∧ xc = nI (bb_ct (bb_ls (bb_bx pl hd n)) 16) ∧ xb = nI (bb_bd (bb_bx pl hd n) 16) ∧ xz = nI (bb_zs (bb_Z P G) 16))
def i_Rel (_ : Nat) (u : SX) (v : SY) : Prop := ∃ (P : Nat) (G pl hd ab hy oy : Nat → Nat) (xk xs xc xb xz : Int32),
  u = (nI P, xk, xs, xc, xb, xz, bb_A G, bb_A pl, bb_A hd, bb_A ab) ∧ v = (bb_A (bb_bt P), bb_A G, bb_A hy, bb_A oy) ∧ P < 64 ∧ (∀ i, i < 6 → G i < 65536) ∧ bb_KK P G pl hd ab xk xs xc xb xz
theorem bb_mk {k P : Nat} {G pl hd ab hy oy : Nat → Nat} {xk xs xc xb xz : Int32} (hP : P < 64) (hG : ∀ i, i < 6 → G i < 65536) (hk : bb_KK P G pl hd ab xk xs xc xb xz) :
    i_Rel k (nI P, xk, xs, xc, xb, xz, bb_A G, bb_A pl, bb_A hd, bb_A ab) (bb_A (bb_bt P), bb_A G, bb_A hy, bb_A oy) :=
  ⟨P, G, pl, hd, ab, hy, oy, xk, xs, xc, xb, xz, rfl, rfl, hP, hG, hk⟩
theorem bb_mk1 {k P n : Nat} {G pl hd ab hy oy : Nat → Nat} (hP : P < 64) (hG : ∀ i, i < 6 → G i < 65536) (hk : bb_KN P G n pl hd ab) :
    i_Rel k (nI P, 1, nI n, nI (bb_ct (bb_ls (bb_bx pl hd n)) 16), nI (bb_bd (bb_bx pl hd n) 16), nI (bb_zs (bb_Z P G) 16), bb_A G, bb_A pl, bb_A hd, bb_A ab) (bb_A (bb_bt P), bb_A G, bb_A hy, bb_A oy) :=
  bb_mk hP hG (Or.inr ⟨rfl, n, hk, rfl, rfl, rfl, rfl⟩)
theorem bb_el {Q : SX → SY → Prop} {k : Nat} {u : SX} {v : SY} (I : i_Rel k u v)
    (h : ∀ (P : Nat) (G pl hd ab hy oy : Nat → Nat) (xk xs xc xb xz : Int32), P < 64 → (∀ i, i < 6 → G i < 65536) → bb_KK P G pl hd ab xk xs xc xb xz →
      Q (nI P, xk, xs, xc, xb, xz, bb_A G, bb_A pl, bb_A hd, bb_A ab) (bb_A (bb_bt P), bb_A G, bb_A hy, bb_A oy)) : Q u v := by
  obtain ⟨P, G, pl, hd, ab, hy, oy, xk, xs, xc, xb, xz, hu, hv, hP, hG, hk⟩ := I
  subst hu hv
  exact h P G pl hd ab hy oy xk xs xc xb xz hP hG hk
end
section
/-! what is owed -/
theorem i_up {k : Nat} {u : SX} {v : SY} (h : i_Rel k u v) : i_Rel (k + 3) u v := h
theorem i_vc0 : wpX_init (fun u => wpY_init (fun v => i_Rel 0 u v)) := by
  have e : (fun _ => 0 : Nat → Int32) = bb_A (bb_bt 0) := by
    funext j
    show (0 : Int32) = nI ((0 : Nat).testBit j).toNat
    rw [Nat.zero_testBit]; rfl
  unfold wpX_init wpY_init
  refine ⟨0, fun _ => 0, fun _ => 0, fun _ => 0, fun _ => 0, fun _ => 0, fun _ => 0, 0, 0, 0, 0, 0, rfl, ?_, by omega, fun _ _ => (by omega : (0 : Nat) < 65536), Or.inl rfl⟩
  rw [← e]; rfl
theorem i_vc_add {k : Nat} {u : SX} {v : SY} (I : i_Rel k u v) (hk : k + 3 ≤ 1536) (v1 : Int32) : wpX_add (fun r u' => wpY_add (fun r' v' => r' = r ∧ i_Rel (k + 3) u' v') v v1) u v1 := by
  refine bb_el (Q := fun u v => wpX_add (fun r u' => wpY_add (fun r' v' => r' = r ∧ i_Rel (k + 3) u' v') v v1) u v1) I ?_
  intro P G pl hd ab hy oy xk xs xc xb xz hP hG kk
  unfold wpX_add wpY_add
  rcases bb_pc v1 with h | ⟨f, hf, rfl⟩
  · exact bb_xpoly0 h (br_t rfl (bb_ypoly0 h (br_t rfl ⟨rfl, bb_mk hP hG kk⟩)))
  · refine bb_xpoly1 hf (br_f (by decide) (Exists.intro 7 ?_))
    refine bb_xadd hP (fun i hi hb hj => ?_) (fun hj => ?_) 6 0 rfl (fun j hj => absurd hj (Nat.not_lt_zero j))
    · refine bb_ypoly1 f hf (br_f (by decide) (Exists.intro 7 ?_))
      refine bb_yadd (fun i' hi' hb' hj' => ?_) (fun hj' => ?_) 6 0 rfl (fun j hj => absurd hj (Nat.not_lt_zero j))
      · have e : i' = i := by
          rcases Nat.lt_trichotomy i' i with c | c | c
          · rw [hj i' c] at hb'; cases hb'
          · exact c
          · rw [hj' i c] at hb; cases hb
        subst e
        refine ⟨rfl, bb_mk (Nat.or_lt_two_pow (n := 6) hP (bb_pl (m := 6) hi')) (fun j hj => ?_) (Or.inl rfl)⟩
        by_cases c : j = i'
        · subst c; rw [bb_ups]; exact hf
        · rw [bb_upn c]; exact hG j hj
      · rw [hj' i hi] at hb; cases hb
    · refine bb_ypoly1 f hf (br_f (by decide) (Exists.intro 7 ?_))
      refine bb_yadd (fun i' hi' hb' hj' => ?_) (fun hj' => ⟨rfl, bb_mk hP hG kk⟩) 6 0 rfl (fun j hj => absurd hj (Nat.not_lt_zero j))
      rw [hj i' hi'] at hb'; cases hb'
theorem bb_56 {x : Int32} (h : 6 ≤ x) : 5 < x := by
  rw [Int32.le_iff_toInt_le] at h
  rw [Int32.lt_iff_toInt_lt]
  have a : (6 : Int32).toInt = 6 := by decide
  have b : (5 : Int32).toInt = 5 := by decide
  omega
theorem i_vc_remove {k : Nat} {u : SX} {v : SY} (I : i_Rel k u v) (hk : k + 3 ≤ 1536) (v1 : Int32) : wpX_remove (fun r u' => wpY_remove (fun r' v' => r' = r ∧ i_Rel (k + 3) u' v') v v1) u v1 := by
  refine bb_el (Q := fun u v => wpX_remove (fun r u' => wpY_remove (fun r' v' => r' = r ∧ i_Rel (k + 3) u' v') v v1) u v1) I ?_
  intro P G pl hd ab hy oy xk xs xc xb xz hP hG kk
  unfold wpX_remove wpY_remove
  rcases bb_ic v1 with h | ⟨i, hi, rfl⟩
  · refine bb_xhas0 h (br_t rfl ?_)
    rcases h with h | ⟨h, h'⟩
    · exact br_t h ⟨rfl, bb_mk hP hG kk⟩
    · exact br_f h (br_t (bb_56 h') ⟨rfl, bb_mk hP hG kk⟩)
  · have vi : vp_in (nI i) 6 := vp_in_nI hi (by omega)
    refine bb_xhas1 hP hi (bb_brb (P.testBit i) (fun e => ?_) (fun e => nm_r (bb_rm_x hP hi) ?_))
    · refine br_f (nI_pos (by omega)) (br_f (nI_nlt (a := 5) (by omega) (by omega)) (And.intro vi ?_))
      exact bb_brb (P.testBit i) (fun _ => ⟨rfl, bb_mk hP hG kk⟩) (fun c => by rw [e] at c; cases c) (bb_at (by omega))
    · refine br_f (nI_pos (by omega)) (br_f (nI_nlt (a := 5) (by omega) (by omega)) (And.intro vi ?_))
      refine bb_brb (P.testBit i) (fun c => by rw [e] at c; cases c) (fun c => And.intro vi (nm_r (bb_th0 hP hi) ?_)) (bb_at (by omega))
      exact ⟨rfl, bb_mk (bb_rm_lt P hP i hi) hG (Or.inl rfl)⟩
theorem i_vc_generators {k : Nat} {u : SX} {v : SY} (I : i_Rel k u v) (hk : k + 3 ≤ 1536) : wpX_generators (fun r => wpY_generators (fun r' => r' = r ∧ i_Rel (k + 3) u v) v) u := by
  refine bb_el (Q := fun u v => wpX_generators (fun r => wpY_generators (fun r' => r' = r ∧ i_Rel (k + 3) u v) v) u) I ?_
  intro P G pl hd ab hy oy xk xs xc xb xz hP hG kk
  unfold wpX_generators wpY_generators
  exact Exists.intro 7 (bb_ygen hP ⟨rfl, bb_mk hP hG kk⟩ 6 0 rfl)
theorem i_vc_product {k : Nat} {u : SX} {v : SY} (I : i_Rel k u v) (hk : k + 3 ≤ 1536) (v1 : Int32) (v2 : Int32) : wpX_product (fun r => wpY_product (fun r' => r' = r ∧ i_Rel (k + 3) u v) v v1 v2) u v1 v2 := by
  refine bb_el (Q := fun u v => wpX_product (fun r => wpY_product (fun r' => r' = r ∧ i_Rel (k + 3) u v) v v1 v2) u v1 v2) I ?_
  intro P G pl hd ab hy oy xk xs xc xb xz hP hG kk
  rcases bb_pc v1 with h | ⟨f, hf, rfl⟩
  · unfold wpX_product wpY_product
    exact bb_xpoly0 h (br_t rfl (bb_ypoly0 h (br_t rfl ⟨rfl, bb_mk hP hG kk⟩)))
  · rcases bb_pc v2 with h | ⟨g, hg, rfl⟩
    · unfold wpX_product wpY_product
      exact bb_xpoly1 hf (br_f (by decide) (bb_xpoly0 h (br_t rfl (bb_ypoly1 f hf (br_f (by decide) (bb_ypoly0 h (br_t rfl ⟨rfl, bb_mk hP hG kk⟩)))))))
    · unfold wpX_product
      refine bb_xpoly1 hf (br_f (by decide) (bb_xpoly1 hg (br_f (by decide) (Exists.intro 17 ?_))))
      refine bb_xprod_21 hf hg ?_ 16 0 rfl
      exact bb_yprod f g hf hg ⟨rfl, bb_mk hP hG kk⟩
theorem bb_1516 {x : Int32} (h : 16 ≤ x) : ¬ x ≤ 15 := by
  rw [Int32.le_iff_toInt_le] at *
  have a : (16 : Int32).toInt = 16 := by decide
  have b : (15 : Int32).toInt = 15 := by decide
  omega
theorem i_vc_value {k : Nat} {u : SX} {v : SY} (I : i_Rel k u v) (hk : k + 3 ≤ 1536) (v1 : Int32) (v2 : Int32) : wpX_value (fun r => wpY_value (fun r' => r' = r ∧ i_Rel (k + 3) u v) v v1 v2) u v1 v2 := by
  refine bb_el (Q := fun u v => wpX_value (fun r => wpY_value (fun r' => r' = r ∧ i_Rel (k + 3) u v) v v1 v2) u v1 v2) I ?_
  intro P G pl hd ab hy oy xk xs xc xb xz hP hG kk
  rcases bb_pc v1 with h | ⟨f, hf, rfl⟩
  · unfold wpX_value wpY_value
    exact bb_xpoly0 h (br_t rfl (bb_ypoly0 h (br_t rfl ⟨rfl, bb_mk hP hG kk⟩)))
  · rcases bb_qc v2 with h | ⟨h, h'⟩ | ⟨p, hp, rfl⟩
    · unfold wpX_value wpY_value
      exact bb_xpoly1 hf (br_f (by decide) (br_t h (bb_ypoly1 f hf (br_f (by decide) (br_t h ⟨rfl, bb_mk hP hG kk⟩)))))
    · unfold wpX_value wpY_value
      exact bb_xpoly1 hf (br_f (by decide) (br_f h (br_t h' (bb_ypoly1 f hf (br_f (by decide) (br_f h (br_f (bb_1516 h') ⟨rfl, bb_mk hP hG kk⟩)))))))
    · unfold wpX_value
      refine bb_xpoly1 hf (br_f (by decide) (br_f (nI_pos (by omega)) (br_f (nI_ge (b := 16) hp (by omega)) ?_)))
      exact bb_xval f p hf hp (bb_yval f p hf hp ⟨rfl, bb_mk hP hG kk⟩)
theorem i_vc_contains {k : Nat} {u : SX} {v : SY} (I : i_Rel k u v) (hk : k + 3 ≤ 1536) (v1 : Int32) : wpX_contains (fun r u' => wpY_contains (fun r' v' => r' = r ∧ i_Rel (k + 3) u' v') v v1) u v1 := by
  refine bb_el (Q := fun u v => wpX_contains (fun r u' => wpY_contains (fun r' v' => r' = r ∧ i_Rel (k + 3) u' v') v v1) u v1) I ?_
  intro P G pl hd ab hy oy xk xs xc xb xz hP hG kk
  unfold wpX_contains wpY_contains wpY_rest
  rcases bb_pc v1 with h | ⟨f, hf, rfl⟩
  · exact bb_xpoly0 h (br_t rfl (bb_ypoly0 h (br_t rfl (br_f (by decide) ⟨rfl, bb_mk hP hG kk⟩))))
  · refine bb_xpoly1 hf (br_f (by decide) (bb_xlearn hP hG kk (fun n pl' hd' ab' kn => ?_)))
    have hl := bb_rd_lt kn.2.1.1 hf
    refine bb_xred kn.1 f hf ?_
    refine pk_eq (bb_rd (bb_bx pl' hd' n) 16 f) 0 (fun e => ?_) (fun e => ?_)
    · refine bb_ypoly1 f hf (br_f (by decide) (bb_ywork1 hG (fun b hE => bb_yred hE.1 f hf ?_)))
      have e2 := (bb_tr kn.2.1 hE).2.2.2.2 f hf
      rw [← e2, e]
      exact br_t rfl ⟨rfl, bb_mk1 hP hG kn⟩
    · refine bb_ypoly1 f hf (br_f (by decide) (bb_ywork1 hG (fun b hE => bb_yred hE.1 f hf ?_)))
      have e2 := (bb_tr kn.2.1 hE).2.2.2.2 f hf
      rw [← e2]
      exact pk_eq (bb_rd (bb_bx pl' hd' n) 16 f) 0 (fun c => absurd c e) (fun _ => ⟨rfl, bb_mk1 hP hG kn⟩)
theorem i_vc_rest {k : Nat} {u : SX} {v : SY} (I : i_Rel k u v) (hk : k + 3 ≤ 1536) (v1 : Int32) : wpX_rest (fun r u' => wpY_rest (fun r' v' => r' = r ∧ i_Rel (k + 3) u' v') v v1) u v1 := by
  refine bb_el (Q := fun u v => wpX_rest (fun r u' => wpY_rest (fun r' v' => r' = r ∧ i_Rel (k + 3) u' v') v v1) u v1) I ?_
  intro P G pl hd ab hy oy xk xs xc xb xz hP hG kk
  unfold wpX_rest wpY_rest
  rcases bb_pc v1 with h | ⟨f, hf, rfl⟩
  · exact bb_xpoly0 h (br_t rfl (bb_ypoly0 h (br_t rfl ⟨rfl, bb_mk hP hG kk⟩)))
  · refine bb_xpoly1 hf (br_f (by decide) (bb_xlearn hP hG kk (fun n pl' hd' ab' kn => bb_xred kn.1 f hf ?_)))
    refine bb_ypoly1 f hf (br_f (by decide) (bb_ywork1 hG (fun b hE => bb_yred hE.1 f hf ?_)))
    exact ⟨by rw [(bb_tr kn.2.1 hE).2.2.2.2 f hf], bb_mk1 hP hG kn⟩
theorem i_vc_basisSize {k : Nat} {u : SX} {v : SY} (I : i_Rel k u v) (hk : k + 3 ≤ 1536) : wpX_basisSize (fun r u' => wpY_basisSize (fun r' v' => r' = r ∧ i_Rel (k + 3) u' v') v) u := by
  refine bb_el (Q := fun u v => wpX_basisSize (fun r u' => wpY_basisSize (fun r' v' => r' = r ∧ i_Rel (k + 3) u' v') v) u) I ?_
  intro P G pl hd ab hy oy xk xs xc xb xz hP hG kk
  unfold wpX_basisSize wpY_basisSize
  refine bb_xlearn hP hG kk (fun n pl' hd' ab' kn => bb_ywork1 hG (fun b hE => Exists.intro 17 (bb_ybs9 hE.1 ?_ 16 0 rfl)))
  exact ⟨by rw [(bb_tr kn.2.1 hE).2.1 16 (by omega)], bb_mk1 hP hG kn⟩
theorem i_vc_basisAt {k : Nat} {u : SX} {v : SY} (I : i_Rel k u v) (hk : k + 3 ≤ 1536) (v1 : Int32) : wpX_basisAt (fun r u' => wpY_basisAt (fun r' v' => r' = r ∧ i_Rel (k + 3) u' v') v v1) u v1 := by
  refine bb_el (Q := fun u v => wpX_basisAt (fun r u' => wpY_basisAt (fun r' v' => r' = r ∧ i_Rel (k + 3) u' v') v v1) u v1) I ?_
  intro P G pl hd ab hy oy xk xs xc xb xz hP hG kk
  unfold wpX_basisAt wpY_basisAt
  refine bb_xlearn hP hG kk (fun n pl' hd' ab' kn => ?_)
  have ct16 := bb_ct_le (bb_ls (bb_bx pl' hd' n)) 16
  by_cases h : v1 < 0
  · refine br_t h (bb_ywork1 hG (fun b hE => Exists.intro 17 (bb_yba9 hE.1 (fun m hm hl e => ?_) (fun _ => ⟨rfl, bb_mk1 hP hG kn⟩) 16 0 rfl (fun m hm => absurd hm (Nat.not_lt_zero m)))))
    have := bb_ct_le (bb_ls b) m
    rw [← e] at h
    exact absurd h (nI_pos (by omega))
  · obtain ⟨j, hj, rfl⟩ := nI_of h
    refine br_f h (pk_lt j (bb_ct (bb_ls (bb_bx pl' hd' n)) 16) (fun c => And.intro (vp_in_nI (by omega) (by omega)) ?_) (fun c => ?_))
    · refine bb_ywork1 hG (fun b hE => Exists.intro 17 (bb_yba9 hE.1 (fun m hm hl e => ?_) (fun s => ?_) 16 0 rfl (fun m hm => absurd hm (Nat.not_lt_zero m))))
      · obtain ⟨t1, t2, t3, t4, t5⟩ := bb_tr kn.2.1 hE
        have cm := bb_ct_le (bb_ls b) m
        rw [nI_eq (by omega) hj] at e
        refine ⟨?_, bb_mk1 hP hG kn⟩
        rw [bb_at hj, ← e, ← t2 m (by omega), kn.2.2 m hm (by rw [t1 m hm]; exact hl), t4 m hm]
      · obtain ⟨t1, t2, t3, t4, t5⟩ := bb_tr kn.2.1 hE
        obtain ⟨m, m1, m2, m3⟩ := bb_ct_ex 16 c
        exact absurd (by rw [← t2 m (by omega), m3]) (s m m1 (by rw [← t1 m m1]; exact m2))
    · refine bb_ywork1 hG (fun b hE => Exists.intro 17 (bb_yba9 hE.1 (fun m hm hl e => ?_) (fun s => ⟨rfl, bb_mk1 hP hG kn⟩) 16 0 rfl (fun m hm => absurd hm (Nat.not_lt_zero m))))
      obtain ⟨t1, t2, t3, t4, t5⟩ := bb_tr kn.2.1 hE
      have cm := bb_ct_le (bb_ls b) m
      rw [nI_eq (by omega) hj] at e
      have := bb_ct_mono (bb_ls b) (show m + 1 ≤ 16 from hm)
      rw [bb_ct_s hl, ← t2 16 (by omega)] at this
      omega
theorem i_vc_bound {k : Nat} {u : SX} {v : SY} (I : i_Rel k u v) (hk : k + 3 ≤ 1536) : wpX_bound (fun r u' => wpY_bound (fun r' v' => r' = r ∧ i_Rel (k + 3) u' v') v) u := by
  refine bb_el (Q := fun u v => wpX_bound (fun r u' => wpY_bound (fun r' v' => r' = r ∧ i_Rel (k + 3) u' v') v) u) I ?_
  intro P G pl hd ab hy oy xk xs xc xb xz hP hG kk
  unfold wpX_bound wpY_bound
  refine bb_xlearn hP hG kk (fun n pl' hd' ab' kn => bb_ywork1 hG (fun b hE => Exists.intro 17 (bb_ybd9 hE.1 ?_ 16 0 rfl)))
  exact ⟨by rw [(bb_tr kn.2.1 hE).2.2.1], bb_mk1 hP hG kn⟩
theorem i_vc_zeros {k : Nat} {u : SX} {v : SY} (I : i_Rel k u v) (hk : k + 3 ≤ 1536) : wpX_zeros (fun r u' => wpY_zeros (fun r' => r' = r ∧ i_Rel (k + 3) u' v) v) u := by
  refine bb_el (Q := fun u v => wpX_zeros (fun r u' => wpY_zeros (fun r' => r' = r ∧ i_Rel (k + 3) u' v) v) u) I ?_
  intro P G pl hd ab hy oy xk xs xc xb xz hP hG kk
  unfold wpX_zeros
  exact bb_xlearn hP hG kk (fun n pl' hd' ab' kn => bb_yzeros hG ⟨rfl, bb_mk1 hP hG kn⟩)
theorem i_vc_zeroCount {k : Nat} {u : SX} {v : SY} (I : i_Rel k u v) (hk : k + 3 ≤ 1536) : wpX_zeroCount (fun r u' => wpY_zeroCount (fun r' => r' = r ∧ i_Rel (k + 3) u' v) v) u := by
  refine bb_el (Q := fun u v => wpX_zeroCount (fun r u' => wpY_zeroCount (fun r' => r' = r ∧ i_Rel (k + 3) u' v) v) u) I ?_
  intro P G pl hd ab hy oy xk xs xc xb xz hP hG kk
  have hz := bb_zs_lt (bb_Z P G) 16 (by omega)
  unfold wpX_zeroCount wpY_zeroCount
  refine bb_xlearn hP hG kk (fun n pl' hd' ab' kn => Exists.intro 17 (bb_xzc8 hz ?_ 16 0 rfl))
  exact bb_yzeros hG (Exists.intro 17 (bb_yzc9 hz ⟨rfl, bb_mk1 hP hG kn⟩ 16 0 rfl))
theorem i_vc_values {k : Nat} {u : SX} {v : SY} (I : i_Rel k u v) (hk : k + 3 ≤ 1536) (v1 : Int32) : wpX_values (fun r u' => wpY_values (fun r' => r' = r ∧ i_Rel (k + 3) u' v) v v1) u v1 := by
  refine bb_el (Q := fun u v => wpX_values (fun r u' => wpY_values (fun r' => r' = r ∧ i_Rel (k + 3) u' v) v v1) u v1) I ?_
  intro P G pl hd ab hy oy xk xs xc xb xz hP hG kk
  have hz := bb_zs_lt (bb_Z P G) 16 (by omega)
  unfold wpX_values wpY_values
  rcases bb_vc v1 with h | ⟨h, h'⟩
  · have y : wpY_zeros (fun r_1 => ∃ n10 : Nat, wY_values_10 (fun r' => r' = 0 ∧ i_Rel (k + 3) (nI P, xk, xs, xc, xb, xz, bb_A G, bb_A pl, bb_A hd, bb_A ab) (bb_A (bb_bt P), bb_A G, bb_A hy, bb_A oy)) v1 r_1 (bb_A (bb_bt P)) (bb_A G) (bb_A hy) (bb_A oy) n10 0 0) (bb_A (bb_bt P), bb_A G, bb_A hy, bb_A oy) :=
      bb_yzeros hG (Exists.intro 1 (bb_yv10' h ⟨rfl, bb_mk hP hG kk⟩))
    rcases h with h | ⟨h, h'⟩
    · exact br_t h y
    · exact br_f h (br_f (Int32.not_le.mpr h') y)
  · refine br_f h (br_t h' (bb_xlearn hP hG kk (fun n pl' hd' ab' kn => Exists.intro 17 (bb_xv19 hz ?_ 16 0 rfl))))
    exact bb_yzeros hG (Exists.intro 17 (bb_yv10 hz h (Int32.not_lt.mpr h') ⟨rfl, bb_mk1 hP hG kn⟩ 16 0 rfl))
theorem i_vc_redundant {k : Nat} {u : SX} {v : SY} (I : i_Rel k u v) (hk : k + 3 ≤ 1536) (v1 : Int32) : wpX_redundant (fun r u' => wpY_redundant (fun r' v' => r' = r ∧ i_Rel (k + 3) u' v') v v1) u v1 := by
  refine bb_el (Q := fun u v => wpX_redundant (fun r u' => wpY_redundant (fun r' v' => r' = r ∧ i_Rel (k + 3) u' v') v v1) u v1) I ?_
  intro P G pl hd ab hy oy xk xs xc xb xz hP hG kk
  unfold wpX_redundant wpY_redundant
  rcases bb_ic v1 with h | ⟨i, hi, rfl⟩
  · refine bb_xhas0 h (br_t rfl ?_)
    rcases h with h | ⟨h, h'⟩
    · exact br_t h ⟨rfl, bb_mk hP hG kk⟩
    · exact br_f h (br_t (bb_56 h') ⟨rfl, bb_mk hP hG kk⟩)
  · have vi : vp_in (nI i) 6 := vp_in_nI hi (by omega)
    refine bb_xhas1 hP hi (bb_brb (P.testBit i) (fun e => ?_) (fun e => ?_))
    · refine br_f (nI_pos (by omega)) (br_f (nI_nlt (a := 5) (by omega) (by omega)) (And.intro vi ?_))
      exact bb_brb (P.testBit i) (fun _ => ⟨rfl, bb_mk hP hG kk⟩) (fun c => by rw [e] at c; cases c) (bb_at (by omega))
    · refine bb_xcomp (bb_rm P i) (bb_rm_lt P hP i hi) hG (fun n' pl' hd' g hE => And.intro vi ?_) (bb_rm_x hP hi)
      have hl := bb_rd_lt hE.1 (hG i hi)
      have hQ : ∀ j, j < 6 → ((bb_rm P i).testBit j = true ↔ P.testBit j = true ∧ nI j ≠ nI i) := by
        intro j hj
        rw [bb_rm_b P hP i hi j hj, Bool.and_eq_true, decide_eq_true_iff, Ne, Ne, nI_eq (by omega) (by omega)]
      refine bb_xred g (G i) (hG i hi) ?_ (bb_at (by omega))
      refine pk_eq (bb_rd (bb_bx pl' hd' n') 16 (G i)) 0 (fun c => ?_) (fun c => ?_)
      · refine br_f (nI_pos (by omega)) (br_f (nI_nlt (a := 5) (by omega) (by omega)) (And.intro vi ?_))
        refine bb_brb (P.testBit i) (fun d => by rw [e] at d; cases d) (fun d => ?_) (bb_at (by omega))
        refine bb_ywork (bb_rm P i) hG hQ (fun b hB => And.intro vi (bb_yred hB.1 (G i) (hG i hi) ?_ (bb_at (by omega))))
        rw [← (bb_tr hE hB).2.2.2.2 (G i) (hG i hi), c]
        exact br_t rfl ⟨rfl, bb_mk hP hG (Or.inl rfl)⟩
      · refine br_f (nI_pos (by omega)) (br_f (nI_nlt (a := 5) (by omega) (by omega)) (And.intro vi ?_))
        refine bb_brb (P.testBit i) (fun d => by rw [e] at d; cases d) (fun d => ?_) (bb_at (by omega))
        refine bb_ywork (bb_rm P i) hG hQ (fun b hB => And.intro vi (bb_yred hB.1 (G i) (hG i hi) ?_ (bb_at (by omega))))
        rw [← (bb_tr hE hB).2.2.2.2 (G i) (hG i hi)]
        exact pk_eq (bb_rd (bb_bx pl' hd' n') 16 (G i)) 0 (fun q => absurd q c) (fun _ => ⟨rfl, bb_mk hP hG (Or.inl rfl)⟩)
theorem bb_16n {x : Int32} (h : 16 ≤ x) : ¬ x < 16 := Int32.not_lt.mpr h
theorem i_vc_relates {k : Nat} {u : SX} {v : SY} (I : i_Rel k u v) (hk : k + 3 ≤ 1536) (v1 : Int32) : wpX_relates (fun r u' => wpY_relates (fun r' v' => r' = r ∧ i_Rel (k + 3) u' v') v v1) u v1 := by
  refine bb_el (Q := fun u v => wpX_relates (fun r u' => wpY_relates (fun r' v' => r' = r ∧ i_Rel (k + 3) u' v') v v1) u v1) I ?_
  intro P G pl hd ab hy oy xk xs xc xb xz hP hG kk
  unfold wpX_relates wpY_relates
  rcases bb_qc v1 with h | ⟨h, h'⟩ | ⟨a, ha, rfl⟩
  · exact br_t h (br_t h ⟨rfl, bb_mk hP hG kk⟩)
  · exact br_f h (br_f (bb_16n h') (br_f h (br_f (bb_1516 h') ⟨rfl, bb_mk hP hG kk⟩)))
  · have np : ¬ nI a < 0 := nI_pos (by omega)
    have l15 : nI a ≤ 15 := nI_le (b := 15) (by omega) (by omega)
    refine br_f np (br_t (nI_lt (b := 16) ha (by omega)) (bb_xlearn hP hG kk (fun n pl' hd' ab' kn => ?_)))
    refine bb_xrel (Z := bb_Z P G) ha (fun R => ?_) (fun R => ?_)
    · refine br_f np (br_t l15 (bb_ywork1 hG (fun b hE => Exists.intro 17 (bb_yr19 hE.1 ha (fun _ o => ⟨rfl, bb_mk1 hP hG kn⟩) (fun s => ?_) 16 0 oy rfl (fun m hm => absurd hm (Nat.not_lt_zero m))))))
      obtain ⟨f, f1, f2, f3⟩ := (bb_rel_iff ha).1 R
      exact absurd (s f f1 ((hE.2 f (bb_SP_lt f1 (by omega))).2 f3)) f2
    · refine br_f np (br_t l15 (bb_ywork1 hG (fun b hE => Exists.intro 17 (bb_yr19 hE.1 ha (fun s => ?_) (fun _ o => ⟨rfl, bb_mk1 hP hG kn⟩) 16 0 oy rfl (fun m hm => absurd hm (Nat.not_lt_zero m))))))
      obtain ⟨f, f1, f2, f3⟩ := s
      exact absurd ((bb_rel_iff ha).2 ⟨f, f1, f2, (hE.2 f (bb_SP_lt f1 (by omega))).1 f3⟩) R
end
