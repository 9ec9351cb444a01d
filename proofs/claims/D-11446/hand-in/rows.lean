section
/-- one number holds the whole object; cell (k, j): place k, index j; place 0: the three fields; the low 64 bits are a mix of what was written (they keep numbers apart) -/
def kt_pos (k j : Nat) : Nat := Nat.add 64 (Nat.mul 32 (Nat.add k (Nat.mul 32 j)))
def kt_cell (h k j : Nat) : Nat := Nat.mod (Nat.shiftRight h (kt_pos k j)) 4294967296
def kt_mix (d p : Nat) : Nat := Nat.mod (Nat.mul (Nat.mul d (Nat.add p 1)) 11400714819323198485) 18446744073709551616
def kt_wr (h k j v : Nat) : Nat := Nat.xor (Nat.xor h (kt_mix (Nat.xor (kt_cell h k j) (Nat.mod v 4294967296)) (kt_pos k j))) (Nat.shiftLeft (Nat.xor (kt_cell h k j) (Nat.mod v 4294967296)) (kt_pos k j))
/-- a number is worked out before it is handed on -/
def kt_f (n : Nat) (K : Nat → Bool) : Bool := match n with
  | 0 => K 0
  | m + 1 => K (Nat.succ m)
theorem kt_fE (n : Nat) (K : Nat → Bool) : kt_f n K = K n := by cases n <;> rfl
def kt_w (h k j v : Nat) (K : Nat → Bool) : Bool := kt_f (kt_wr h k j v) K
theorem kt_wE (h k j v : Nat) (K : Nat → Bool) : kt_w h k j v K = K (kt_wr h k j v) := kt_fE _ _
theorem kt_tb (h k j i : Nat) : (kt_cell h k j).testBit i = (decide (i < 32) && h.testBit (kt_pos k j + i)) := by
  show (h >>> (kt_pos k j) % 2 ^ 32).testBit i = _
  rw [Nat.testBit_mod_two_pow, Nat.testBit_shiftRight]
theorem kt_clt (h k j : Nat) : kt_cell h k j < 2 ^ 32 := Nat.mod_lt _ (by decide)
theorem kt_posE (k j : Nat) : kt_pos k j = 64 + 32 * (k + 32 * j) := rfl
theorem kt_wtb (h k j v p : Nat) (hp : 64 ≤ p) : (kt_wr h k j v).testBit p = (h.testBit p ^^ (decide (p ≥ kt_pos k j) && (kt_cell h k j ^^^ (v % 2 ^ 32)).testBit (p - kt_pos k j))) := by
  show ((h ^^^ kt_mix (kt_cell h k j ^^^ (v % 2 ^ 32)) (kt_pos k j)) ^^^ ((kt_cell h k j ^^^ (v % 2 ^ 32)) <<< (kt_pos k j))).testBit p = _
  rw [Nat.testBit_xor, Nat.testBit_xor, Nat.testBit_shiftLeft]
  have hm : kt_mix (kt_cell h k j ^^^ (v % 2 ^ 32)) (kt_pos k j) < 2 ^ 64 := Nat.mod_lt _ (by decide)
  rw [Nat.testBit_lt_two_pow (Nat.lt_of_lt_of_le hm (Nat.pow_le_pow_right (by decide) hp))]
  simp
theorem kt_xlt (h k j v : Nat) : kt_cell h k j ^^^ (v % 2 ^ 32) < 2 ^ 32 := Nat.xor_lt_two_pow (kt_clt h k j) (Nat.mod_lt _ (by decide))
theorem kt_cw_ne {h k j v k' j' : Nat} (hn : k + 32 * j ≠ k' + 32 * j') : kt_cell (kt_wr h k j v) k' j' = kt_cell h k' j' := by
  apply Nat.eq_of_testBit_eq
  intro i
  rw [kt_tb, kt_tb]
  by_cases hi : i < 32
  · have e : (kt_wr h k j v).testBit (kt_pos k' j' + i) = h.testBit (kt_pos k' j' + i) := by
      rw [kt_wtb _ _ _ _ _ (by rw [kt_posE]; omega)]
      by_cases g : kt_pos k' j' + i ≥ kt_pos k j
      · have g2 : 32 ≤ kt_pos k' j' + i - kt_pos k j := by
          rw [kt_posE, kt_posE] at *
          omega
        rw [Nat.testBit_lt_two_pow (Nat.lt_of_lt_of_le (kt_xlt h k j v) (Nat.pow_le_pow_right (by decide) g2))]
        simp
      · simp [g]
    rw [e]
  · simp [hi]
theorem kt_cw_eq (h k j v : Nat) : kt_cell (kt_wr h k j v) k j = v % 4294967296 := by
  apply Nat.eq_of_testBit_eq
  intro i
  show _ = (v % 2 ^ 32).testBit i
  rw [kt_tb, kt_wtb _ _ _ _ _ (by rw [kt_posE]; omega), Nat.add_sub_cancel_left, Nat.testBit_xor, kt_tb, Nat.testBit_mod_two_pow]
  by_cases hi : i < 32
  · simp [hi]
  · simp [hi]
theorem kt_nm (n : Nat) : nI (n % 4294967296) = nI n := by
  apply Int32.toBitVec_inj.mp
  apply BitVec.eq_of_toNat_eq
  show (n % 4294967296) % 4294967296 = n % 4294967296
  exact Nat.mod_mod _ _
def kt_D (h k : Nat) : Nat → Int32 := fun j => nI (kt_cell h k j)
def kt_Z (s : Int32) (h k : Nat) : Nat → Int32 := fun j => nI (kt_cell h k j) * s
theorem kt_D_ne {h k j v k' : Nat} (hk : k < 32) (hk' : k' < 32) (hn : k ≠ k') : kt_D (kt_wr h k j v) k' = kt_D h k' := funext fun i => congrArg nI (kt_cw_ne (by omega))
theorem kt_Z_ne {s : Int32} {h k j v k' : Nat} (hk : k < 32) (hk' : k' < 32) (hn : k ≠ k') : kt_Z s (kt_wr h k j v) k' = kt_Z s h k' := funext fun i => congrArg (fun t => nI t * s) (kt_cw_ne (by omega))
theorem kt_C_ne {h k j v k' i : Nat} (hk : k < 32) (hk' : k' < 32) (hn : k ≠ k') : kt_cell (kt_wr h k j v) k' i = kt_cell h k' i := kt_cw_ne (by omega)
theorem kt_C0_ne {h k j v i : Nat} (hn : j ≠ i) : kt_cell (kt_wr h k j v) k i = kt_cell h k i := kt_cw_ne (by omega)
theorem kt_N_eq {h k j v : Nat} : nI (kt_cell (kt_wr h k j v) k j) = nI v := by rw [kt_cw_eq, kt_nm]
theorem kt_Dn {h k i c : Nat} {v : Int32} (hv : v = nI c) : upd (kt_D h k) i v = kt_D (kt_wr h k i c) k := by
  subst hv
  funext j
  unfold upd kt_D
  by_cases e : j = i
  · subst e
    rw [if_pos rfl, kt_cw_eq, kt_nm]
  · rw [if_neg e, kt_cw_ne (by omega)]
theorem kt_Zn {s : Int32} {h k i c : Nat} {v : Int32} (hv : v = nI c * s) : upd (kt_Z s h k) i v = kt_Z s (kt_wr h k i c) k := by
  subst hv
  funext j
  unfold upd kt_Z
  by_cases e : j = i
  · subst e
    rw [if_pos rfl, kt_cw_eq, kt_nm]
  · rw [if_neg e, kt_cw_ne (by omega)]
theorem kt_ix {x : Int32} {i : Nat} (hx : x = nI i) (hi : i < 32) : x.toNatClampNeg = i := by
  subst hx
  exact nI_clamp (by omega)
abbrev kt_S (s : Int32) (h : Nat) : St2 := (nI (kt_cell h 0 0), nI (kt_cell h 0 1), nI (kt_cell h 0 2), kt_Z s h 1, kt_D h 2, kt_D h 3, kt_D h 4, kt_D h 5, kt_D h 6, kt_D h 7, kt_D h 8, kt_D h 9, kt_D h 10, kt_D h 11, kt_D h 12, kt_D h 13, kt_D h 14, kt_D h 15, kt_D h 16, kt_Z s h 17, kt_D h 18, kt_D h 19)
/-- comparisons of ints by their numbers -/
def kt_le (a b : Nat) : Bool := Nat.ble (Nat.mod (Nat.add a 2147483648) 4294967296) (Nat.mod (Nat.add b 2147483648) 4294967296)
def kt_eq (a b : Nat) : Bool := Nat.beq (Nat.mod a 4294967296) (Nat.mod b 4294967296)
theorem kt_ti (a : Nat) : (nI a).toInt = if 2 * (a % 4294967296) < 4294967296 then ((a % 4294967296 : Nat) : Int) else ((a % 4294967296 : Nat) : Int) - 4294967296 := BitVec.toInt_eq_toNat_cond (nI a).toBitVec
theorem kt_leI (a b : Nat) : nI a ≤ nI b ↔ kt_le a b = true := by
  rw [Int32.le_iff_toInt_le, kt_ti, kt_ti]
  unfold kt_le
  rw [Nat.ble_eq]
  show _ ↔ (a + 2147483648) % 4294967296 ≤ (b + 2147483648) % 4294967296
  split <;> split <;> omega
theorem kt_eqI (a b : Nat) : nI a = nI b ↔ kt_eq a b = true := by
  rw [← Int32.toInt_inj, kt_ti, kt_ti]
  unfold kt_eq
  rw [Nat.beq_eq]
  show _ ↔ a % 4294967296 = b % 4294967296
  split <;> split <;> omega
theorem kt_cle {x y : Int32} {a b : Nat} {A' B' : Bool} {A B : Prop} (hk : cond (kt_le a b) A' B' = true) (hx : x = nI a) (hy : y = nI b) (f : A' = true → A) (g : B' = true → B) : (x ≤ y → A) ∧ (¬ x ≤ y → B) := by
  subst hx hy
  rw [kt_leI]
  cases e : kt_le a b
  · rw [e] at hk
    exact ⟨fun z => Bool.noConfusion z, fun _ => g hk⟩
  · rw [e] at hk
    exact ⟨fun _ => f hk, fun z => absurd rfl z⟩
theorem kt_clt' {x y : Int32} {a b : Nat} {A' B' : Bool} {A B : Prop} (hk : cond (kt_le b a) B' A' = true) (hx : x = nI a) (hy : y = nI b) (f : A' = true → A) (g : B' = true → B) : (x < y → A) ∧ (¬ x < y → B) := by
  have t := kt_cle hk hy hx g f
  refine ⟨fun z => t.2 ?_, fun z => t.1 ?_⟩
  · rw [Int32.le_iff_toInt_le]
    rw [Int32.lt_iff_toInt_lt] at z
    omega
  · rw [Int32.le_iff_toInt_le]
    rw [Int32.lt_iff_toInt_lt] at z
    omega
theorem kt_ceq {x y : Int32} {a b : Nat} {A' B' : Bool} {A B : Prop} (hk : cond (kt_eq a b) A' B' = true) (hx : x = nI a) (hy : y = nI b) (f : A' = true → A) (g : B' = true → B) : (x = y → A) ∧ (¬ x = y → B) := by
  subst hx hy
  rw [kt_eqI]
  cases e : kt_eq a b
  · rw [e] at hk
    exact ⟨fun z => Bool.noConfusion z, fun _ => g hk⟩
  · rw [e] at hk
    exact ⟨fun _ => f hk, fun z => absurd rfl z⟩
theorem kt_in {x : Int32} {a N : Nat} (h : a < N) (hx : x = nI a) (hN : N < 32 := by decide) : vp_in x N := by
  subst hx
  exact vp_in_nI h (by omega)
theorem kt_bl {a N : Nat} {A' : Bool} (hk : cond (Nat.blt a N) A' false = true) : a < N ∧ A' = true := by
  cases e : Nat.blt a N
  · rw [e] at hk
    exact Bool.noConfusion hk
  · rw [e] at hk
    exact ⟨Nat.le_of_ble_eq_true e, hk⟩
theorem kt_cin {x : Int32} {a N : Nat} {A' : Bool} {A : Prop} (hk : cond (Nat.blt a N) A' false = true) (hx : x = nI a) (f : a < N → A' = true → A) (hN : N < 32 := by decide) : vp_in x N ∧ A := ⟨kt_in (kt_bl hk).1 hx hN, f (kt_bl hk).1 (kt_bl hk).2⟩
theorem kt_nw {h k i c : Nat} {X : Nat → Int32} {x v : Int32} {K : Nat → Bool} {P : (Nat → Int32) → Prop} (hk : kt_w h k i c K = true) (hX : X = kt_D h k) (hx : x = nI i) (hi : i < 32) (hv : v = nI c) (f : K (kt_wr h k i c) = true → P (kt_D (kt_wr h k i c) k)) : ∀ a, a = upd X x.toNatClampNeg v → P a := by
  subst hX
  rw [kt_wE] at hk
  rw [kt_ix hx hi]
  exact nm_r (kt_Dn hv) (f hk)
theorem kt_nl {h k i c : Nat} {X : Nat → Int32} {v : Int32} {K : Nat → Bool} {P : (Nat → Int32) → Prop} (hk : kt_w h k i c K = true) (hX : X = kt_D h k) (hv : v = nI c) (f : K (kt_wr h k i c) = true → P (kt_D (kt_wr h k i c) k)) : ∀ a, a = upd X i v → P a := by
  subst hX
  rw [kt_wE] at hk
  exact nm_r (kt_Dn hv) (f hk)
theorem kt_nz {s : Int32} {h k i c : Nat} {X : Nat → Int32} {x v : Int32} {K : Nat → Bool} {P : (Nat → Int32) → Prop} (hk : kt_w h k i c K = true) (hX : X = kt_Z s h k) (hx : x = nI i) (hi : i < 32) (hv : v = nI c * s) (f : K (kt_wr h k i c) = true → P (kt_Z s (kt_wr h k i c) k)) : ∀ a, a = upd X x.toNatClampNeg v → P a := by
  subst hX
  rw [kt_wE] at hk
  rw [kt_ix hx hi]
  exact nm_r (kt_Zn hv) (f hk)
theorem kt_nf {n : Nat} {e : Int32} {K : Nat → Bool} {P : Int32 → Prop} (hk : kt_f n K = true) (he : e = nI n) (f : K n = true → P (nI n)) : ∀ x, x = e → P x := by
  rw [kt_fE] at hk
  exact nm_r he (f hk)
theorem kt_rd {h k i : Nat} {x : Int32} (hx : x = nI i) (hi : i < 32) : kt_D h k x.toNatClampNeg = nI (kt_cell h k i) := by
  rw [kt_ix hx hi]
  rfl
theorem kt_rz {s : Int32} {h k i : Nat} {x : Int32} (hx : x = nI i) (hi : i < 32) : kt_Z s h k x.toNatClampNeg = nI (kt_cell h k i) * s := by
  rw [kt_ix hx hi]
  rfl
/-- the bit i of a -/
def kt_bit (a i : Nat) : Nat := Nat.mod (Nat.shiftRight (Nat.mod a 4294967296) (Nat.mod i 32)) 2
theorem kt_bitI (a i : Nat) : ((nI a).toUInt32 >>> ((nI i).toUInt32 &&& Int32.toUInt32 31)).toInt32 &&& 1 = nI (kt_bit a i) := by
  have hs : (((nI i).toUInt32 &&& Int32.toUInt32 31).toBitVec % 32).toNat = i % 32 := by
    show ((i % 4294967296) &&& 31) % 32 = i % 32
    rw [show 31 = 2 ^ 5 - 1 from rfl, Nat.and_two_pow_sub_one_eq_mod]
    omega
  rw [pk_and _ (m := 1) 1 (by decide), pk_ushr _ _ (i % 32) hs]
  show nI ((a % 4294967296) / 2 ^ (i % 32) % 2) = _
  rw [← Nat.shiftRight_eq_div_pow]
  rfl
theorem kt_cb {x y : Int32} {a i : Nat} {A' B' : Bool} {A B : Prop} (hk : cond (Nat.beq (kt_bit a i) 0) A' B' = true) (hx : x = nI a) (hy : y = nI i) (f : A' = true → A) (g : B' = true → B) : (((x.toUInt32 >>> (y.toUInt32 &&& Int32.toUInt32 31)).toInt32 &&& 1) = 0 → A) ∧ (¬ ((x.toUInt32 >>> (y.toUInt32 &&& Int32.toUInt32 31)).toInt32 &&& 1) = 0 → B) := by
  subst hx hy
  rw [kt_bitI]
  have hb : kt_bit a i < 2 := Nat.mod_lt _ (by decide)
  cases e : Nat.beq (kt_bit a i) 0
  · rw [e] at hk
    have h1 : ¬ kt_bit a i = 0 := fun z => by rw [z] at e; exact Bool.noConfusion e
    exact br_f (nI_ne0 (by omega) (by omega)) (g hk)
  · rw [e] at hk
    rw [Nat.eq_of_beq_eq_true e]
    exact br_t rfl (f hk)
def kt_cd (x : Int32) : Nat := x.toBitVec.toNat
theorem kt_cdI (x : Int32) : x = nI (kt_cd x) := by
  apply Int32.toBitVec_inj.mp
  apply BitVec.eq_of_toNat_eq
  exact (pk_tn x.toBitVec.isLt).symm
theorem kt_m1 : (-1 : Int32) = nI 4294967295 := by decide
def kt_pd (d : Nat) : Nat := Nat.mod (Nat.add d 4294967295) 4294967296
theorem kt_pdA (d : Nat) : nI d + (-1) = nI (kt_pd d) := by
  rw [kt_m1, nI_add]
  exact (kt_nm _).symm
theorem kt_pdS (d : Nat) : nI d - 1 = nI (kt_pd d) := by
  rw [← kt_pdA, Int32.sub_eq_add_neg]
end
section
def kt_visit (h p : Nat) (K : Nat → Bool) : Bool :=
  cond (Nat.blt p 17) (kt_w h 3 p (kt_cell h 0 2) fun h1 =>
    cond (Nat.blt (kt_cell h 0 2) 17) (kt_w h1 4 (kt_cell h 0 2) p fun h2 =>
      kt_w h2 0 2 (kt_cell h 0 2 + 1) K) false) false
def kt_low (a : Nat) (K : Nat → Bool) : Nat → Nat → Bool
  | 0 => fun _ => false
  | n + 1 => fun i => cond (kt_le 16 i) (K 4294967295) (cond (Nat.beq (kt_bit a i) 0) (kt_f (i + 1) fun j => kt_low a K n j) (K i))
def kt_nv64 (K : Nat → Bool) : Nat → Nat → Nat → Nat → Bool
  | 0 => fun _ _ _ => false
  | n + 1 => fun d st h =>
    cond (kt_le 400 st) (K h) (cond (kt_le d 0) (K h)
      (kt_f (kt_pd d) fun i => cond (Nat.blt i 18) (kt_f (kt_cell h 6 i) fun v =>
        kt_low (kt_cell h 7 i) (fun w =>
          cond (kt_le 0 w)
            (kt_w h 7 i (kt_cd (nI (kt_cell h 7 i) &&& (((1 : Int32) <<< (nI w &&& 31)) ^^^ (-1)))) fun h1 =>
              cond (Nat.blt w 17)
                (cond (kt_le 0 (kt_cell h 3 w))
                  (kt_f (st + 1) fun st1 => kt_nv64 K n d st1 h1)
                  (cond (Nat.blt v 17) (cond (Nat.blt (kt_cell h 0 2) 17)
                    (kt_w h1 5 (kt_cell h 0 2) (kt_cell h 3 v) fun h2 => kt_visit h2 w fun h3 =>
                      cond (Nat.blt d 18) (kt_w h3 6 d w fun h4 => kt_w h4 7 d (kt_cell h3 2 w) fun h5 => kt_f (d + 1) fun d1 => kt_f (st + 1) fun st1 => kt_nv64 K n d1 st1 h5) false)
                    false) false))
                false)
            (kt_f (st + 1) fun st1 => kt_nv64 K n i st1 h)) 20 0) false))
def kt_nv2 (K : Nat → Bool) : Nat → Nat → Nat → Bool
  | 0 => fun _ _ => false
  | n + 1 => fun x h =>
    cond (kt_le 17 x)
      (kt_w h 0 2 0 fun h0 => kt_visit h0 16 fun h1 => kt_w h1 6 0 16 fun h2 => kt_w h2 7 0 (kt_cell h1 2 16) fun h3 => kt_nv64 K 40 1 0 h3)
      (cond (Nat.blt x 17) (kt_w h 3 x 4294967295 fun h1 => kt_w h1 5 x 4294967295 fun h2 => kt_f (x + 1) fun y => kt_nv2 K n y h2) false)
def kt_ev72 (x1 : Nat) (K : Nat → Nat → Bool) : Nat → Nat → Nat → Bool
  | 0 => fun _ _ => false
  | n + 1 => fun x4 h =>
    cond (kt_le 0 x4)
      (cond (Nat.blt x4 18) (kt_f (kt_cell h 12 x4) fun y => cond (Nat.blt y 17) (kt_f (kt_cell h 10 y) fun z => cond (Nat.blt z 17)
        (cond (Nat.blt (kt_cell h 11 z) 17) (cond (Nat.blt (kt_cell h 11 y) 17)
          (cond (kt_le (kt_cell h 8 (kt_cell h 11 y)) (kt_cell h 8 (kt_cell h 11 z)))
            (kt_w h 10 y (kt_cell h 10 z) fun h2 => kt_f (kt_pd x4) fun x5 => kt_ev72 x1 K n x5 h2)
            (kt_w h 11 y (kt_cell h 11 z) fun h1 => kt_w h1 10 y (kt_cell h 10 z) fun h2 => kt_f (kt_pd x4) fun x5 => kt_ev72 x1 K n x5 h2)) false) false) false) false) false)
      (cond (Nat.blt x1 17) (K (kt_cell h 11 x1) h) false)
def kt_ev23 (x1 : Nat) (K : Nat → Nat → Bool) : Nat → Nat → Nat → Nat → Nat → Bool
  | 0 => fun _ _ _ _ => false
  | n + 1 => fun x2 x3 x4 h =>
    cond (kt_le 17 x4) (kt_f (kt_pd x2) fun x => kt_ev72 x1 K 20 x h)
      (cond (Nat.blt x3 17) (cond (Nat.blt (kt_cell h 10 x3) 17)
        (cond (kt_le 0 (kt_cell h 10 (kt_cell h 10 x3)))
          (cond (Nat.blt x2 18) (kt_w h 12 x2 x3 fun h1 => kt_f (x2 + 1) fun y2 => kt_f (kt_cell h 10 x3) fun y3 => kt_f (x4 + 1) fun y4 => kt_ev23 x1 K n y2 y3 y4 h1) false)
          (kt_f (kt_pd x2) fun x => kt_ev72 x1 K 20 x h)) false) false)
def kt_ev (h p : Nat) (K : Nat → Nat → Bool) : Bool :=
  cond (Nat.blt p 17) (cond (kt_le 0 (kt_cell h 10 p)) (kt_ev23 p K 20 0 p 0 h) (K (kt_cell h 11 p) h)) false
def kt_fs9 (x1 x2 : Nat) (K : Nat → Bool) : Nat → Nat → Nat → Bool
  | 0 => fun _ _ => false
  | n + 1 => fun x h =>
    cond (kt_le (kt_cell h 0 2) x) (K h)
      (cond (Nat.blt x 17) (cond (Nat.blt (kt_cell h 4 x) 17)
        (cond (Nat.beq (kt_bit (kt_cell h 2 (kt_cell h 4 x)) x2) 0)
          (kt_f (x + 1) fun y => kt_fs9 x1 x2 K n y h)
          (kt_ev h x fun r h1 => kt_f r fun r => cond (Nat.blt r 17) (cond (Nat.blt x1 17)
            (cond (kt_le (kt_cell h1 8 x1) (kt_cell h1 8 r))
              (kt_f (x + 1) fun y => kt_fs9 x1 x2 K n y h1)
              (kt_w h1 8 x1 (kt_cell h1 8 r) fun h2 => kt_f (x + 1) fun y => kt_fs9 x1 x2 K n y h2)) false) false)) false) false)
def kt_fs (h p : Nat) (K : Nat → Bool) : Bool :=
  cond (Nat.blt p 17) (kt_f (kt_cell h 4 p) fun x2 => kt_fs9 p x2 K 20 0 h) false
def kt_eb9 (x1 : Nat) (K : Nat → Bool) : Nat → Nat → Nat → Nat → Bool
  | 0 => fun _ _ _ => false
  | n + 1 => fun x2 x3 h =>
    cond (kt_le 17 x3) (cond (Nat.blt x1 17) (kt_w h 13 x1 4294967295 K) false)
      (cond (kt_le 0 x2)
        (kt_ev h x2 fun r h1 => kt_f r fun r => cond (Nat.blt r 17) (cond (Nat.blt x2 17)
          (cond (kt_le (kt_cell h1 8 x2) (kt_cell h1 8 r))
            (kt_w h1 9 x2 x1 fun h2 => kt_f (kt_cell h1 14 x2) fun y2 => kt_f (x3 + 1) fun y3 => kt_eb9 x1 K n y2 y3 h2)
            (kt_w h1 9 x2 r fun h2 => kt_f (kt_cell h1 14 x2) fun y2 => kt_f (x3 + 1) fun y3 => kt_eb9 x1 K n y2 y3 h2)) false) false)
        (cond (Nat.blt x1 17) (kt_w h 13 x1 4294967295 K) false))
def kt_eb (h p : Nat) (K : Nat → Bool) : Bool :=
  cond (Nat.blt p 17) (kt_f (kt_cell h 13 p) fun x2 => kt_eb9 p K 20 x2 0 h) false
def kt_fd126 (K : Nat → Bool) : Nat → Nat → Nat → Bool
  | 0 => fun _ _ => false
  | n + 1 => fun x h =>
    cond (kt_le (kt_cell h 0 2) x) (K h)
      (cond (Nat.blt x 17) (cond (kt_eq (kt_cell h 9 x) (kt_cell h 8 x))
        (kt_f (x + 1) fun y => kt_fd126 K n y h)
        (cond (Nat.blt (kt_cell h 9 x) 17) (kt_w h 9 x (kt_cell h 9 (kt_cell h 9 x)) fun h1 => kt_f (x + 1) fun y => kt_fd126 K n y h1) false)) false)
def kt_fd58 (K : Nat → Bool) : Nat → Nat → Nat → Bool
  | 0 => fun _ _ => false
  | n + 1 => fun x h =>
    cond (kt_le x 0) (kt_fd126 K 20 1 h)
      (kt_fs h x fun h1 => cond (Nat.blt x 17) (cond (Nat.blt (kt_cell h1 8 x) 17)
        (kt_w h1 14 x (kt_cell h1 13 (kt_cell h1 8 x)) fun h2 => kt_w h2 13 (kt_cell h1 8 x) x fun h3 => kt_w h3 10 x (kt_cell h1 5 x) fun h4 =>
          kt_eb h4 (kt_cell h1 5 x) fun h5 => kt_f (kt_pd x) fun y => kt_fd58 K n y h5) false) false)
def kt_fd2 (K : Nat → Bool) : Nat → Nat → Nat → Bool
  | 0 => fun _ _ => false
  | n + 1 => fun x h =>
    cond (kt_le (kt_cell h 0 2) x) (kt_f (kt_pd (kt_cell h 0 2)) fun w => kt_fd58 K 20 w h)
      (cond (Nat.blt x 17) (kt_w h 8 x x fun h1 => kt_w h1 11 x x fun h2 => kt_w h2 9 x 4294967295 fun h3 => kt_w h3 10 x 4294967295 fun h4 => kt_w h4 13 x 4294967295 fun h5 =>
        kt_f (x + 1) fun y => kt_fd2 K n y h5) false)
def kt_wt22 (K : Nat → Bool) : Nat → Nat → Nat → Nat → Nat → Bool
  | 0 => fun _ _ _ _ => false
  | n + 1 => fun x1 x2 x3 h =>
    cond (kt_le 40 x3) (K h) (cond (kt_le x2 0) (K h)
      (kt_f (kt_pd x2) fun i => cond (Nat.blt i 18) (kt_f (kt_cell h 6 i) fun v => cond (Nat.blt v 17) (kt_f (kt_cell h 13 v) fun b =>
        cond (kt_le 0 b)
          (cond (Nat.blt b 17) (kt_w h 13 v (kt_cell h 14 b) fun h1 => kt_f (x1 + 1) fun y1 => kt_w h1 18 b y1 fun h2 =>
            cond (Nat.blt x2 18) (kt_w h2 6 x2 b fun h3 => kt_f (x2 + 1) fun y2 => kt_f (x3 + 1) fun y3 => kt_wt22 K n y1 y2 y3 h3) false) false)
          (kt_w h 19 v x1 fun h1 => kt_f (x3 + 1) fun y3 => kt_wt22 K n x1 i y3 h1)) false) false))
def kt_wt (h : Nat) (K : Nat → Bool) : Bool := kt_w h 6 0 16 fun h1 => kt_w h1 18 16 0 fun h2 => kt_wt22 K 40 0 1 0 h2
def kt_lo126 (K : Nat → Bool) : Nat → Nat → Nat → Bool
  | 0 => fun _ _ => false
  | n + 1 => fun x h =>
    cond (kt_le x 0) (kt_wt h K)
      (cond (Nat.blt x 17) (kt_f (kt_cell h 4 x) fun v => cond (Nat.blt v 17) (kt_f (kt_cell h 15 v) fun k => cond (Nat.blt k 17)
        (kt_w h 17 k (kt_cell h 17 k + kt_cell h 17 v) fun h1 => kt_w h1 14 v (kt_cell h 13 k) fun h2 => kt_w h2 13 k v fun h3 => kt_f (kt_pd x) fun y => kt_lo126 K n y h3) false) false) false)
def kt_lo65 (K : Nat → Bool) : Nat → Nat → Nat → Bool
  | 0 => fun _ _ => false
  | n + 1 => fun x h =>
    cond (kt_le (kt_cell h 0 2) x) (kt_f (kt_pd (kt_cell h 0 2)) fun w => kt_lo126 K 20 w h)
      (cond (Nat.blt x 17) (kt_f (kt_cell h 4 x) fun v => cond (Nat.blt (kt_cell h 9 x) 17) (kt_f (kt_cell h 4 (kt_cell h 9 x)) fun k => cond (Nat.blt v 17)
        (kt_w h 15 v k fun h1 => cond (Nat.blt k 17) (kt_w h1 16 v (kt_cell h 16 k + 1) fun h2 => kt_f (x + 1) fun y => kt_lo65 K n y h2) false) false) false) false)
def kt_lo19 (K : Nat → Bool) : Nat → Nat → Nat → Bool
  | 0 => fun _ _ => false
  | n + 1 => fun x h =>
    cond (kt_le 17 x) (kt_lo65 K 20 1 h)
      (cond (Nat.blt x 17) (cond (kt_le 0 (kt_cell h 3 x))
        (kt_w h 17 x (kt_cell h 1 x) fun h1 => kt_w h1 13 x 4294967295 fun h2 => kt_f (x + 1) fun y => kt_lo19 K n y h2)
        (kt_w h 17 x 0 fun h1 => kt_w h1 13 x 4294967295 fun h2 => kt_f (x + 1) fun y => kt_lo19 K n y h2)) false)
def kt_lay (h : Nat) (K : Nat → Bool) : Bool := kt_w h 15 16 16 fun h1 => kt_w h1 16 16 0 fun h2 => kt_lo19 K 20 0 h2
def kt_prep (h : Nat) (K : Nat → Bool) : Bool :=
  cond (kt_eq (kt_cell h 0 1) 0) (kt_w h 2 16 (kt_cell h 0 0) fun h1 => kt_w h1 0 1 1 fun h2 => kt_nv2 (fun h3 => kt_fd2 (fun h4 => kt_lay h4 K) 20 0 h3) 20 0 h2) false
/-- the object behind the setup calls: root 0; flip (0, b); flip (b, c); setSize c (coefficient 1) -/
def kt_h1 : Nat := kt_wr 0 0 0 1
def kt_xb (a i : Nat) : Nat := kt_cd (nI a ^^^ ((1 : Int32) <<< (nI i &&& 31)))
def kt_fl (h p q : Nat) : Nat := kt_wr h 2 p (kt_xb (kt_cell h 2 p) q)
def kt_bc (b c : Nat) : Nat := kt_wr (kt_fl (kt_fl kt_h1 0 b) b c) 1 c 1
/-- what is seen behind prepare: c alive (keeper k, depth d); c not alive; c no object -/
def kt_see1 (c k d h : Nat) : Bool :=
  Nat.beq (kt_cell h 0 1) 1 && (kt_le 0 (kt_cell h 3 0) && (Nat.beq (kt_cell h 17 0) 1 && (Nat.beq (kt_cell h 17 16) 1 &&
    (kt_le 0 (kt_cell h 3 c) && (Nat.beq (kt_cell h 15 c) k && (Nat.beq (kt_cell h 16 c) d && Nat.beq (kt_cell h 17 c) 1))))))
def kt_see0 (c h : Nat) : Bool :=
  Nat.beq (kt_cell h 0 1) 1 && (kt_le 0 (kt_cell h 3 0) && (Nat.beq (kt_cell h 17 0) 0 && (Nat.beq (kt_cell h 17 16) 0 && !kt_le 0 (kt_cell h 3 c))))
def kt_seeb (h : Nat) : Bool :=
  Nat.beq (kt_cell h 0 1) 1 && (kt_le 0 (kt_cell h 3 0) && (Nat.beq (kt_cell h 17 0) 0 && Nat.beq (kt_cell h 17 16) 0))
def kt_k (b c : Nat) : Nat := if c = 0 then 16 else if c = b then 0 else b
def kt_d (b c : Nat) : Nat := if c = 0 then 1 else if c = b then 2 else if b = 0 then 2 else 3
def kt_e (b c : Nat) : Nat := if b = 0 then (if c = 0 then 0 else 1) else 1
/-- b and c are objects -/
def kt_run (b c : Nat) : Bool := Nat.beq (kt_bit (kt_cell (kt_fl kt_h1 0 b) 2 0) b) 1 && (Nat.beq (kt_bit (kt_cell (kt_fl (kt_fl kt_h1 0 b) b c) 2 b) c) (kt_e b c) && kt_prep (kt_bc b c) (kt_see1 c (kt_k b c) (kt_d b c)))
/-- c is an object, b isn't -/
def kt_runb (c : Nat) : Bool := cond (Nat.beq c 0) (kt_prep (kt_wr kt_h1 1 c 1) (kt_see1 c 16 1)) (kt_prep (kt_wr kt_h1 1 c 1) (kt_see0 c))
/-- b is an object, c isn't -/
def kt_runc (b : Nat) : Bool := Nat.beq (kt_bit (kt_cell (kt_fl kt_h1 0 b) 2 0) b) 1 && kt_prep (kt_fl kt_h1 0 b) kt_seeb
def kt_l16 : List Nat := [0, 1, 2, 3, 4, 5, 6, 7, 8, 9, 10, 11, 12, 13, 14, 15]
theorem kt_mem {n : Nat} (h : n < 16) : n ∈ kt_l16 := by
  have : ∀ n, n < 16 → n ∈ kt_l16 := by decide
  exact this n h
theorem kt_all : (kt_l16.all fun b => kt_l16.all fun c => kt_run b c) = true := by decide +kernel
theorem kt_allb : (kt_l16.all fun c => kt_runb c) = true := by decide +kernel
theorem kt_allc : (kt_l16.all fun b => kt_runc b) = true := by decide +kernel
theorem kt_alln : kt_prep kt_h1 kt_seeb = true := by decide +kernel
theorem kt_run_ok {b c : Nat} (hb : b < 16) (hc : c < 16) : kt_run b c = true := List.all_eq_true.mp (List.all_eq_true.mp kt_all b (kt_mem hb)) c (kt_mem hc)
theorem kt_runb_ok {c : Nat} (hc : c < 16) : kt_runb c = true := List.all_eq_true.mp kt_allb c (kt_mem hc)
theorem kt_runc_ok {b : Nat} (hb : b < 16) : kt_runc b = true := List.all_eq_true.mp kt_allc b (kt_mem hb)
end
section
theorem kt_visit_ok {post : St2 → Prop} {s : Int32} {h p : Nat} {K : Nat → Bool} {u : St2} {x : Int32} (hk : kt_visit h p K = true) (hu : u = kt_S s h) (hx : x = nI p) (H : ∀ h', K h' = true → post (kt_S s h')) : wpX_visit post u x := by
  subst hu hx
  refine kt_cin hk rfl (fun hp hk => kt_nw hk rfl rfl (by omega) rfl (fun hk => kt_cin hk rfl (fun hr hk => kt_nw hk (by simp (decide := true) only [kt_S, kt_D_ne, kt_Z_ne, kt_C_ne, kt_C0_ne, kt_N_eq, nI_0]) rfl (by omega) rfl (fun hk => nm_r (nI_1 _) ?_))))
  rw [kt_wE] at hk
  have t := H _ hk
  simp (decide := true) only [kt_S, kt_D_ne, kt_Z_ne, kt_C_ne, kt_C0_ne, kt_N_eq, nI_0] at t
  exact t
theorem kt_low_ok {post : Int32 → Prop} {a : Nat} {K : Nat → Bool} (H : ∀ w, K w = true → post (nI w)) : ∀ n i, kt_low a K n i = true → wX_lowestOf_2 post (nI a) n (nI i) := by
  intro n
  induction n with
  | zero => intro i hk; exact Bool.noConfusion hk
  | succ n ih =>
    intro i hk
    rw [kt_low] at hk
    refine kt_cle hk rfl rfl (fun hk => ?_) (fun hk => kt_cb hk rfl rfl (fun hk => kt_nf hk (nI_1 _) (fun hk => ih _ hk)) (fun hk => H _ hk))
    rw [kt_m1]
    exact H _ hk
theorem kt_lowest_ok {post : Int32 → Prop} {a : Nat} {K : Nat → Bool} {x : Int32} (hk : kt_low a K 20 0 = true) (hx : x = nI a) (H : ∀ w, K w = true → post (nI w)) : wpX_lowestOf post () x := by
  subst hx
  exact ⟨20, kt_low_ok H 20 0 hk⟩
theorem kt_nv64_ok {post : St2 → Prop} {s : Int32} {K : Nat → Bool} (H : ∀ h', K h' = true → post (kt_S s h')) : ∀ n d st h, kt_nv64 K n d st h = true → wX_numberVertices_64 post n (nI d) (nI st) (nI (kt_cell h 0 0)) (nI (kt_cell h 0 1)) (nI (kt_cell h 0 2)) (kt_Z s h 1) (kt_D h 2) (kt_D h 3) (kt_D h 4) (kt_D h 5) (kt_D h 6) (kt_D h 7) (kt_D h 8) (kt_D h 9) (kt_D h 10) (kt_D h 11) (kt_D h 12) (kt_D h 13) (kt_D h 14) (kt_D h 15) (kt_D h 16) (kt_Z s h 17) (kt_D h 18) (kt_D h 19) := by
  intro n
  induction n with
  | zero => intro d st h hk; exact Bool.noConfusion hk
  | succ n ih =>
    intro d st h hk
    rw [kt_nv64] at hk
    refine kt_cle hk rfl rfl (fun hk => H _ hk) (fun hk => kt_cle hk rfl rfl (fun hk => H _ hk) (fun hk => ?_))
    rw [kt_fE] at hk
    refine kt_cin hk (kt_pdS d) (fun hi hk => kt_nf hk (kt_rd (kt_pdS d) (by omega)) (fun hk => ⟨kt_in hi (kt_pdS d), ?_⟩))
    refine kt_lowest_ok hk (kt_rd (kt_pdS d) (by omega)) (fun w hk => ?_)
    refine kt_cle hk rfl rfl (fun hk => ?_) (fun hk => ?_)
    · refine ⟨kt_in hi (kt_pdS d), kt_in hi (kt_pdS d), ?_⟩
      refine kt_nw hk rfl (kt_pdS d) (by omega) (by rw [kt_rd (kt_pdS d) (by omega)]; exact kt_cdI _) (fun hk => ?_)
      refine kt_cin hk rfl (fun hw hk => ?_)
      refine kt_cle hk rfl (kt_rd rfl (by omega)) (fun hk => ?_) (fun hk => ?_)
      · refine kt_nf hk (nI_1 _) (fun hk => ?_)
        have t := ih _ _ _ hk
        simp (decide := true) only [kt_S, kt_D_ne, kt_Z_ne, kt_C_ne, kt_C0_ne, kt_N_eq, nI_0] at t
        exact t
      · refine kt_cin hk rfl (fun hv hk => kt_cin hk rfl (fun hr hk => kt_nw hk (by simp (decide := true) only [kt_S, kt_D_ne, kt_Z_ne, kt_C_ne, kt_C0_ne, kt_N_eq, nI_0]) rfl (by omega) (kt_rd rfl (by omega)) (fun hk => ?_)))
        refine kt_visit_ok (s := s) hk (by simp (decide := true) only [kt_S, kt_D_ne, kt_Z_ne, kt_C_ne, kt_C0_ne, kt_N_eq, nI_0]) rfl (fun h3 hk => ?_)
        refine kt_cin hk rfl (fun hd hk => kt_nw hk rfl rfl (by omega) rfl (fun hk => ⟨kt_in hw rfl, kt_in hd rfl, ?_⟩))
        refine kt_nw hk (by simp (decide := true) only [kt_S, kt_D_ne, kt_Z_ne, kt_C_ne, kt_C0_ne, kt_N_eq, nI_0]) rfl (by omega) (kt_rd rfl (by omega)) (fun hk => kt_nf hk (nI_1 _) (fun hk => kt_nf hk (nI_1 _) (fun hk => ?_)))
        have t := ih _ _ _ hk
        simp (decide := true) only [kt_S, kt_D_ne, kt_Z_ne, kt_C_ne, kt_C0_ne, kt_N_eq, nI_0] at t
        exact t
    · refine nm_r (kt_pdA _) (kt_nf hk (nI_1 _) (fun hk => ?_))
      exact ih _ _ _ hk
theorem kt_nv2_ok {post : St2 → Prop} {s : Int32} {K : Nat → Bool} (H : ∀ h', K h' = true → post (kt_S s h')) : ∀ n x h, kt_nv2 K n x h = true → wX_numberVertices_2 post (nI (kt_cell h 0 0)) (nI (kt_cell h 0 1)) (nI (kt_cell h 0 2)) n (nI x) (kt_Z s h 1) (kt_D h 2) (kt_D h 3) (kt_D h 4) (kt_D h 5) (kt_D h 6) (kt_D h 7) (kt_D h 8) (kt_D h 9) (kt_D h 10) (kt_D h 11) (kt_D h 12) (kt_D h 13) (kt_D h 14) (kt_D h 15) (kt_D h 16) (kt_Z s h 17) (kt_D h 18) (kt_D h 19) := by
  intro n
  induction n with
  | zero => intro x h hk; exact Bool.noConfusion hk
  | succ n ih =>
    intro x h hk
    rw [kt_nv2] at hk
    refine kt_cle hk rfl rfl (fun hk => ?_) (fun hk => ?_)
    · rw [kt_wE] at hk
      refine kt_visit_ok (s := s) hk (by simp (decide := true) only [kt_S, kt_D_ne, kt_Z_ne, kt_C_ne, kt_C0_ne, kt_N_eq, nI_0]) rfl (fun h1 hk => ?_)
      refine kt_nl hk rfl rfl (fun hk => kt_nl hk (by simp (decide := true) only [kt_S, kt_D_ne, kt_Z_ne, kt_C_ne, kt_C0_ne, kt_N_eq, nI_0]) rfl (fun hk => ⟨40, ?_⟩))
      have t := kt_nv64_ok H _ _ _ _ hk
      simp (decide := true) only [kt_S, kt_D_ne, kt_Z_ne, kt_C_ne, kt_C0_ne, kt_N_eq, nI_0] at t
      exact t
    · refine kt_cin hk rfl (fun hx hk => kt_nw hk rfl rfl (by omega) kt_m1 (fun hk => ⟨kt_in hx rfl, kt_nw hk (by simp (decide := true) only [kt_S, kt_D_ne, kt_Z_ne, kt_C_ne, kt_C0_ne, kt_N_eq, nI_0]) rfl (by omega) kt_m1 (fun hk => kt_nf hk (nI_1 _) (fun hk => ?_))⟩))
      have t := ih _ _ hk
      simp (decide := true) only [kt_S, kt_D_ne, kt_Z_ne, kt_C_ne, kt_C0_ne, kt_N_eq, nI_0] at t
      exact t
theorem kt_nv_ok {post : St2 → Prop} {s : Int32} {h : Nat} {K : Nat → Bool} {u : St2} (hk : kt_nv2 K 20 0 h = true) (hu : u = kt_S s h) (H : ∀ h', K h' = true → post (kt_S s h')) : wpX_numberVertices post u := by
  subst hu
  exact ⟨20, kt_nv2_ok H 20 0 h hk⟩
end
section
theorem kt_ev72_ok {post : Int32 → St2 → Prop} {s : Int32} {x1 : Nat} {K : Nat → Nat → Bool} (H : ∀ r h', K r h' = true → post (nI r) (kt_S s h')) : ∀ n x4 h, kt_ev72 x1 K n x4 h = true → wX_evaluate_72 post (nI x1) (nI (kt_cell h 0 0)) (nI (kt_cell h 0 1)) (nI (kt_cell h 0 2)) n (nI x4) (kt_Z s h 1) (kt_D h 2) (kt_D h 3) (kt_D h 4) (kt_D h 5) (kt_D h 6) (kt_D h 7) (kt_D h 8) (kt_D h 9) (kt_D h 10) (kt_D h 11) (kt_D h 12) (kt_D h 13) (kt_D h 14) (kt_D h 15) (kt_D h 16) (kt_Z s h 17) (kt_D h 18) (kt_D h 19) := by
  intro n
  induction n with
  | zero => intro x4 h hk; exact Bool.noConfusion hk
  | succ n ih =>
    intro x4 h hk
    rw [kt_ev72] at hk
    refine kt_clt' hk rfl rfl (fun hk => ?_) (fun hk => ?_)
    · refine kt_cin hk rfl (fun h1 hk => ?_)
      rw [kt_rd rfl (by omega)]
      exact H _ _ hk
    · refine kt_cin hk rfl (fun hx hk => kt_nf hk (kt_rd rfl (by omega)) (fun hk => kt_cin hk rfl (fun hy hk => kt_nf hk (kt_rd rfl (by omega)) (fun hk => kt_cin hk rfl (fun hz hk => ?_)))))
      refine kt_cin hk (kt_rd rfl (by omega)) (fun hlz hk => ⟨kt_in hy rfl, kt_cin hk (kt_rd rfl (by omega)) (fun hly hk => ?_)⟩)
      refine kt_cle hk (kt_rd (kt_rd rfl (by omega)) (by omega)) (kt_rd (kt_rd rfl (by omega)) (by omega)) (fun hk => ?_) (fun hk => ?_)
      · refine ⟨kt_in hz rfl, kt_in hy rfl, kt_nw hk rfl rfl (by omega) (kt_rd rfl (by omega)) (fun hk => kt_nf hk (kt_pdA _) (fun hk => ?_))⟩
        have t := ih _ _ hk
        simp (decide := true) only [kt_S, kt_D_ne, kt_Z_ne, kt_C_ne, kt_C0_ne, kt_N_eq, nI_0] at t
        exact t
      · refine ⟨kt_in hz rfl, kt_in hy rfl, kt_nw hk rfl rfl (by omega) (kt_rd rfl (by omega)) (fun hk => ?_)⟩
        refine ⟨kt_in hz rfl, kt_in hy rfl, kt_nw hk (by simp (decide := true) only [kt_S, kt_D_ne, kt_Z_ne, kt_C_ne, kt_C0_ne, kt_N_eq, nI_0]) rfl (by omega) (kt_rd rfl (by omega)) (fun hk => kt_nf hk (kt_pdA _) (fun hk => ?_))⟩
        have t := ih _ _ hk
        simp (decide := true) only [kt_S, kt_D_ne, kt_Z_ne, kt_C_ne, kt_C0_ne, kt_N_eq, nI_0] at t
        exact t
theorem kt_ev23_ok {post : Int32 → St2 → Prop} {s : Int32} {x1 : Nat} {K : Nat → Nat → Bool} (H : ∀ r h', K r h' = true → post (nI r) (kt_S s h')) : ∀ n x2 x3 x4 h, kt_ev23 x1 K n x2 x3 x4 h = true → wX_evaluate_23 post (nI x1) (nI (kt_cell h 0 0)) (nI (kt_cell h 0 1)) (nI (kt_cell h 0 2)) n (nI x2) (nI x3) (nI x4) (kt_Z s h 1) (kt_D h 2) (kt_D h 3) (kt_D h 4) (kt_D h 5) (kt_D h 6) (kt_D h 7) (kt_D h 8) (kt_D h 9) (kt_D h 10) (kt_D h 11) (kt_D h 12) (kt_D h 13) (kt_D h 14) (kt_D h 15) (kt_D h 16) (kt_Z s h 17) (kt_D h 18) (kt_D h 19) := by
  intro n
  induction n with
  | zero => intro x2 x3 x4 h hk; exact Bool.noConfusion hk
  | succ n ih =>
    intro x2 x3 x4 h hk
    rw [kt_ev23] at hk
    refine kt_cle hk rfl rfl (fun hk => ?_) (fun hk => ?_)
    · exact kt_nf hk (kt_pdS _) (fun hk => ⟨20, kt_ev72_ok H _ _ _ hk⟩)
    · refine kt_cin hk rfl (fun hx hk => kt_cin hk (kt_rd rfl (by omega)) (fun hy hk => ?_))
      refine kt_clt' hk (kt_rd (kt_rd rfl (by omega)) (by omega)) rfl (fun hk => ?_) (fun hk => ?_)
      · exact kt_nf hk (kt_pdS _) (fun hk => ⟨20, kt_ev72_ok H _ _ _ hk⟩)
      · refine kt_cin hk rfl (fun h2 hk => kt_nw hk rfl rfl (by omega) rfl (fun hk => kt_nf hk (nI_1 _) (fun hk => ⟨kt_in hx rfl, kt_nf hk (kt_rd rfl (by omega)) (fun hk => kt_nf hk (nI_1 _) (fun hk => ?_))⟩)))
        have t := ih _ _ _ _ hk
        simp (decide := true) only [kt_S, kt_D_ne, kt_Z_ne, kt_C_ne, kt_C0_ne, kt_N_eq, nI_0] at t
        exact t
theorem kt_ev_ok {post : Int32 → St2 → Prop} {s : Int32} {h p : Nat} {K : Nat → Nat → Bool} {u : St2} {x : Int32} (hk : kt_ev h p K = true) (hu : u = kt_S s h) (hx : x = nI p) (H : ∀ r h', K r h' = true → post (nI r) (kt_S s h')) : wpX_evaluate post u x := by
  subst hu hx
  refine kt_cin hk rfl (fun hp hk => kt_cle hk rfl (kt_rd rfl (by omega)) (fun hk => ⟨20, kt_ev23_ok H 20 0 p 0 h hk⟩) (fun hk => ⟨kt_in hp rfl, ?_⟩))
  rw [kt_rd rfl (by omega)]
  exact H _ _ hk
theorem kt_fs9_ok {post : St2 → Prop} {s : Int32} {x1 x2 : Nat} {K : Nat → Bool} (H : ∀ h', K h' = true → post (kt_S s h')) : ∀ n x h, kt_fs9 x1 x2 K n x h = true → wX_findSemi_9 post (nI x1) (nI x2) n (nI x) (nI (kt_cell h 0 0)) (nI (kt_cell h 0 1)) (nI (kt_cell h 0 2)) (kt_Z s h 1) (kt_D h 2) (kt_D h 3) (kt_D h 4) (kt_D h 5) (kt_D h 6) (kt_D h 7) (kt_D h 8) (kt_D h 9) (kt_D h 10) (kt_D h 11) (kt_D h 12) (kt_D h 13) (kt_D h 14) (kt_D h 15) (kt_D h 16) (kt_Z s h 17) (kt_D h 18) (kt_D h 19) := by
  intro n
  induction n with
  | zero => intro x h hk; exact Bool.noConfusion hk
  | succ n ih =>
    intro x h hk
    rw [kt_fs9] at hk
    refine kt_cle hk rfl rfl (fun hk => H _ hk) (fun hk => ?_)
    refine kt_cin hk rfl (fun hx hk => kt_cin hk (kt_rd rfl (by omega)) (fun hy hk => ?_))
    refine kt_cb hk (kt_rd (kt_rd rfl (by omega)) (by omega)) rfl (fun hk => kt_nf hk (nI_1 _) (fun hk => ih _ _ hk)) (fun hk => ?_)
    refine kt_ev_ok (s := s) hk rfl rfl (fun r h1 hk => ?_)
    rw [kt_fE] at hk
    refine kt_cin hk rfl (fun hr hk => kt_cin hk rfl (fun h1' hk => ?_))
    refine kt_cle hk (kt_rd rfl (by omega)) (kt_rd rfl (by omega)) (fun hk => kt_nf hk (nI_1 _) (fun hk => ih _ _ hk)) (fun hk => ?_)
    refine ⟨kt_in hr rfl, kt_in h1' rfl, kt_nw hk rfl rfl (by omega) (kt_rd rfl (by omega)) (fun hk => kt_nf hk (nI_1 _) (fun hk => ?_))⟩
    have t := ih _ _ hk
    simp (decide := true) only [kt_S, kt_D_ne, kt_Z_ne, kt_C_ne, kt_C0_ne, kt_N_eq, nI_0] at t
    exact t
theorem kt_fs_ok {post : St2 → Prop} {s : Int32} {h p : Nat} {K : Nat → Bool} {u : St2} {x : Int32} (hk : kt_fs h p K = true) (hu : u = kt_S s h) (hx : x = nI p) (H : ∀ h', K h' = true → post (kt_S s h')) : wpX_findSemi post u x := by
  subst hu hx
  exact kt_cin hk rfl (fun hp hk => kt_nf hk (kt_rd rfl (by omega)) (fun hk => ⟨20, kt_fs9_ok H 20 0 h hk⟩))
theorem kt_eb9_ok {post : St2 → Prop} {s : Int32} {x1 : Nat} {K : Nat → Bool} (H : ∀ h', K h' = true → post (kt_S s h')) : ∀ n x2 x3 h, kt_eb9 x1 K n x2 x3 h = true → wX_emptyBucket_9 post (nI x1) n (nI x2) (nI x3) (nI (kt_cell h 0 0)) (nI (kt_cell h 0 1)) (nI (kt_cell h 0 2)) (kt_Z s h 1) (kt_D h 2) (kt_D h 3) (kt_D h 4) (kt_D h 5) (kt_D h 6) (kt_D h 7) (kt_D h 8) (kt_D h 9) (kt_D h 10) (kt_D h 11) (kt_D h 12) (kt_D h 13) (kt_D h 14) (kt_D h 15) (kt_D h 16) (kt_Z s h 17) (kt_D h 18) (kt_D h 19) := by
  intro n
  induction n with
  | zero => intro x2 x3 h hk; exact Bool.noConfusion hk
  | succ n ih =>
    intro x2 x3 h hk
    rw [kt_eb9] at hk
    refine kt_cle hk rfl rfl (fun hk => ?_) (fun hk => ?_)
    · refine kt_cin hk rfl (fun hx hk => kt_nw hk rfl rfl (by omega) kt_m1 (fun hk => ?_))
      have t := H _ hk
      simp (decide := true) only [kt_S, kt_D_ne, kt_Z_ne, kt_C_ne, kt_C0_ne, kt_N_eq, nI_0] at t
      exact t
    · refine kt_clt' hk rfl rfl (fun hk => ?_) (fun hk => ?_)
      · refine kt_cin hk rfl (fun hx hk => kt_nw hk rfl rfl (by omega) kt_m1 (fun hk => ?_))
        have t := H _ hk
        simp (decide := true) only [kt_S, kt_D_ne, kt_Z_ne, kt_C_ne, kt_C0_ne, kt_N_eq, nI_0] at t
        exact t
      · refine kt_ev_ok (s := s) hk rfl rfl (fun r h1 hk => ?_)
        rw [kt_fE] at hk
        refine kt_cin hk rfl (fun hr hk => kt_cin hk rfl (fun hx hk => ?_))
        refine kt_cle hk (kt_rd rfl (by omega)) (kt_rd rfl (by omega)) (fun hk => ?_) (fun hk => ?_)
        · refine ⟨kt_in hx rfl, kt_nw hk rfl rfl (by omega) rfl (fun hk => ⟨kt_in hx rfl, kt_nf hk (kt_rd rfl (by omega)) (fun hk => kt_nf hk (nI_1 _) (fun hk => ?_))⟩)⟩
          have t := ih _ _ _ hk
          simp (decide := true) only [kt_S, kt_D_ne, kt_Z_ne, kt_C_ne, kt_C0_ne, kt_N_eq, nI_0] at t
          exact t
        · refine ⟨kt_in hx rfl, kt_nw hk rfl rfl (by omega) rfl (fun hk => ⟨kt_in hx rfl, kt_nf hk (kt_rd rfl (by omega)) (fun hk => kt_nf hk (nI_1 _) (fun hk => ?_))⟩)⟩
          have t := ih _ _ _ hk
          simp (decide := true) only [kt_S, kt_D_ne, kt_Z_ne, kt_C_ne, kt_C0_ne, kt_N_eq, nI_0] at t
          exact t
theorem kt_eb_ok {post : St2 → Prop} {s : Int32} {h p : Nat} {K : Nat → Bool} {u : St2} {x : Int32} (hk : kt_eb h p K = true) (hu : u = kt_S s h) (hx : x = nI p) (H : ∀ h', K h' = true → post (kt_S s h')) : wpX_emptyBucket post u x := by
  subst hu hx
  exact kt_cin hk rfl (fun hp hk => kt_nf hk (kt_rd rfl (by omega)) (fun hk => ⟨20, kt_eb9_ok H 20 _ 0 h hk⟩))
theorem kt_fd126_ok {post : St2 → Prop} {s : Int32} {K : Nat → Bool} (H : ∀ h', K h' = true → post (kt_S s h')) : ∀ n x h, kt_fd126 K n x h = true → wX_findDominators_126 post (nI (kt_cell h 0 0)) (nI (kt_cell h 0 1)) (nI (kt_cell h 0 2)) n (nI x) (kt_Z s h 1) (kt_D h 2) (kt_D h 3) (kt_D h 4) (kt_D h 5) (kt_D h 6) (kt_D h 7) (kt_D h 8) (kt_D h 9) (kt_D h 10) (kt_D h 11) (kt_D h 12) (kt_D h 13) (kt_D h 14) (kt_D h 15) (kt_D h 16) (kt_Z s h 17) (kt_D h 18) (kt_D h 19) := by
  intro n
  induction n with
  | zero => intro x h hk; exact Bool.noConfusion hk
  | succ n ih =>
    intro x h hk
    rw [kt_fd126] at hk
    refine kt_cle hk rfl rfl (fun hk => H _ hk) (fun hk => ?_)
    refine kt_cin hk rfl (fun hx hk => ⟨kt_in hx rfl, ?_⟩)
    refine kt_ceq hk (kt_rd rfl (by omega)) (kt_rd rfl (by omega)) (fun hk => kt_nf hk (nI_1 _) (fun hk => ih _ _ hk)) (fun hk => ⟨kt_in hx rfl, ?_⟩)
    refine kt_cin hk (kt_rd rfl (by omega)) (fun hy hk => ⟨kt_in hx rfl, kt_nw hk rfl rfl (by omega) (kt_rd (kt_rd rfl (by omega)) (by omega)) (fun hk => kt_nf hk (nI_1 _) (fun hk => ?_))⟩)
    have t := ih _ _ hk
    simp (decide := true) only [kt_S, kt_D_ne, kt_Z_ne, kt_C_ne, kt_C0_ne, kt_N_eq, nI_0] at t
    exact t
theorem kt_fd58_ok {post : St2 → Prop} {s : Int32} {K : Nat → Bool} (H : ∀ h', K h' = true → post (kt_S s h')) : ∀ n x h, kt_fd58 K n x h = true → wX_findDominators_58 post n (nI x) (nI (kt_cell h 0 0)) (nI (kt_cell h 0 1)) (nI (kt_cell h 0 2)) (kt_Z s h 1) (kt_D h 2) (kt_D h 3) (kt_D h 4) (kt_D h 5) (kt_D h 6) (kt_D h 7) (kt_D h 8) (kt_D h 9) (kt_D h 10) (kt_D h 11) (kt_D h 12) (kt_D h 13) (kt_D h 14) (kt_D h 15) (kt_D h 16) (kt_Z s h 17) (kt_D h 18) (kt_D h 19) := by
  intro n
  induction n with
  | zero => intro x h hk; exact Bool.noConfusion hk
  | succ n ih =>
    intro x h hk
    rw [kt_fd58] at hk
    refine kt_cle hk rfl rfl (fun hk => ⟨20, kt_fd126_ok H 20 1 h hk⟩) (fun hk => ?_)
    refine kt_fs_ok (s := s) hk rfl rfl (fun h1 hk => ?_)
    refine kt_cin hk rfl (fun hx hk => kt_cin hk (kt_rd rfl (by omega)) (fun hy hk => ⟨kt_in hx rfl, ?_⟩))
    refine kt_nw hk rfl rfl (by omega) (kt_rd (kt_rd rfl (by omega)) (by omega)) (fun hk => ⟨kt_in hx rfl, kt_in hy (kt_rd rfl (by omega)), ?_⟩)
    refine kt_nw hk (by simp (decide := true) only [kt_S, kt_D_ne, kt_Z_ne, kt_C_ne, kt_C0_ne, kt_N_eq, nI_0]) (kt_rd rfl (by omega)) (by omega) rfl (fun hk => ⟨kt_in hx rfl, kt_in hx rfl, ?_⟩)
    refine kt_nw hk (by simp (decide := true) only [kt_S, kt_D_ne, kt_Z_ne, kt_C_ne, kt_C0_ne, kt_N_eq, nI_0]) rfl (by omega) (kt_rd rfl (by omega)) (fun hk => ⟨kt_in hx rfl, ?_⟩)
    refine kt_eb_ok (s := s) hk (by simp (decide := true) only [kt_S, kt_D_ne, kt_Z_ne, kt_C_ne, kt_C0_ne, kt_N_eq, nI_0]) (kt_rd rfl (by omega)) (fun h5 hk => kt_nf hk (kt_pdA _) (fun hk => ih _ _ hk))
theorem kt_fd2_ok {post : St2 → Prop} {s : Int32} {K : Nat → Bool} (H : ∀ h', K h' = true → post (kt_S s h')) : ∀ n x h, kt_fd2 K n x h = true → wX_findDominators_2 post (nI (kt_cell h 0 0)) (nI (kt_cell h 0 1)) (nI (kt_cell h 0 2)) n (nI x) (kt_Z s h 1) (kt_D h 2) (kt_D h 3) (kt_D h 4) (kt_D h 5) (kt_D h 6) (kt_D h 7) (kt_D h 8) (kt_D h 9) (kt_D h 10) (kt_D h 11) (kt_D h 12) (kt_D h 13) (kt_D h 14) (kt_D h 15) (kt_D h 16) (kt_Z s h 17) (kt_D h 18) (kt_D h 19) := by
  intro n
  induction n with
  | zero => intro x h hk; exact Bool.noConfusion hk
  | succ n ih =>
    intro x h hk
    rw [kt_fd2] at hk
    refine kt_cle hk rfl rfl (fun hk => kt_nf hk (kt_pdS _) (fun hk => ⟨20, kt_fd58_ok H _ _ _ hk⟩)) (fun hk => ?_)
    refine kt_cin hk rfl (fun hx hk => kt_nw hk rfl rfl (by omega) rfl (fun hk => ⟨kt_in hx rfl, kt_nw hk (by simp (decide := true) only [kt_S, kt_D_ne, kt_Z_ne, kt_C_ne, kt_C0_ne, kt_N_eq, nI_0]) rfl (by omega) rfl (fun hk => ⟨kt_in hx rfl, ?_⟩)⟩))
    refine kt_nw hk (by simp (decide := true) only [kt_S, kt_D_ne, kt_Z_ne, kt_C_ne, kt_C0_ne, kt_N_eq, nI_0]) rfl (by omega) kt_m1 (fun hk => ⟨kt_in hx rfl, kt_nw hk (by simp (decide := true) only [kt_S, kt_D_ne, kt_Z_ne, kt_C_ne, kt_C0_ne, kt_N_eq, nI_0]) rfl (by omega) kt_m1 (fun hk => ⟨kt_in hx rfl, ?_⟩)⟩)
    refine kt_nw hk (by simp (decide := true) only [kt_S, kt_D_ne, kt_Z_ne, kt_C_ne, kt_C0_ne, kt_N_eq, nI_0]) rfl (by omega) kt_m1 (fun hk => kt_nf hk (nI_1 _) (fun hk => ?_))
    have t := ih _ _ hk
    simp (decide := true) only [kt_S, kt_D_ne, kt_Z_ne, kt_C_ne, kt_C0_ne, kt_N_eq, nI_0] at t
    exact t
theorem kt_fd_ok {post : St2 → Prop} {s : Int32} {h : Nat} {K : Nat → Bool} {u : St2} (hk : kt_fd2 K 20 0 h = true) (hu : u = kt_S s h) (H : ∀ h', K h' = true → post (kt_S s h')) : wpX_findDominators post u := by
  subst hu
  exact ⟨20, kt_fd2_ok H 20 0 h hk⟩
end
section
theorem kt_wt22_ok {post : St2 → Prop} {s : Int32} {K : Nat → Bool} (H : ∀ h', K h' = true → post (kt_S s h')) : ∀ n x1 x2 x3 h, kt_wt22 K n x1 x2 x3 h = true → wX_walkTree_22 post (nI (kt_cell h 0 0)) (nI (kt_cell h 0 1)) (nI (kt_cell h 0 2)) n (nI x1) (nI x2) (nI x3) (kt_Z s h 1) (kt_D h 2) (kt_D h 3) (kt_D h 4) (kt_D h 5) (kt_D h 6) (kt_D h 7) (kt_D h 8) (kt_D h 9) (kt_D h 10) (kt_D h 11) (kt_D h 12) (kt_D h 13) (kt_D h 14) (kt_D h 15) (kt_D h 16) (kt_Z s h 17) (kt_D h 18) (kt_D h 19) := by
  intro n
  induction n with
  | zero => intro x1 x2 x3 h hk; exact Bool.noConfusion hk
  | succ n ih =>
    intro x1 x2 x3 h hk
    rw [kt_wt22] at hk
    refine kt_cle hk rfl rfl (fun hk => H _ hk) (fun hk => kt_cle hk rfl rfl (fun hk => H _ hk) (fun hk => ?_))
    rw [kt_fE] at hk
    refine kt_cin hk (kt_pdS x2) (fun hi hk => kt_nf hk (kt_rd (kt_pdS x2) (by omega)) (fun hk => kt_cin hk rfl (fun hv hk => kt_nf hk (kt_rd rfl (by omega)) (fun hk => ?_))))
    refine kt_cle hk rfl rfl (fun hk => ?_) (fun hk => ?_)
    · refine kt_cin hk rfl (fun hb hk => ⟨kt_in hv rfl, kt_nw hk rfl rfl (by omega) (kt_rd rfl (by omega)) (fun hk => kt_nf hk (nI_1 _) (fun hk => ⟨kt_in hb rfl, ?_⟩))⟩)
      refine kt_nw hk (by simp (decide := true) only [kt_S, kt_D_ne, kt_Z_ne, kt_C_ne, kt_C0_ne, kt_N_eq, nI_0]) rfl (by omega) rfl (fun hk => kt_cin hk rfl (fun h2 hk => kt_nw hk (by simp (decide := true) only [kt_S, kt_D_ne, kt_Z_ne, kt_C_ne, kt_C0_ne, kt_N_eq, nI_0]) rfl (by omega) rfl (fun hk => kt_nf hk (nI_1 _) (fun hk => kt_nf hk (nI_1 _) (fun hk => ?_)))))
      have t := ih _ _ _ _ hk
      simp (decide := true) only [kt_S, kt_D_ne, kt_Z_ne, kt_C_ne, kt_C0_ne, kt_N_eq, nI_0] at t
      exact t
    · refine ⟨kt_in hv rfl, kt_nw hk rfl rfl (by omega) rfl (fun hk => nm_r (kt_pdA _) (kt_nf hk (nI_1 _) (fun hk => ?_)))⟩
      have t := ih _ _ _ _ hk
      simp (decide := true) only [kt_S, kt_D_ne, kt_Z_ne, kt_C_ne, kt_C0_ne, kt_N_eq, nI_0] at t
      exact t
theorem kt_wt_ok {post : St2 → Prop} {s : Int32} {h : Nat} {K : Nat → Bool} {u : St2} (hk : kt_wt h K = true) (hu : u = kt_S s h) (H : ∀ h', K h' = true → post (kt_S s h')) : wpX_walkTree post u := by
  subst hu
  refine kt_nl hk rfl rfl (fun hk => kt_nl hk (by simp (decide := true) only [kt_S, kt_D_ne, kt_Z_ne, kt_C_ne, kt_C0_ne, kt_N_eq, nI_0]) rfl (fun hk => ⟨40, ?_⟩))
  have t := kt_wt22_ok H _ _ _ _ _ hk
  simp (decide := true) only [kt_S, kt_D_ne, kt_Z_ne, kt_C_ne, kt_C0_ne, kt_N_eq, nI_0] at t
  exact t
theorem kt_lo126_ok {post : St2 → Prop} {s : Int32} {K : Nat → Bool} (H : ∀ h', K h' = true → post (kt_S s h')) : ∀ n x h, kt_lo126 K n x h = true → wX_layOutTree_126 post (nI (kt_cell h 0 0)) (nI (kt_cell h 0 1)) (nI (kt_cell h 0 2)) n (nI x) (kt_Z s h 1) (kt_D h 2) (kt_D h 3) (kt_D h 4) (kt_D h 5) (kt_D h 6) (kt_D h 7) (kt_D h 8) (kt_D h 9) (kt_D h 10) (kt_D h 11) (kt_D h 12) (kt_D h 13) (kt_D h 14) (kt_D h 15) (kt_D h 16) (kt_Z s h 17) (kt_D h 18) (kt_D h 19) := by
  intro n
  induction n with
  | zero => intro x h hk; exact Bool.noConfusion hk
  | succ n ih =>
    intro x h hk
    rw [kt_lo126] at hk
    refine kt_cle hk rfl rfl (fun hk => kt_wt_ok (s := s) hk rfl (fun h' hk => H _ hk)) (fun hk => ?_)
    refine kt_cin hk rfl (fun hx hk => kt_nf hk (kt_rd rfl (by omega)) (fun hk => kt_cin hk rfl (fun hv hk => kt_nf hk (kt_rd rfl (by omega)) (fun hk => kt_cin hk rfl (fun hc hk => ⟨kt_in hv rfl, kt_in hc rfl, ?_⟩)))))
    refine kt_nz (s := s) hk rfl rfl (by omega) ?_ (fun hk => ⟨kt_in hc rfl, kt_in hv rfl, ?_⟩)
    · rw [kt_rz rfl (by omega), kt_rz rfl (by omega), ← nI_add, Int32.add_mul]
    · refine kt_nw hk (by simp (decide := true) only [kt_S, kt_D_ne, kt_Z_ne, kt_C_ne, kt_C0_ne, kt_N_eq, nI_0]) rfl (by omega) (kt_rd rfl (by omega)) (fun hk => ⟨kt_in hc rfl, kt_nw hk (by simp (decide := true) only [kt_S, kt_D_ne, kt_Z_ne, kt_C_ne, kt_C0_ne, kt_N_eq, nI_0]) rfl (by omega) rfl (fun hk => kt_nf hk (kt_pdA _) (fun hk => ?_))⟩)
      have t := ih _ _ hk
      simp (decide := true) only [kt_S, kt_D_ne, kt_Z_ne, kt_C_ne, kt_C0_ne, kt_N_eq, nI_0] at t
      exact t
theorem kt_lo65_ok {post : St2 → Prop} {s : Int32} {K : Nat → Bool} (H : ∀ h', K h' = true → post (kt_S s h')) : ∀ n x h, kt_lo65 K n x h = true → wX_layOutTree_65 post (nI (kt_cell h 0 0)) (nI (kt_cell h 0 1)) (nI (kt_cell h 0 2)) n (nI x) (kt_Z s h 1) (kt_D h 2) (kt_D h 3) (kt_D h 4) (kt_D h 5) (kt_D h 6) (kt_D h 7) (kt_D h 8) (kt_D h 9) (kt_D h 10) (kt_D h 11) (kt_D h 12) (kt_D h 13) (kt_D h 14) (kt_D h 15) (kt_D h 16) (kt_Z s h 17) (kt_D h 18) (kt_D h 19) := by
  intro n
  induction n with
  | zero => intro x h hk; exact Bool.noConfusion hk
  | succ n ih =>
    intro x h hk
    rw [kt_lo65] at hk
    refine kt_cle hk rfl rfl (fun hk => kt_nf hk (kt_pdS _) (fun hk => ⟨20, kt_lo126_ok H _ _ _ hk⟩)) (fun hk => ?_)
    refine kt_cin hk rfl (fun hx hk => kt_nf hk (kt_rd rfl (by omega)) (fun hk => ⟨kt_in hx rfl, kt_cin hk (kt_rd rfl (by omega)) (fun hd hk => kt_nf hk (kt_rd (kt_rd rfl (by omega)) (by omega)) (fun hk => ?_))⟩))
    refine kt_cin hk rfl (fun hv hk => kt_nw hk rfl rfl (by omega) rfl (fun hk => kt_cin hk rfl (fun hc hk => ⟨kt_in hv rfl, ?_⟩)))
    refine kt_nw hk (by simp (decide := true) only [kt_S, kt_D_ne, kt_Z_ne, kt_C_ne, kt_C0_ne, kt_N_eq, nI_0]) rfl (by omega) (by rw [kt_rd rfl (by omega)]; exact nI_1 _) (fun hk => kt_nf hk (nI_1 _) (fun hk => ?_))
    have t := ih _ _ hk
    simp (decide := true) only [kt_S, kt_D_ne, kt_Z_ne, kt_C_ne, kt_C0_ne, kt_N_eq, nI_0] at t
    exact t
theorem kt_lo19_ok {post : St2 → Prop} {s : Int32} {K : Nat → Bool} (H : ∀ h', K h' = true → post (kt_S s h')) : ∀ n x h, kt_lo19 K n x h = true → wX_layOutTree_19 post (nI (kt_cell h 0 0)) (nI (kt_cell h 0 1)) (nI (kt_cell h 0 2)) n (nI x) (kt_Z s h 1) (kt_D h 2) (kt_D h 3) (kt_D h 4) (kt_D h 5) (kt_D h 6) (kt_D h 7) (kt_D h 8) (kt_D h 9) (kt_D h 10) (kt_D h 11) (kt_D h 12) (kt_D h 13) (kt_D h 14) (kt_D h 15) (kt_D h 16) (kt_Z s h 17) (kt_D h 18) (kt_D h 19) := by
  intro n
  induction n with
  | zero => intro x h hk; exact Bool.noConfusion hk
  | succ n ih =>
    intro x h hk
    rw [kt_lo19] at hk
    refine kt_cle hk rfl rfl (fun hk => ⟨20, kt_lo65_ok H _ _ _ hk⟩) (fun hk => ?_)
    refine kt_cin hk rfl (fun hx hk => kt_clt' hk (kt_rd rfl (by omega)) rfl (fun hk => ?_) (fun hk => ⟨kt_in hx rfl, ?_⟩))
    · refine ⟨kt_in hx rfl, kt_nz (s := s) hk rfl rfl (by omega) (by rw [nI_0, Int32.zero_mul]) (fun hk => ⟨kt_in hx rfl, kt_nw hk (by simp (decide := true) only [kt_S, kt_D_ne, kt_Z_ne, kt_C_ne, kt_C0_ne, kt_N_eq, nI_0]) rfl (by omega) kt_m1 (fun hk => kt_nf hk (nI_1 _) (fun hk => ?_))⟩)⟩
      have t := ih _ _ hk
      simp (decide := true) only [kt_S, kt_D_ne, kt_Z_ne, kt_C_ne, kt_C0_ne, kt_N_eq, nI_0] at t
      exact t
    · refine ⟨kt_in hx rfl, kt_nz (s := s) hk rfl rfl (by omega) (kt_rz rfl (by omega)) (fun hk => ⟨kt_in hx rfl, kt_nw hk (by simp (decide := true) only [kt_S, kt_D_ne, kt_Z_ne, kt_C_ne, kt_C0_ne, kt_N_eq, nI_0]) rfl (by omega) kt_m1 (fun hk => kt_nf hk (nI_1 _) (fun hk => ?_))⟩)⟩
      have t := ih _ _ hk
      simp (decide := true) only [kt_S, kt_D_ne, kt_Z_ne, kt_C_ne, kt_C0_ne, kt_N_eq, nI_0] at t
      exact t
theorem kt_lay_ok {post : St2 → Prop} {s : Int32} {h : Nat} {K : Nat → Bool} {u : St2} (hk : kt_lay h K = true) (hu : u = kt_S s h) (H : ∀ h', K h' = true → post (kt_S s h')) : wpX_layOutTree post u := by
  subst hu
  refine kt_nl hk rfl rfl (fun hk => kt_nl hk (by simp (decide := true) only [kt_S, kt_D_ne, kt_Z_ne, kt_C_ne, kt_C0_ne, kt_N_eq, nI_0]) rfl (fun hk => ⟨20, ?_⟩))
  have t := kt_lo19_ok H _ _ _ hk
  simp (decide := true) only [kt_S, kt_D_ne, kt_Z_ne, kt_C_ne, kt_C0_ne, kt_N_eq, nI_0] at t
  exact t
theorem kt_prep_ok {post : St2 → Prop} {s : Int32} {h : Nat} {K : Nat → Bool} {u : St2} (hk : kt_prep h K = true) (hu : u = kt_S s h) (H : ∀ h', K h' = true → post (kt_S s h')) : wpX_prepare post u := by
  subst hu
  refine kt_ceq hk rfl rfl (fun hk => ?_) (fun hk => Bool.noConfusion hk)
  refine kt_nl hk rfl rfl (fun hk => ?_)
  rw [kt_wE] at hk
  refine kt_nv_ok (s := s) hk (by simp (decide := true) only [kt_S, kt_D_ne, kt_Z_ne, kt_C_ne, kt_C0_ne, kt_N_eq, nI_0]; rfl) (fun h3 hk => ?_)
  refine kt_fd_ok (s := s) hk rfl (fun h4 hk => ?_)
  exact kt_lay_ok (s := s) hk rfl (fun h5 hk => H _ hk)
/-- a second time: nothing to do -/
theorem kt_prep_no {post : St2 → Prop} {s : Int32} {h : Nat} {u : St2} (hf : kt_cell h 0 1 = 1) (hu : u = kt_S s h) (H : post (kt_S s h)) : wpX_prepare post u := by
  subst hu
  refine br_f ?_ H
  rw [hf]
  decide
end
section
/-- prepare, asked at h, hands on some h' with G -/
def kt_pr (s : Int32) (h : Nat) (G : Nat → Prop) : Prop := ∀ post : St2 → Prop, (∀ h', G h' → post (kt_S s h')) → wpX_prepare post (kt_S s h)
theorem kt_pr_of {s : Int32} {h : Nat} {K : Nat → Bool} (hk : kt_prep h K = true) : kt_pr s h (fun h' => K h' = true) := fun post H => kt_prep_ok hk rfl H
theorem kt_pr_no {s : Int32} {h : Nat} {G : Nat → Prop} (hf : kt_cell h 0 1 = 1) (g : G h) : kt_pr s h G := fun post H => kt_prep_no hf rfl (H h g)
theorem kt_obj {post : Int32 → Prop} {x : Int32} {c : Nat} (hx : x = nI c) (hc : c < 16) (H : post 1) : wpX_isObject post () x := by
  subst hx
  exact br_f (nI_pos (by omega)) (br_f (nI_nlt (b := c) (a := 15) (by omega) (by omega)) H)
theorem kt_nobj {post : Int32 → Prop} {x : Int32} (hx : x < 0 ∨ 15 < x) (H : post 0) : wpX_isObject post () x :=
  br_c (fun _ => H) (fun h0 => br_c (fun _ => H) (fun h1 => absurd hx (fun z => z.elim h0 h1)))
theorem kt_one : ¬ (1 : Int32) = 0 := by decide
theorem kt_lt0 {h k c : Nat} {x : Int32} (hx : x = nI c) (hc : c < 17) : kt_D h k x.toNatClampNeg < 0 ↔ kt_le 0 (kt_cell h k c) = false := by
  rw [kt_rd hx (by omega)]
  have t := kt_leI 0 (kt_cell h k c)
  rw [nI_0] at t
  constructor
  · intro z
    cases e : kt_le 0 (kt_cell h k c)
    · rfl
    · have t2 := t.mpr e
      rw [Int32.le_iff_toInt_le] at t2
      rw [Int32.lt_iff_toInt_lt] at z
      omega
  · intro z
    rw [z] at t
    have t2 : ¬ 0 ≤ nI (kt_cell h k c) := fun q => Bool.noConfusion (t.mp q)
    rw [Int32.le_iff_toInt_le] at t2
    rw [Int32.lt_iff_toInt_lt]
    omega
theorem kt_num {A B : Prop} {h c : Nat} {x : Int32} (hx : x = nI c) (hc : c < 17) (f : kt_le 0 (kt_cell h 3 c) = false → A) (g : kt_le 0 (kt_cell h 3 c) = true → B) : (kt_D h 3 x.toNatClampNeg < 0 → A) ∧ (¬ kt_D h 3 x.toNatClampNeg < 0 → B) := by
  rw [kt_lt0 hx hc]
  cases e : kt_le 0 (kt_cell h 3 c)
  · exact br_t rfl (f e)
  · exact br_f (fun z => Bool.noConfusion z) (g e)
theorem kt_alive_ok {post : Int32 → St2 → Prop} {s : Int32} {h c : Nat} {G : Nat → Prop} {u : St2} {x : Int32} (Q : kt_pr s h G) (hu : u = kt_S s h) (hx : x = nI c) (hc : c < 16) (H0 : ∀ h', G h' → kt_le 0 (kt_cell h' 3 c) = false → post 0 (kt_S s h')) (H1 : ∀ h', G h' → kt_le 0 (kt_cell h' 3 c) = true → post 1 (kt_S s h')) : wpX_alive post u x := by
  subst hu
  unfold wpX_alive
  dsimp only [kt_S]
  refine kt_obj hx hc ?_
  refine br_f kt_one ?_
  refine Q _ (fun h' g => ?_)
  refine ⟨kt_in (N := 17) (a := c) (by omega) hx, ?_⟩
  exact kt_num hx (by omega) (H0 h' g) (H1 h' g)
def kt_vis (k : Nat) : Int32 := if k = 16 then -1 else nI k
theorem kt_visible_ok {post : Int32 → Prop} {x : Int32} {k : Nat} (hx : x = nI k) (hk : k < 17) (H : post (kt_vis k)) : wpX_visible post () x := by
  subst hx
  unfold kt_vis at H
  refine pk_eq k 16 (fun e => ?_) (fun e => ?_)
  · rw [if_pos e] at H
    exact H
  · rw [if_neg e] at H
    exact H
theorem kt_keeper_ok {post : Int32 → St2 → Prop} {s : Int32} {h c : Nat} {G : Nat → Prop} {u : St2} {x : Int32} (Q : kt_pr s h G) (hu : u = kt_S s h) (hx : x = nI c) (hc : c < 16) (H0 : ∀ h', G h' → kt_le 0 (kt_cell h' 3 c) = false → post (-1) (kt_S s h')) (H1 : ∀ h', G h' → kt_le 0 (kt_cell h' 3 c) = true → kt_cell h' 15 c < 17 ∧ post (kt_vis (kt_cell h' 15 c)) (kt_S s h')) : wpX_keeper post u x := by
  subst hu
  unfold wpX_keeper
  dsimp only [kt_S]
  refine kt_obj hx hc ?_
  refine br_f kt_one ?_
  refine Q _ (fun h' g => ?_)
  refine ⟨kt_in (N := 17) (a := c) (by omega) hx, ?_⟩
  refine kt_num hx (by omega) (H0 h' g) (fun e => ⟨kt_in (N := 17) (a := c) (by omega) hx, ?_⟩)
  exact kt_visible_ok (kt_rd hx (by omega)) (H1 h' g e).1 (H1 h' g e).2
theorem kt_depth_ok {post : Int32 → St2 → Prop} {s : Int32} {h c : Nat} {G : Nat → Prop} {u : St2} {x : Int32} (Q : kt_pr s h G) (hu : u = kt_S s h) (hx : x = nI c) (hc : c < 16) (H0 : ∀ h', G h' → kt_le 0 (kt_cell h' 3 c) = false → post 0 (kt_S s h')) (H1 : ∀ h', G h' → kt_le 0 (kt_cell h' 3 c) = true → post (nI (kt_cell h' 16 c)) (kt_S s h')) : wpX_depth post u x := by
  subst hu
  unfold wpX_depth
  dsimp only [kt_S]
  refine kt_obj hx hc ?_
  refine br_f kt_one ?_
  refine Q _ (fun h' g => ?_)
  refine ⟨kt_in (N := 17) (a := c) (by omega) hx, ?_⟩
  refine kt_num hx (by omega) (H0 h' g) (fun e => ⟨kt_in (N := 17) (a := c) (by omega) hx, ?_⟩)
  show post (kt_D h' 16 x.toNatClampNeg) (kt_S s h')
  rw [kt_rd hx (by omega)]
  exact H1 h' g e
theorem kt_held_ok {post : Int32 → St2 → Prop} {s : Int32} {h c : Nat} {G : Nat → Prop} {u : St2} {x : Int32} (Q : kt_pr s h G) (hu : u = kt_S s h) (hx : x = nI c) (hc : c < 16) (H0 : ∀ h', G h' → kt_le 0 (kt_cell h' 3 c) = false → post 0 (kt_S s h')) (H1 : ∀ h', G h' → kt_le 0 (kt_cell h' 3 c) = true → post (nI (kt_cell h' 17 c) * s) (kt_S s h')) : wpX_held post u x := by
  subst hu
  unfold wpX_held
  dsimp only [kt_S]
  refine kt_obj hx hc ?_
  refine br_f kt_one ?_
  refine Q _ (fun h' g => ?_)
  refine ⟨kt_in (N := 17) (a := c) (by omega) hx, ?_⟩
  refine kt_num hx (by omega) (H0 h' g) (fun e => ⟨kt_in (N := 17) (a := c) (by omega) hx, ?_⟩)
  show post (kt_Z s h' 17 x.toNatClampNeg) (kt_S s h')
  rw [kt_rz hx (by omega)]
  exact H1 h' g e
theorem kt_total_ok {post : Int32 → St2 → Prop} {s : Int32} {h : Nat} {G : Nat → Prop} {u : St2} (Q : kt_pr s h G) (hu : u = kt_S s h) (H : ∀ h', G h' → post (nI (kt_cell h' 17 16) * s) (kt_S s h')) : wpX_total post u := by
  subst hu
  unfold wpX_total
  dsimp only [kt_S]
  exact Q _ (fun h' g => H h' g)
theorem kt_alive_no {post : Int32 → St2 → Prop} {s : Int32} {h : Nat} {u : St2} {x : Int32} (hx : x < 0 ∨ 15 < x) (hu : u = kt_S s h) (H : post (-2) (kt_S s h)) : wpX_alive post u x := by
  subst hu
  unfold wpX_alive
  dsimp only [kt_S]
  refine kt_nobj hx ?_
  exact br_t rfl H
theorem kt_keeper_no {post : Int32 → St2 → Prop} {s : Int32} {h : Nat} {u : St2} {x : Int32} (hx : x < 0 ∨ 15 < x) (hu : u = kt_S s h) (H : post (-2) (kt_S s h)) : wpX_keeper post u x := by
  subst hu
  unfold wpX_keeper
  dsimp only [kt_S]
  refine kt_nobj hx ?_
  exact br_t rfl H
theorem kt_depth_no {post : Int32 → St2 → Prop} {s : Int32} {h : Nat} {u : St2} {x : Int32} (hx : x < 0 ∨ 15 < x) (hu : u = kt_S s h) (H : post (-2) (kt_S s h)) : wpX_depth post u x := by
  subst hu
  unfold wpX_depth
  dsimp only [kt_S]
  refine kt_nobj hx ?_
  exact br_t rfl H
theorem kt_held_no {post : Int32 → St2 → Prop} {s : Int32} {h : Nat} {u : St2} {x : Int32} (hx : x < 0 ∨ 15 < x) (hu : u = kt_S s h) (H : post (-2) (kt_S s h)) : wpX_held post u x := by
  subst hu
  unfold wpX_held
  dsimp only [kt_S]
  refine kt_nobj hx ?_
  exact br_t rfl H
theorem kt_size_no {post : Int32 → St2 → Prop} {s : Int32} {h : Nat} {u : St2} {x y : Int32} (hx : x < 0 ∨ 15 < x) (hu : u = kt_S s h) (H : post (-2) (kt_S s h)) : wpX_setSize post u x y := by
  subst hu
  unfold wpX_setSize
  dsimp only [kt_S]
  refine kt_nobj hx ?_
  exact br_t rfl H
theorem kt_flip_no1 {post : Int32 → St2 → Prop} {s : Int32} {h : Nat} {u : St2} {x y : Int32} (hx : x < 0 ∨ 15 < x) (hu : u = kt_S s h) (H : post (-2) (kt_S s h)) : wpX_flip post u x y := by
  subst hu
  unfold wpX_flip
  dsimp only [kt_S]
  refine kt_nobj hx ?_
  exact br_t rfl H
theorem kt_flip_no2 {post : Int32 → St2 → Prop} {s : Int32} {h p : Nat} {u : St2} {x y : Int32} (hx : x = nI p) (hp : p < 16) (hy : y < 0 ∨ 15 < y) (hu : u = kt_S s h) (H : post (-2) (kt_S s h)) : wpX_flip post u x y := by
  subst hu
  unfold wpX_flip
  dsimp only [kt_S]
  refine kt_obj hx hp ?_
  refine br_f kt_one ?_
  refine kt_nobj hy ?_
  exact br_t rfl H
theorem kt_flip_ok {post : Int32 → St2 → Prop} {s : Int32} {h p q : Nat} {u : St2} {x y : Int32} (hx : x = nI p) (hp : p < 16) (hy : y = nI q) (hq : q < 16) (hu : u = kt_S s h) (hf : kt_cell h 0 1 = 0) (H : post (nI (kt_bit (kt_cell (kt_fl h p q) 2 p) q)) (kt_S s (kt_fl h p q))) : wpX_flip post u x y := by
  subst hu hx hy
  unfold wpX_flip
  dsimp only [kt_S]
  refine kt_obj rfl hp ?_
  refine br_f kt_one ?_
  refine kt_obj rfl hq ?_
  refine br_f kt_one ?_
  refine ⟨kt_in (N := 17) (a := p) (by omega) rfl, kt_in (N := 17) (a := p) (by omega) rfl, ?_⟩
  have e : upd (kt_D h 2) (nI p).toNatClampNeg ((kt_D h 2 (nI p).toNatClampNeg) ^^^ ((1 : Int32) <<< (nI q &&& 31))) = kt_D (kt_fl h p q) 2 := by
    rw [kt_ix rfl (show p < 32 by omega)]
    exact kt_Dn (kt_cdI _)
  refine nm_r e ⟨kt_in (N := 17) (a := p) (by omega) rfl, ?_⟩
  rw [kt_rd rfl (show p < 32 by omega), kt_bitI]
  unfold kt_fl at H ⊢
  simp (decide := true) only [kt_S, kt_D_ne, kt_Z_ne, kt_C_ne, kt_C0_ne, kt_N_eq, nI_0] at H
  rw [hf, nI_0] at H
  exact H
def kt_clamp (x : Int32) : Int32 := if 0 ≤ x then (if x ≤ 1000 then x else 1000) else 0
theorem kt_size_ok {post : Int32 → St2 → Prop} {s : Int32} {h c : Nat} {u : St2} {x y : Int32} (hx : x = nI c) (hc : c < 16) (hs : s = kt_clamp y) (hu : u = kt_S s h) (hf : kt_cell h 0 1 = 0) (H : ∀ r, post r (kt_S s (kt_wr h 1 c 1))) : wpX_setSize post u x y := by
  subst hu hx
  have W : ∀ (r z : Int32), z = s → ∀ a, a = upd (kt_Z s h 1) (nI c).toNatClampNeg z → post r (nI (kt_cell h 0 0), 0, nI (kt_cell h 0 2), a, kt_D h 2, kt_D h 3, kt_D h 4, kt_D h 5, kt_D h 6, kt_D h 7, kt_D h 8, kt_D h 9, kt_D h 10, kt_D h 11, kt_D h 12, kt_D h 13, kt_D h 14, kt_D h 15, kt_D h 16, kt_Z s h 17, kt_D h 18, kt_D h 19) := by
    intro r z hz a ha
    rw [kt_ix rfl (show c < 32 by omega), kt_Zn (c := 1) (s := s) (by rw [hz]; exact (Int32.one_mul s).symm)] at ha
    subst ha
    have t := H r
    simp (decide := true) only [kt_S, kt_D_ne, kt_Z_ne, kt_C_ne, kt_C0_ne, kt_N_eq, nI_0] at t
    rw [hf, nI_0] at t
    exact t
  have I := kt_in (N := 17) (a := c) (by omega) (rfl : nI c = nI c)
  unfold kt_clamp at hs
  unfold wpX_setSize
  dsimp only [kt_S]
  refine kt_obj rfl hc ?_
  refine br_f kt_one ?_
  refine ⟨I, nm_e ?_⟩
  refine br_c (fun h0 => br_c (fun h1 => ⟨I, W _ _ ?_⟩) (fun h1 => ⟨I, W _ _ ?_⟩)) (fun h0 => ⟨I, W _ _ ?_⟩)
  · rw [hs, if_pos h0, if_pos h1]
  · rw [hs, if_pos h0, if_neg h1]
  · rw [hs, if_neg h0]
theorem kt_c0 (k j : Nat) : kt_cell 0 k j = 0 := by
  apply Nat.eq_of_testBit_eq
  intro i
  rw [kt_tb]
  simp
theorem kt_D0 (k : Nat) : kt_D 0 k = fun _ => 0 := by
  funext j
  unfold kt_D
  rw [kt_c0, nI_0]
theorem kt_Z0 (s : Int32) (k : Nat) : kt_Z s 0 k = fun _ => 0 := by
  funext j
  unfold kt_Z
  rw [kt_c0, nI_0, Int32.zero_mul]
theorem kt_root {post : Int32 → St2 → Prop} (s : Int32) (H : post 0 (kt_S s kt_h1)) : wpX_setRoot post (0, 0, 0, (fun _ => 0), (fun _ => 0), (fun _ => 0), (fun _ => 0), (fun _ => 0), (fun _ => 0), (fun _ => 0), (fun _ => 0), (fun _ => 0), (fun _ => 0), (fun _ => 0), (fun _ => 0), (fun _ => 0), (fun _ => 0), (fun _ => 0), (fun _ => 0), (fun _ => 0), (fun _ => 0), (fun _ => 0)) 0 1 := by
  unfold wpX_setRoot
  dsimp only
  refine kt_obj (c := 0) rfl (by decide) ?_
  refine br_f kt_one ?_
  refine nm_r (e' := 0) (by decide) ?_
  refine br_f kt_one ?_
  refine nm_r (e' := nI 1) (by decide) ?_
  unfold kt_h1 at H
  simp (decide := true) only [kt_S, kt_D_ne, kt_Z_ne, kt_C_ne, kt_C0_ne, kt_N_eq, nI_0, kt_c0, kt_D0, kt_Z0] at H
  exact H
end
section
theorem kt_s1 {c k d h : Nat} (g : kt_see1 c k d h = true) : kt_cell h 0 1 = 1 ∧ kt_le 0 (kt_cell h 3 0) = true ∧ kt_cell h 17 0 = 1 ∧ kt_cell h 17 16 = 1 ∧ kt_le 0 (kt_cell h 3 c) = true ∧ kt_cell h 15 c = k ∧ kt_cell h 16 c = d ∧ kt_cell h 17 c = 1 := by
  unfold kt_see1 at g
  simp only [Bool.and_eq_true, Nat.beq_eq] at g
  exact g
theorem kt_s0 {c h : Nat} (g : kt_see0 c h = true) : kt_cell h 0 1 = 1 ∧ kt_le 0 (kt_cell h 3 0) = true ∧ kt_cell h 17 0 = 0 ∧ kt_cell h 17 16 = 0 ∧ kt_le 0 (kt_cell h 3 c) = false := by
  unfold kt_see0 at g
  simp only [Bool.and_eq_true, Nat.beq_eq, Bool.not_eq_true'] at g
  exact g
theorem kt_sb {h : Nat} (g : kt_seeb h = true) : kt_cell h 0 1 = 1 ∧ kt_le 0 (kt_cell h 3 0) = true ∧ kt_cell h 17 0 = 0 ∧ kt_cell h 17 16 = 0 := by
  unfold kt_seeb at g
  simp only [Bool.and_eq_true, Nat.beq_eq] at g
  exact g
theorem kt_ff {A : Prop} {x : Bool} (h : x = true) (h' : x = false) : A := by
  rw [h] at h'
  exact Bool.noConfusion h'
theorem kt_1s {n : Nat} (s : Int32) (h : n = 1) : nI n * s = s := by
  subst h
  exact Int32.one_mul s
theorem kt_0s {n : Nat} (s : Int32) (h : n = 0) : nI n * s = 0 := by
  subst h
  exact Int32.zero_mul
/-! c alive -/
theorem kt_L332a {post : Int32 → St0 → Prop} {mc ms kc ks c k d h : Nat} {s z0 z1 : Int32} (hp : post 1 ()) (hc : c < 16) (g : kt_see1 c k d h = true) (hz : z1 = z0) : wL_lawOf_332 post mc ms (nI c) 1 s 1 z0 z1 kc ks (nI (kt_cell h 0 0)) (nI (kt_cell h 0 1)) (nI (kt_cell h 0 2)) (kt_Z s h 1) (kt_D h 2) (kt_D h 3) (kt_D h 4) (kt_D h 5) (kt_D h 6) (kt_D h 7) (kt_D h 8) (kt_D h 9) (kt_D h 10) (kt_D h 11) (kt_D h 12) (kt_D h 13) (kt_D h 14) (kt_D h 15) (kt_D h 16) (kt_Z s h 17) (kt_D h 18) (kt_D h 19) := by
  unfold wL_lawOf_332
  refine br_t hz ?_
  refine kt_held_ok (kt_pr_no (s := s) (G := fun h => kt_see1 c k d h = true) (kt_s1 g).1 g) rfl rfl hc (fun h' g e => kt_ff (kt_s1 g).2.2.2.2.1 e) (fun h' g e => ?_)
  exact br_f kt_one (br_f kt_one (br_t (kt_1s s (kt_s1 g).2.2.2.2.2.2.2) hp))
theorem kt_L314a {post : Int32 → St0 → Prop} {mc ms kc ks c k d h : Nat} {s z0 z1 : Int32} (hp : post 1 ()) (hc : c < 16) (g : kt_see1 c k d h = true) (hz : z1 = z0) : wL_lawOf_314 post mc ms (nI c) 1 s 1 z0 z1 kc ks (nI (kt_cell h 0 0)) (nI (kt_cell h 0 1)) (nI (kt_cell h 0 2)) (kt_Z s h 1) (kt_D h 2) (kt_D h 3) (kt_D h 4) (kt_D h 5) (kt_D h 6) (kt_D h 7) (kt_D h 8) (kt_D h 9) (kt_D h 10) (kt_D h 11) (kt_D h 12) (kt_D h 13) (kt_D h 14) (kt_D h 15) (kt_D h 16) (kt_Z s h 17) (kt_D h 18) (kt_D h 19) := by
  unfold wL_lawOf_314
  refine br_t hz ?_
  refine kt_total_ok (kt_pr_no (s := s) (G := fun h => kt_see1 c k d h = true) (kt_s1 g).1 g) rfl (fun h' g => ?_)
  exact br_f kt_one (kt_L332a hp hc g (kt_1s s (kt_s1 g).2.2.2.1))
theorem kt_L284a {post : Int32 → St0 → Prop} {mc ms kc ks c k d h : Nat} {s : Int32} (hp : post 1 ()) (hc : c < 16) (g : kt_see1 c k d h = true) : wL_lawOf_284 post mc ms (nI c) 1 s 1 (nI d) kc ks (nI (kt_cell h 0 0)) (nI (kt_cell h 0 1)) (nI (kt_cell h 0 2)) (kt_Z s h 1) (kt_D h 2) (kt_D h 3) (kt_D h 4) (kt_D h 5) (kt_D h 6) (kt_D h 7) (kt_D h 8) (kt_D h 9) (kt_D h 10) (kt_D h 11) (kt_D h 12) (kt_D h 13) (kt_D h 14) (kt_D h 15) (kt_D h 16) (kt_Z s h 17) (kt_D h 18) (kt_D h 19) := by
  unfold wL_lawOf_284
  refine kt_depth_ok (kt_pr_no (s := s) (G := fun h => kt_see1 c k d h = true) (kt_s1 g).1 g) rfl rfl hc (fun h' g e => kt_ff (kt_s1 g).2.2.2.2.1 e) (fun h' g e => ?_)
  refine br_t (congrArg nI (kt_s1 g).2.2.2.2.2.2.1) ?_
  refine kt_held_ok (c := 0) (kt_pr_no (s := s) (G := fun h => kt_see1 c k d h = true) (kt_s1 g).1 g) rfl rfl (by decide) (fun h' g e => kt_ff (kt_s1 g).2.1 e) (fun h' g e => ?_)
  exact br_f kt_one (kt_L314a hp hc g (kt_1s s (kt_s1 g).2.2.1))
/-- the depth that the law names -/
theorem kt_L229a {post : Int32 → St0 → Prop} {mc ms kc ks c k d h : Nat} {s x0 z0 : Int32} (hp : post 1 ()) (hc : c < 16) (hk : k < 17) (g : kt_see1 c k d h = true) (hz : kt_vis k = z0)
    (hd : (c = 0 ∧ d = 1) ∨ (c ≠ 0 ∧ nI c = x0 ∧ d = 2) ∨ (c ≠ 0 ∧ ¬ nI c = x0 ∧ x0 = 0 ∧ d = 2) ∨ (c ≠ 0 ∧ ¬ nI c = x0 ∧ ¬ x0 = 0 ∧ d = 3)) : wL_lawOf_229 post mc ms x0 (nI c) 1 s 1 z0 kc ks (nI (kt_cell h 0 0)) (nI (kt_cell h 0 1)) (nI (kt_cell h 0 2)) (kt_Z s h 1) (kt_D h 2) (kt_D h 3) (kt_D h 4) (kt_D h 5) (kt_D h 6) (kt_D h 7) (kt_D h 8) (kt_D h 9) (kt_D h 10) (kt_D h 11) (kt_D h 12) (kt_D h 13) (kt_D h 14) (kt_D h 15) (kt_D h 16) (kt_Z s h 17) (kt_D h 18) (kt_D h 19) := by
  unfold wL_lawOf_229
  refine kt_keeper_ok (kt_pr_no (s := s) (G := fun h => kt_see1 c k d h = true) (kt_s1 g).1 g) rfl rfl hc (fun h' g e => kt_ff (kt_s1 g).2.2.2.2.1 e) (fun h' g e => ⟨by rw [(kt_s1 g).2.2.2.2.2.1]; exact hk, ?_⟩)
  have t := kt_L284a (post := post) (mc := mc) (ms := ms) (kc := kc) (ks := ks) (s := s) hp hc g
  refine br_t (by rw [(kt_s1 g).2.2.2.2.2.1]; exact hz) (br_f kt_one (br_f kt_one ?_))
  rcases hd with ⟨h1, h2⟩ | ⟨h1, h2, h3⟩ | ⟨h1, h2, h3, h4⟩ | ⟨h1, h2, h3, h4⟩
  · rw [h2] at t
    exact br_t (by rw [h1]; rfl) t
  · rw [h3] at t
    exact br_f (nI_ne0 (by omega) (by omega)) (br_t h2 t)
  · rw [h4] at t
    exact br_f (nI_ne0 (by omega) (by omega)) (br_f h2 (br_t h3 t))
  · rw [h4] at t
    exact br_f (nI_ne0 (by omega) (by omega)) (br_f h2 (br_f h3 t))
theorem kt_L164a {post : Int32 → St0 → Prop} {mc ms kc ks c k d h : Nat} {s x0 : Int32} (hp : post 1 ()) (hc : c < 16) (hk : k < 17) (Q : kt_pr s h (fun h => kt_see1 c k d h = true))
    (hd : (c = 0 ∧ k = 16 ∧ d = 1) ∨ (c ≠ 0 ∧ nI c = x0 ∧ k = 0 ∧ d = 2) ∨ (c ≠ 0 ∧ ¬ nI c = x0 ∧ kt_vis k = x0 ∧ x0 = 0 ∧ d = 2) ∨ (c ≠ 0 ∧ ¬ nI c = x0 ∧ kt_vis k = x0 ∧ ¬ x0 = 0 ∧ d = 3)) : wL_lawOf_164 post mc ms x0 (nI c) 1 s 1 kc ks (nI (kt_cell h 0 0)) (nI (kt_cell h 0 1)) (nI (kt_cell h 0 2)) (kt_Z s h 1) (kt_D h 2) (kt_D h 3) (kt_D h 4) (kt_D h 5) (kt_D h 6) (kt_D h 7) (kt_D h 8) (kt_D h 9) (kt_D h 10) (kt_D h 11) (kt_D h 12) (kt_D h 13) (kt_D h 14) (kt_D h 15) (kt_D h 16) (kt_Z s h 17) (kt_D h 18) (kt_D h 19) := by
  unfold wL_lawOf_164
  refine kt_alive_ok Q rfl rfl hc (fun h' g e => kt_ff (kt_s1 g).2.2.2.2.1 e) (fun h' g e => ?_)
  refine br_f kt_one (br_f kt_one (br_t rfl (br_f kt_one (br_f kt_one ?_))))
  rcases hd with ⟨h1, h2, h3⟩ | ⟨h1, h2, h3, h4⟩ | ⟨h1, h2, h3, h4, h5⟩ | ⟨h1, h2, h3, h4, h5⟩
  · exact br_t (by rw [h1]; rfl) (kt_L229a hp hc hk g (by rw [h2]; rfl) (Or.inl ⟨h1, h3⟩))
  · exact br_f (nI_ne0 (by omega) (by omega)) (br_t h2 (kt_L229a hp hc hk g (by rw [h3]; rfl) (Or.inr (Or.inl ⟨h1, h2, h4⟩))))
  · exact br_f (nI_ne0 (by omega) (by omega)) (br_f h2 (kt_L229a hp hc hk g h3 (Or.inr (Or.inr (Or.inl ⟨h1, h2, h4, h5⟩)))))
  · exact br_f (nI_ne0 (by omega) (by omega)) (br_f h2 (kt_L229a hp hc hk g h3 (Or.inr (Or.inr (Or.inr ⟨h1, h2, h4, h5⟩)))))
/-! c an object that isn't alive -/
theorem kt_L164d {post : Int32 → St0 → Prop} {mc ms kc ks c h : Nat} {s x0 : Int32} (hp : post 1 ()) (hc : c < 16) (Q : kt_pr s h (fun h => kt_see0 c h = true)) : wL_lawOf_164 post mc ms x0 (nI c) 1 s 0 kc ks (nI (kt_cell h 0 0)) (nI (kt_cell h 0 1)) (nI (kt_cell h 0 2)) (kt_Z s h 1) (kt_D h 2) (kt_D h 3) (kt_D h 4) (kt_D h 5) (kt_D h 6) (kt_D h 7) (kt_D h 8) (kt_D h 9) (kt_D h 10) (kt_D h 11) (kt_D h 12) (kt_D h 13) (kt_D h 14) (kt_D h 15) (kt_D h 16) (kt_Z s h 17) (kt_D h 18) (kt_D h 19) := by
  have N : ∀ h', kt_see0 c h' = true → kt_pr s h' (fun h => kt_see0 c h = true) := fun h' g => kt_pr_no (kt_s0 g).1 g
  unfold wL_lawOf_164
  refine kt_alive_ok Q rfl rfl hc (fun h' g e => ?_) (fun h' g e => kt_ff e (kt_s0 g).2.2.2.2)
  refine br_f kt_one (br_t rfl (br_t rfl (br_f kt_one (br_t rfl ?_))))
  show wL_lawOf_229 post mc ms x0 (nI c) 1 s 0 (-1) kc ks (nI (kt_cell h' 0 0)) (nI (kt_cell h' 0 1)) (nI (kt_cell h' 0 2)) (kt_Z s h' 1) (kt_D h' 2) (kt_D h' 3) (kt_D h' 4) (kt_D h' 5) (kt_D h' 6) (kt_D h' 7) (kt_D h' 8) (kt_D h' 9) (kt_D h' 10) (kt_D h' 11) (kt_D h' 12) (kt_D h' 13) (kt_D h' 14) (kt_D h' 15) (kt_D h' 16) (kt_Z s h' 17) (kt_D h' 18) (kt_D h' 19)
  unfold wL_lawOf_229
  refine kt_keeper_ok (N h' g) rfl rfl hc (fun h' g e => ?_) (fun h' g e => kt_ff e (kt_s0 g).2.2.2.2)
  refine br_t rfl (br_f kt_one (br_t rfl ?_))
  show wL_lawOf_284 post mc ms (nI c) 1 s 0 0 kc ks (nI (kt_cell h' 0 0)) (nI (kt_cell h' 0 1)) (nI (kt_cell h' 0 2)) (kt_Z s h' 1) (kt_D h' 2) (kt_D h' 3) (kt_D h' 4) (kt_D h' 5) (kt_D h' 6) (kt_D h' 7) (kt_D h' 8) (kt_D h' 9) (kt_D h' 10) (kt_D h' 11) (kt_D h' 12) (kt_D h' 13) (kt_D h' 14) (kt_D h' 15) (kt_D h' 16) (kt_Z s h' 17) (kt_D h' 18) (kt_D h' 19)
  unfold wL_lawOf_284
  refine kt_depth_ok (N h' g) rfl rfl hc (fun h' g e => ?_) (fun h' g e => kt_ff e (kt_s0 g).2.2.2.2)
  refine br_t rfl ?_
  refine kt_held_ok (c := 0) (N h' g) rfl rfl (by decide) (fun h' g e => kt_ff (kt_s0 g).2.1 e) (fun h' g e => ?_)
  refine br_t rfl ?_
  show wL_lawOf_314 post mc ms (nI c) 1 s 0 0 (nI (kt_cell h' 17 0) * s) kc ks (nI (kt_cell h' 0 0)) (nI (kt_cell h' 0 1)) (nI (kt_cell h' 0 2)) (kt_Z s h' 1) (kt_D h' 2) (kt_D h' 3) (kt_D h' 4) (kt_D h' 5) (kt_D h' 6) (kt_D h' 7) (kt_D h' 8) (kt_D h' 9) (kt_D h' 10) (kt_D h' 11) (kt_D h' 12) (kt_D h' 13) (kt_D h' 14) (kt_D h' 15) (kt_D h' 16) (kt_Z s h' 17) (kt_D h' 18) (kt_D h' 19)
  unfold wL_lawOf_314
  refine br_t (kt_0s s (kt_s0 g).2.2.1) ?_
  refine kt_total_ok (N h' g) rfl (fun h' g => ?_)
  refine br_t rfl ?_
  show wL_lawOf_332 post mc ms (nI c) 1 s 0 0 (nI (kt_cell h' 17 16) * s) kc ks (nI (kt_cell h' 0 0)) (nI (kt_cell h' 0 1)) (nI (kt_cell h' 0 2)) (kt_Z s h' 1) (kt_D h' 2) (kt_D h' 3) (kt_D h' 4) (kt_D h' 5) (kt_D h' 6) (kt_D h' 7) (kt_D h' 8) (kt_D h' 9) (kt_D h' 10) (kt_D h' 11) (kt_D h' 12) (kt_D h' 13) (kt_D h' 14) (kt_D h' 15) (kt_D h' 16) (kt_Z s h' 17) (kt_D h' 18) (kt_D h' 19)
  unfold wL_lawOf_332
  refine br_t (kt_0s s (kt_s0 g).2.2.2.1) ?_
  refine kt_held_ok (N h' g) rfl rfl hc (fun h' g e => ?_) (fun h' g e => kt_ff e (kt_s0 g).2.2.2.2)
  exact br_f kt_one (br_t rfl (br_t rfl hp))
/-! c no object -/
theorem kt_L164b {post : Int32 → St0 → Prop} {mc ms kc ks h : Nat} {s x0 x1 : Int32} (hp : post 1 ()) (hx : x1 < 0 ∨ 15 < x1) (Q : kt_pr s h (fun h => kt_seeb h = true)) : wL_lawOf_164 post mc ms x0 x1 0 s 0 kc ks (nI (kt_cell h 0 0)) (nI (kt_cell h 0 1)) (nI (kt_cell h 0 2)) (kt_Z s h 1) (kt_D h 2) (kt_D h 3) (kt_D h 4) (kt_D h 5) (kt_D h 6) (kt_D h 7) (kt_D h 8) (kt_D h 9) (kt_D h 10) (kt_D h 11) (kt_D h 12) (kt_D h 13) (kt_D h 14) (kt_D h 15) (kt_D h 16) (kt_Z s h 17) (kt_D h 18) (kt_D h 19) := by
  have N : ∀ h', kt_seeb h' = true → kt_pr s h' (fun h => kt_seeb h = true) := fun h' g => kt_pr_no (kt_sb g).1 g
  unfold wL_lawOf_164
  refine kt_alive_no (s := s) hx rfl ?_
  refine br_t rfl (br_t rfl (br_t rfl ?_))
  show wL_lawOf_229 post mc ms x0 x1 0 s 0 (-2) kc ks (nI (kt_cell h 0 0)) (nI (kt_cell h 0 1)) (nI (kt_cell h 0 2)) (kt_Z s h 1) (kt_D h 2) (kt_D h 3) (kt_D h 4) (kt_D h 5) (kt_D h 6) (kt_D h 7) (kt_D h 8) (kt_D h 9) (kt_D h 10) (kt_D h 11) (kt_D h 12) (kt_D h 13) (kt_D h 14) (kt_D h 15) (kt_D h 16) (kt_Z s h 17) (kt_D h 18) (kt_D h 19)
  unfold wL_lawOf_229
  refine kt_keeper_no (s := s) hx rfl ?_
  refine br_t rfl (br_t rfl ?_)
  show wL_lawOf_284 post mc ms x1 0 s 0 (-2) kc ks (nI (kt_cell h 0 0)) (nI (kt_cell h 0 1)) (nI (kt_cell h 0 2)) (kt_Z s h 1) (kt_D h 2) (kt_D h 3) (kt_D h 4) (kt_D h 5) (kt_D h 6) (kt_D h 7) (kt_D h 8) (kt_D h 9) (kt_D h 10) (kt_D h 11) (kt_D h 12) (kt_D h 13) (kt_D h 14) (kt_D h 15) (kt_D h 16) (kt_Z s h 17) (kt_D h 18) (kt_D h 19)
  unfold wL_lawOf_284
  refine kt_depth_no (s := s) hx rfl ?_
  refine br_t rfl ?_
  refine kt_held_ok (c := 0) Q rfl rfl (by decide) (fun h' g e => kt_ff (kt_sb g).2.1 e) (fun h' g e => ?_)
  refine br_t rfl ?_
  show wL_lawOf_314 post mc ms x1 0 s 0 0 (nI (kt_cell h' 17 0) * s) kc ks (nI (kt_cell h' 0 0)) (nI (kt_cell h' 0 1)) (nI (kt_cell h' 0 2)) (kt_Z s h' 1) (kt_D h' 2) (kt_D h' 3) (kt_D h' 4) (kt_D h' 5) (kt_D h' 6) (kt_D h' 7) (kt_D h' 8) (kt_D h' 9) (kt_D h' 10) (kt_D h' 11) (kt_D h' 12) (kt_D h' 13) (kt_D h' 14) (kt_D h' 15) (kt_D h' 16) (kt_Z s h' 17) (kt_D h' 18) (kt_D h' 19)
  unfold wL_lawOf_314
  refine br_t (kt_0s s (kt_sb g).2.2.1) ?_
  refine kt_total_ok (N h' g) rfl (fun h' g => ?_)
  refine br_t rfl ?_
  show wL_lawOf_332 post mc ms x1 0 s 0 0 (nI (kt_cell h' 17 16) * s) kc ks (nI (kt_cell h' 0 0)) (nI (kt_cell h' 0 1)) (nI (kt_cell h' 0 2)) (kt_Z s h' 1) (kt_D h' 2) (kt_D h' 3) (kt_D h' 4) (kt_D h' 5) (kt_D h' 6) (kt_D h' 7) (kt_D h' 8) (kt_D h' 9) (kt_D h' 10) (kt_D h' 11) (kt_D h' 12) (kt_D h' 13) (kt_D h' 14) (kt_D h' 15) (kt_D h' 16) (kt_Z s h' 17) (kt_D h' 18) (kt_D h' 19)
  unfold wL_lawOf_332
  refine br_t (kt_0s s (kt_sb g).2.2.2) ?_
  refine kt_held_no (s := s) hx rfl ?_
  exact br_t rfl (br_t rfl hp)
end
section
theorem kt_to {P : Int32 → Prop} {a b : Int32} (e : a = b) (h : P a) : P b := e ▸ h
theorem kt_sel {X : Int32 → Prop} {x s : Int32} (hs : s = kt_clamp x) (h : X s) : (0 ≤ x → ((x ≤ 1000 → X x) ∧ (¬ x ≤ 1000 → X 1000))) ∧ (¬ 0 ≤ x → X 0) := by
  unfold kt_clamp at hs
  refine br_c (fun h0 => br_c (fun h1 => ?_) (fun h1 => ?_)) (fun h0 => ?_)
  · rw [if_pos h0, if_pos h1] at hs
    exact kt_to hs h
  · rw [if_pos h0, if_neg h1] at hs
    exact kt_to hs h
  · rw [if_neg h0] at hs
    exact kt_to hs h
theorem kt_L109a {post : Int32 → St0 → Prop} {mc ms kc ks c h h' : Nat} {s x0 x2 x4 x5 z0 z1 : Int32} (hc : c < 16) (hs : s = kt_clamp x2) (hf : kt_cell h 0 1 = 0) (hz : z1 = z0) (eh : kt_wr h 1 c 1 = h') (T : wL_lawOf_143 post mc ms x0 (nI c) x4 x5 s kc ks (nI (kt_cell h' 0 0)) (nI (kt_cell h' 0 1)) (nI (kt_cell h' 0 2)) (kt_Z s h' 1) (kt_D h' 2) (kt_D h' 3) (kt_D h' 4) (kt_D h' 5) (kt_D h' 6) (kt_D h' 7) (kt_D h' 8) (kt_D h' 9) (kt_D h' 10) (kt_D h' 11) (kt_D h' 12) (kt_D h' 13) (kt_D h' 14) (kt_D h' 15) (kt_D h' 16) (kt_Z s h' 17) (kt_D h' 18) (kt_D h' 19)) : wL_lawOf_109 post mc ms x0 (nI c) x2 x4 x5 z0 z1 kc ks (nI (kt_cell h 0 0)) (nI (kt_cell h 0 1)) (nI (kt_cell h 0 2)) (kt_Z s h 1) (kt_D h 2) (kt_D h 3) (kt_D h 4) (kt_D h 5) (kt_D h 6) (kt_D h 7) (kt_D h 8) (kt_D h 9) (kt_D h 10) (kt_D h 11) (kt_D h 12) (kt_D h 13) (kt_D h 14) (kt_D h 15) (kt_D h 16) (kt_Z s h 17) (kt_D h 18) (kt_D h 19) := by
  subst eh
  unfold wL_lawOf_109
  refine br_t hz ?_
  refine kt_size_ok (s := s) rfl hc hs rfl hf (fun r => ?_)
  exact kt_sel (X := fun z => wL_lawOf_143 post mc ms x0 (nI c) x4 x5 z kc ks _ _ _ _ _ _ _ _ _ _ _ _ _ _ _ _ _ _ _ _ _ _) hs T
theorem kt_L109b {post : Int32 → St0 → Prop} {mc ms kc ks h : Nat} {s x0 x1 x2 x4 x5 z0 z1 : Int32} (hx : x1 < 0 ∨ 15 < x1) (hs : s = kt_clamp x2) (hz : z1 = z0) (T : wL_lawOf_143 post mc ms x0 x1 x4 x5 s kc ks (nI (kt_cell h 0 0)) (nI (kt_cell h 0 1)) (nI (kt_cell h 0 2)) (kt_Z s h 1) (kt_D h 2) (kt_D h 3) (kt_D h 4) (kt_D h 5) (kt_D h 6) (kt_D h 7) (kt_D h 8) (kt_D h 9) (kt_D h 10) (kt_D h 11) (kt_D h 12) (kt_D h 13) (kt_D h 14) (kt_D h 15) (kt_D h 16) (kt_Z s h 17) (kt_D h 18) (kt_D h 19)) : wL_lawOf_109 post mc ms x0 x1 x2 x4 x5 z0 z1 kc ks (nI (kt_cell h 0 0)) (nI (kt_cell h 0 1)) (nI (kt_cell h 0 2)) (kt_Z s h 1) (kt_D h 2) (kt_D h 3) (kt_D h 4) (kt_D h 5) (kt_D h 6) (kt_D h 7) (kt_D h 8) (kt_D h 9) (kt_D h 10) (kt_D h 11) (kt_D h 12) (kt_D h 13) (kt_D h 14) (kt_D h 15) (kt_D h 16) (kt_Z s h 17) (kt_D h 18) (kt_D h 19) := by
  unfold wL_lawOf_109
  refine br_t hz ?_
  refine kt_size_no (s := s) hx rfl ?_
  exact kt_sel (X := fun z => wL_lawOf_143 post mc ms x0 x1 x4 x5 z kc ks _ _ _ _ _ _ _ _ _ _ _ _ _ _ _ _ _ _ _ _ _ _) hs T
theorem kt_fh1 : kt_cell kt_h1 0 1 = 0 := by decide +kernel
theorem kt_ffl {h p q : Nat} (hf : kt_cell h 0 1 = 0) : kt_cell (kt_fl h p q) 0 1 = 0 := by
  unfold kt_fl
  rw [kt_C_ne (by decide) (by decide) (by decide), hf]
/-! b and c objects -/
theorem kt_L40a {post : Int32 → St0 → Prop} {mc ms kc ks b c : Nat} {x2 : Int32} (hp : post 1 ()) (hb : b < 16) (hc : c < 16) : wL_lawOf_40 post mc ms (nI b) (nI c) x2 1 1 kc ks 0 0 0 (fun _ => 0) (fun _ => 0) (fun _ => 0) (fun _ => 0) (fun _ => 0) (fun _ => 0) (fun _ => 0) (fun _ => 0) (fun _ => 0) (fun _ => 0) (fun _ => 0) (fun _ => 0) (fun _ => 0) (fun _ => 0) (fun _ => 0) (fun _ => 0) (fun _ => 0) (fun _ => 0) (fun _ => 0) := by
  obtain ⟨s, hs⟩ : ∃ s, s = kt_clamp x2 := ⟨_, rfl⟩
  have R := kt_run_ok hb hc
  unfold kt_run at R
  simp only [Bool.and_eq_true, Nat.beq_eq] at R
  obtain ⟨r1, r2, R⟩ := R
  have hk : kt_k b c < 17 := by
    unfold kt_k
    split
    · omega
    · split <;> omega
  have hd : (c = 0 ∧ kt_k b c = 16 ∧ kt_d b c = 1) ∨ (c ≠ 0 ∧ nI c = nI b ∧ kt_k b c = 0 ∧ kt_d b c = 2) ∨ (c ≠ 0 ∧ ¬ nI c = nI b ∧ kt_vis (kt_k b c) = nI b ∧ nI b = 0 ∧ kt_d b c = 2) ∨ (c ≠ 0 ∧ ¬ nI c = nI b ∧ kt_vis (kt_k b c) = nI b ∧ ¬ nI b = 0 ∧ kt_d b c = 3) := by
    rw [nI_eq (a := c) (b := b) (by omega) (by omega)]
    unfold kt_k kt_d kt_vis
    by_cases h1 : c = 0
    · rw [if_pos h1, if_pos h1]
      exact Or.inl ⟨h1, rfl, rfl⟩
    · rw [if_neg h1, if_neg h1]
      by_cases h2 : c = b
      · rw [if_pos h2, if_pos h2]
        exact Or.inr (Or.inl ⟨h1, h2, rfl, rfl⟩)
      · rw [if_neg h2, if_neg h2, if_neg (show ¬ b = 16 by omega)]
        by_cases h3 : b = 0
        · rw [if_pos h3]
          exact Or.inr (Or.inr (Or.inl ⟨h1, h2, rfl, by rw [h3]; rfl, rfl⟩))
        · rw [if_neg h3]
          exact Or.inr (Or.inr (Or.inr ⟨h1, h2, rfl, nI_ne0 (by omega) (by omega), rfl⟩))
  have T : ∀ h', h' = kt_bc b c → wL_lawOf_143 post mc ms (nI b) (nI c) 1 1 s kc ks (nI (kt_cell h' 0 0)) (nI (kt_cell h' 0 1)) (nI (kt_cell h' 0 2)) (kt_Z s h' 1) (kt_D h' 2) (kt_D h' 3) (kt_D h' 4) (kt_D h' 5) (kt_D h' 6) (kt_D h' 7) (kt_D h' 8) (kt_D h' 9) (kt_D h' 10) (kt_D h' 11) (kt_D h' 12) (kt_D h' 13) (kt_D h' 14) (kt_D h' 15) (kt_D h' 16) (kt_Z s h' 17) (kt_D h' 18) (kt_D h' 19) := by
    intro h' eh
    subst eh
    have t := kt_L164a (mc := mc) (ms := ms) (kc := kc) (ks := ks) hp hc hk (kt_pr_of (s := s) R) hd
    unfold wL_lawOf_143
    exact br_f kt_one (br_c (fun _ => t) (fun _ => br_f kt_one t))
  unfold wL_lawOf_40
  refine kt_root s ?_
  refine br_t rfl ?_
  refine kt_flip_ok (s := s) (p := 0) (q := b) rfl (by decide) rfl hb rfl kt_fh1 ?_
  refine br_f kt_one ?_
  unfold wL_lawOf_70
  refine br_t (congrArg nI r1) ?_
  refine kt_flip_ok (s := s) (p := b) (q := c) rfl hb rfl hc rfl (kt_ffl kt_fh1) ?_
  refine br_f kt_one (br_f kt_one ?_)
  unfold kt_e at r2
  refine pk_eq b 0 (fun e => pk_eq c 0 (fun e2 => ?_) (fun e2 => ?_)) (fun e => ?_)
  · rw [if_pos e, if_pos e2] at r2
    exact kt_L109a hc hs (kt_ffl (kt_ffl kt_fh1)) (congrArg nI r2) rfl (T _ rfl)
  · rw [if_pos e, if_neg e2] at r2
    unfold wL_lawOf_108
    exact kt_L109a hc hs (kt_ffl (kt_ffl kt_fh1)) (congrArg nI r2) rfl (T _ rfl)
  · rw [if_neg e] at r2
    unfold wL_lawOf_108
    exact kt_L109a hc hs (kt_ffl (kt_ffl kt_fh1)) (congrArg nI r2) rfl (T _ rfl)
/-! c an object, b not -/
theorem kt_L40b {post : Int32 → St0 → Prop} {mc ms kc ks c : Nat} {x0 x2 : Int32} (hp : post 1 ()) (hx : x0 < 0 ∨ 15 < x0) (hc : c < 16) : wL_lawOf_40 post mc ms x0 (nI c) x2 0 1 kc ks 0 0 0 (fun _ => 0) (fun _ => 0) (fun _ => 0) (fun _ => 0) (fun _ => 0) (fun _ => 0) (fun _ => 0) (fun _ => 0) (fun _ => 0) (fun _ => 0) (fun _ => 0) (fun _ => 0) (fun _ => 0) (fun _ => 0) (fun _ => 0) (fun _ => 0) (fun _ => 0) (fun _ => 0) (fun _ => 0) := by
  obtain ⟨s, hs⟩ : ∃ s, s = kt_clamp x2 := ⟨_, rfl⟩
  have R := kt_runb_ok hc
  unfold kt_runb at R
  have T : ∀ h', h' = kt_wr kt_h1 1 c 1 → wL_lawOf_143 post mc ms x0 (nI c) 0 1 s kc ks (nI (kt_cell h' 0 0)) (nI (kt_cell h' 0 1)) (nI (kt_cell h' 0 2)) (kt_Z s h' 1) (kt_D h' 2) (kt_D h' 3) (kt_D h' 4) (kt_D h' 5) (kt_D h' 6) (kt_D h' 7) (kt_D h' 8) (kt_D h' 9) (kt_D h' 10) (kt_D h' 11) (kt_D h' 12) (kt_D h' 13) (kt_D h' 14) (kt_D h' 15) (kt_D h' 16) (kt_Z s h' 17) (kt_D h' 18) (kt_D h' 19) := by
    intro h' eh
    subst eh
    unfold wL_lawOf_143
    refine br_f kt_one (pk_eq c 0 (fun e => ?_) (fun e => ?_))
    · have hn : Nat.beq c 0 = true := by
        rw [e]
        rfl
      rw [hn, cond_true] at R
      exact kt_L164a (k := 16) (d := 1) hp hc (by decide) (kt_pr_of (s := s) R) (Or.inl ⟨e, rfl, rfl⟩)
    · have hn : Nat.beq c 0 = false := by
        cases q : Nat.beq c 0
        · rfl
        · exact absurd (Nat.eq_of_beq_eq_true q) e
      rw [hn, cond_false] at R
      refine br_t rfl ?_
      exact kt_L164d hp hc (kt_pr_of (s := s) R)
  unfold wL_lawOf_40
  refine kt_root s ?_
  refine br_t rfl ?_
  refine kt_flip_no2 (s := s) (p := 0) rfl (by decide) hx rfl ?_
  refine br_t rfl ?_
  unfold wL_lawOf_70
  refine br_t rfl ?_
  refine kt_flip_no1 (s := s) hx rfl ?_
  refine br_t rfl ?_
  unfold wL_lawOf_91
  exact kt_L109a hc hs kt_fh1 rfl rfl (T _ rfl)
/-! b an object, c not -/
theorem kt_L40c {post : Int32 → St0 → Prop} {mc ms kc ks b : Nat} {x1 x2 : Int32} (hp : post 1 ()) (hb : b < 16) (hx : x1 < 0 ∨ 15 < x1) : wL_lawOf_40 post mc ms (nI b) x1 x2 1 0 kc ks 0 0 0 (fun _ => 0) (fun _ => 0) (fun _ => 0) (fun _ => 0) (fun _ => 0) (fun _ => 0) (fun _ => 0) (fun _ => 0) (fun _ => 0) (fun _ => 0) (fun _ => 0) (fun _ => 0) (fun _ => 0) (fun _ => 0) (fun _ => 0) (fun _ => 0) (fun _ => 0) (fun _ => 0) (fun _ => 0) := by
  obtain ⟨s, hs⟩ : ∃ s, s = kt_clamp x2 := ⟨_, rfl⟩
  have R := kt_runc_ok hb
  unfold kt_runc at R
  simp only [Bool.and_eq_true, Nat.beq_eq] at R
  obtain ⟨r1, R⟩ := R
  have T : ∀ h', h' = kt_fl kt_h1 0 b → wL_lawOf_143 post mc ms (nI b) x1 1 0 s kc ks (nI (kt_cell h' 0 0)) (nI (kt_cell h' 0 1)) (nI (kt_cell h' 0 2)) (kt_Z s h' 1) (kt_D h' 2) (kt_D h' 3) (kt_D h' 4) (kt_D h' 5) (kt_D h' 6) (kt_D h' 7) (kt_D h' 8) (kt_D h' 9) (kt_D h' 10) (kt_D h' 11) (kt_D h' 12) (kt_D h' 13) (kt_D h' 14) (kt_D h' 15) (kt_D h' 16) (kt_Z s h' 17) (kt_D h' 18) (kt_D h' 19) := by
    intro h' eh
    subst eh
    unfold wL_lawOf_143
    refine br_t rfl ?_
    exact kt_L164b hp hx (kt_pr_of (s := s) R)
  unfold wL_lawOf_40
  refine kt_root s ?_
  refine br_t rfl ?_
  refine kt_flip_ok (s := s) (p := 0) (q := b) rfl (by decide) rfl hb rfl kt_fh1 ?_
  refine br_f kt_one ?_
  unfold wL_lawOf_70
  refine br_t (congrArg nI r1) ?_
  refine kt_flip_no2 (s := s) (p := b) rfl hb hx rfl ?_
  refine br_f kt_one (br_t rfl ?_)
  unfold wL_lawOf_91
  exact kt_L109b hx hs rfl (T _ rfl)
/-! neither -/
theorem kt_L40d {post : Int32 → St0 → Prop} {mc ms kc ks : Nat} {x0 x1 x2 : Int32} (hp : post 1 ()) (hx0 : x0 < 0 ∨ 15 < x0) (hx : x1 < 0 ∨ 15 < x1) : wL_lawOf_40 post mc ms x0 x1 x2 0 0 kc ks 0 0 0 (fun _ => 0) (fun _ => 0) (fun _ => 0) (fun _ => 0) (fun _ => 0) (fun _ => 0) (fun _ => 0) (fun _ => 0) (fun _ => 0) (fun _ => 0) (fun _ => 0) (fun _ => 0) (fun _ => 0) (fun _ => 0) (fun _ => 0) (fun _ => 0) (fun _ => 0) (fun _ => 0) (fun _ => 0) := by
  obtain ⟨s, hs⟩ : ∃ s, s = kt_clamp x2 := ⟨_, rfl⟩
  have T : ∀ h', h' = kt_h1 → wL_lawOf_143 post mc ms x0 x1 0 0 s kc ks (nI (kt_cell h' 0 0)) (nI (kt_cell h' 0 1)) (nI (kt_cell h' 0 2)) (kt_Z s h' 1) (kt_D h' 2) (kt_D h' 3) (kt_D h' 4) (kt_D h' 5) (kt_D h' 6) (kt_D h' 7) (kt_D h' 8) (kt_D h' 9) (kt_D h' 10) (kt_D h' 11) (kt_D h' 12) (kt_D h' 13) (kt_D h' 14) (kt_D h' 15) (kt_D h' 16) (kt_Z s h' 17) (kt_D h' 18) (kt_D h' 19) := by
    intro h' eh
    subst eh
    unfold wL_lawOf_143
    refine br_t rfl ?_
    exact kt_L164b hp hx (kt_pr_of (s := s) kt_alln)
  unfold wL_lawOf_40
  refine kt_root s ?_
  refine br_t rfl ?_
  refine kt_flip_no2 (s := s) (p := 0) rfl (by decide) hx0 rfl ?_
  refine br_t rfl ?_
  unfold wL_lawOf_70
  refine br_t rfl ?_
  refine kt_flip_no1 (s := s) hx0 rfl ?_
  refine br_t rfl ?_
  unfold wL_lawOf_91
  exact kt_L109b hx hs rfl (T _ rfl)
theorem kt_ob {x : Int32} (h0 : ¬ x < 0) (h1 : ¬ 15 < x) : ∃ b : Nat, b < 16 ∧ x = nI b := by
  obtain ⟨j, hj, e⟩ := nI_of h0
  refine ⟨j, ?_, e⟩
  subst e
  by_cases h : j < 16
  · exact h
  · exact absurd (nI_lt (a := 15) (b := j) (by omega) hj) h1
theorem kt_L23a {post : Int32 → St0 → Prop} {mc ms kc ks b : Nat} {x1 x2 : Int32} (hp : post 1 ()) (hb : b < 16) : wL_lawOf_23 post mc ms (nI b) x1 x2 1 kc ks 0 0 0 (fun _ => 0) (fun _ => 0) (fun _ => 0) (fun _ => 0) (fun _ => 0) (fun _ => 0) (fun _ => 0) (fun _ => 0) (fun _ => 0) (fun _ => 0) (fun _ => 0) (fun _ => 0) (fun _ => 0) (fun _ => 0) (fun _ => 0) (fun _ => 0) (fun _ => 0) (fun _ => 0) (fun _ => 0) := by
  unfold wL_lawOf_23
  refine br_c (fun h => ?_) (fun h0 => br_c (fun h => ?_) (fun h1 => ?_))
  · exact kt_L40c hp hb (Or.inl h)
  · exact kt_L40c hp hb (Or.inr h)
  · obtain ⟨c, hc, e⟩ := kt_ob h0 h1
    subst e
    exact kt_L40a hp hb hc
theorem kt_L23b {post : Int32 → St0 → Prop} {mc ms kc ks : Nat} {x0 x1 x2 : Int32} (hp : post 1 ()) (hx : x0 < 0 ∨ 15 < x0) : wL_lawOf_23 post mc ms x0 x1 x2 0 kc ks 0 0 0 (fun _ => 0) (fun _ => 0) (fun _ => 0) (fun _ => 0) (fun _ => 0) (fun _ => 0) (fun _ => 0) (fun _ => 0) (fun _ => 0) (fun _ => 0) (fun _ => 0) (fun _ => 0) (fun _ => 0) (fun _ => 0) (fun _ => 0) (fun _ => 0) (fun _ => 0) (fun _ => 0) (fun _ => 0) := by
  unfold wL_lawOf_23
  refine br_c (fun h => ?_) (fun h0 => br_c (fun h => ?_) (fun h1 => ?_))
  · exact kt_L40d hp hx (Or.inl h)
  · exact kt_L40d hp hx (Or.inr h)
  · obtain ⟨c, hc, e⟩ := kt_ob h0 h1
    subst e
    exact kt_L40b hp hx hc
theorem kt_lawOf {post : Int32 → St0 → Prop} (hp : post 1 ()) (p0 p1 p2 : Int32) : wpL_lawOf post 222 3552 () p0 p1 p2 := by
  refine ⟨by decide, by decide, 19, 326, by decide, by decide, ?_⟩
  refine ⟨by decide, by decide, by decide, by decide, by decide, by decide, by decide, by decide, by decide, by decide, by decide, by decide, by decide, by decide, by decide, by decide, by decide, by decide, by decide, by decide, by decide, by decide, by decide, by decide, by decide, by decide, by decide, by decide, by decide, by decide, by decide, by decide, by decide, by decide, by decide, by decide, by decide, by decide, ?_⟩
  refine br_c (fun h => ?_) (fun h0 => br_c (fun h => ?_) (fun h1 => ?_))
  · exact kt_L23b hp (Or.inl h)
  · exact kt_L23b hp (Or.inr h)
  · obtain ⟨b, hb, e⟩ := kt_ob h0 h1
    subst e
    exact kt_L23a hp hb
theorem kt_cellAt {post : Int32 → Prop} {L : Nat} {xs : Nat → Int32} {x : Int32} (i : Nat) (hx : x = nI i) (hi : i < 3) (hL : L ≤ 3) (H : ∀ r, post r) : wpL_cellAt post L xs () x :=
  pk_le L i (fun _ => H 0) (fun z => ⟨pk_in i L z hx, H _⟩) rfl hx
theorem i_vc (xs : Nat → Int32) (L : Nat) (hL : L ≤ 3) : wpL_law (fun r => r = 1) L xs := by
  unfold wpL_law
  refine kt_cellAt 0 rfl (by decide) hL (fun r1 => ?_)
  refine kt_cellAt 1 rfl (by decide) hL (fun r2 => ?_)
  refine kt_cellAt 2 rfl (by decide) hL (fun r3 => ?_)
  exact ⟨222, 3552, by decide, by decide, kt_lawOf rfl r1 r2 r3⟩
end
