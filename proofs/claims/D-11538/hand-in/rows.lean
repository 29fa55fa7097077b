section
/-! 01: products of rests, powers, common divisors -/
theorem pd_no {α : Type} {x : α} {P : Prop} (h : (none : Option α) = some x) : P := absurd h.symm (Option.some_ne_none x)
section
variable {f0 f1 f2 f3 : Int32} {a1 a2 : Nat → Int32}
theorem pd_times {post : Int32 → Prop} {a b m : Nat} (ha : a < 2 ^ 31) (hb : b < 2 ^ 31) (h0 : 0 < m) (hm : m < 2 ^ 31) (h : post (nI (a * b % m))) : wpX_timesRest post (f0, f1, f2, f3, a1, a2) (nI a) (nI b) (nI m) := by
  have hab : a * b < 2 ^ 63 := by
    have h1 : a * b ≤ 2 ^ 31 * 2 ^ 31 := Nat.mul_le_mul (Nat.le_of_lt ha) (Nat.le_of_lt hb)
    exact Nat.lt_of_le_of_lt h1 (by decide)
  refine ⟨?_, ?_⟩
  · rw [nI_l hm]
    intro e
    have e' : lN m = lN 0 := e
    rw [pk_lEQ (by omega) (by omega)] at e'
    omega
  · rw [nI_l ha, nI_l hb, nI_l hm, lN_mul, pk_lRem hab h0 (by omega), lN_i]
    exact h
theorem pd_ar1 (r s k m : Nat) : r * (s * s % m) ^ k % m = r * s ^ (2 * k) % m := by
  have h1 : (s * s % m) ^ k % m = s ^ (2 * k) % m := by
    rw [← Nat.pow_mod, ← Nat.pow_two, ← Nat.pow_mul]
  rw [Nat.mul_mod, h1, ← Nat.mul_mod]
theorem pd_ar2 (r s k m : Nat) : (r * s % m) * (s * s % m) ^ k % m = r * s ^ (2 * k + 1) % m := by
  rw [pd_ar1, Nat.mul_mod, Nat.mod_mod, ← Nat.mul_mod, Nat.pow_succ, Nat.mul_assoc, Nat.mul_comm s]
theorem pd_pow13 {post : Int32 → Prop} {m : Nat} (h0 : 0 < m) (hm : m < 2 ^ 31) : ∀ (f e r s : Nat), e < f → e < 2 ^ 31 → r < m → s < 2 ^ 31 → post (nI (r * s ^ e % m)) → wX_powerRest_13 post (nI m) f0 f1 f2 f3 a1 a2 f (nI r) (nI s) (nI e) := by
  intro f
  induction f with
  | zero => intro e r s h; omega
  | succ f ih =>
    intro e r s hf he hr hs hp
    refine pk_le e 0 (fun z => ?_) (fun z => ?_)
    · have h00 : e = 0 := by omega
      subst h00
      rw [Nat.pow_zero, Nat.mul_one, Nat.mod_eq_of_lt hr] at hp
      exact hp
    · have hq : s * s % m < 2 ^ 31 := Nat.lt_trans (Nat.mod_lt _ h0) hm
      have hsh : nI e >>> ((1 : Int32) &&& 31) = nI (e / 2) := pk_shrN he _ 1 (by decide)
      have han : nI e &&& 1 = nI (e % 2) := pk_andN (by omega) 1 (by decide)
      refine pk_eq (e % 2) 0 (fun z2 => ?_) (fun z2 => ?_) han
      · exact pd_times hs hs h0 hm (nm_r hsh (ih (e / 2) r (s * s % m) (by omega) (by omega) hr hq (by rw [pd_ar1, show 2 * (e / 2) = e by omega]; exact hp)))
      · refine pd_times (by omega) hs h0 hm ?_
        exact pd_times hs hs h0 hm (nm_r hsh (ih (e / 2) (r * s % m) (s * s % m) (by omega) (by omega) (Nat.mod_lt _ h0) hq (by rw [pd_ar2, show 2 * (e / 2) + 1 = e by omega]; exact hp)))
theorem pd_power {post : Int32 → Prop} {b e m : Nat} (hb : b < 2 ^ 31) (he : e < 2 ^ 31) (h0 : 0 < m) (hm : m < 2 ^ 31) (h : post (nI (b ^ e % m))) : wpX_powerRest post (f0, f1, f2, f3, a1, a2) (nI b) (nI e) (nI m) := by
  have e1 : 1 % m * (b % m) ^ e % m = b ^ e % m := by
    rw [Nat.mul_mod, ← Nat.pow_mod, Nat.mod_mod, ← Nat.mul_mod, Nat.one_mul]
  refine ⟨nI_ne0 h0 hm, nm_r (pk_rem (a := 1) (by decide) h0 hm) ⟨nI_ne0 h0 hm, nm_r (pk_rem hb h0 hm) ⟨e + 1, ?_⟩⟩⟩
  refine pd_pow13 h0 hm (e + 1) e (1 % m) (b % m) (by omega) he (Nat.mod_lt _ h0) (Nat.lt_trans (Nat.mod_lt _ h0) hm) ?_
  rw [e1]
  exact h
theorem pd_gcd5 {post : Int32 → Prop} : ∀ (f x y : Nat), x < f → x < 2 ^ 31 → y < 2 ^ 31 → post (nI (Nat.gcd x y)) → wX_commonDivisor_5 post f0 f1 f2 f3 a1 a2 f (nI x) (nI y) := by
  intro f
  induction f with
  | zero => intro x y h; omega
  | succ f ih =>
    intro x y hf hx hy hp
    refine pk_eq x 0 (fun z => ?_) (fun z => ⟨nI_ne0 (by omega) hx, nm_r (pk_rem hy (by omega) hx) ?_⟩)
    · subst z
      rw [Nat.gcd_zero_left] at hp
      exact hp
    · have hl : y % x < x := Nat.mod_lt _ (by omega)
      exact ih (y % x) x (by omega) (by omega) hx (by rw [← Nat.gcd_rec]; exact hp)
theorem pd_gcd {post : Int32 → Prop} {x y : Nat} (hx : x < 2 ^ 31) (hy : y < 2 ^ 31) (h : post (nI (Nat.gcd x y))) : wpX_commonDivisor post (f0, f1, f2, f3, a1, a2) (nI x) (nI y) :=
  ⟨x + 1, pd_gcd5 (x + 1) x y (Nat.lt_succ_self x) hx hy h⟩
end
end
section
/-! 02: the prime test -/
def pd_b (b : Bool) : Int32 := match b with
  | true => 1
  | false => 0
def pd_p51 (n : Nat) : Nat → Nat → Bool
  | 0, _ => false
  | c + 1, x => if x * x % n = n - 1 then true else pd_p51 n c (x * x % n)
def pd_p7 (n b : Nat) : Nat → Nat → Nat → Bool
  | 0, _, _ => false
  | f + 1, o, t => if o % 2 = 0 then pd_p7 n b f (o / 2) (t + 1) else if b ^ o % n = 1 then true else if b ^ o % n = n - 1 then true else pd_p51 n (t - 1) (b ^ o % n)
def pd_ps (n b : Nat) : Bool := pd_p7 n b n (n - 1) 0
def pd_pt (n : Nat) : Bool := if n < 4 then decide (1 < n) else if n % 2 = 0 then false else if n % 3 = 0 then false else if pd_ps n 2 = true then pd_ps n 3 else false
section
variable {f0 f1 f2 f3 : Int32} {a1 a2 : Nat → Int32}
theorem pd_w51 {post : Int32 → Prop} {n t : Nat} (h0 : 0 < n) (hn : n < 2 ^ 31) (ht : t < 2 ^ 31) : ∀ (c k x : Nat), c = t - k → k < 2 ^ 31 → x < 2 ^ 31 → post (pd_b (pd_p51 n c x)) → wX_passes_51 post (nI n) (nI t) f0 f1 f2 f3 a1 a2 (c + 1) (nI x) (nI k) := by
  intro c
  induction c with
  | zero =>
    intro k x hc hk hx hp
    exact pk_le t k (fun _ => hp) (fun z => absurd z (by omega))
  | succ c ih =>
    intro k x hc hk hx hp
    have hy : x * x % n < n := Nat.mod_lt _ h0
    have e1 : pd_p51 n (c + 1) x = if x * x % n = n - 1 then true else pd_p51 n c (x * x % n) := rfl
    rw [e1] at hp
    refine pk_le t k (fun z => absurd z (by omega)) (fun _ => pd_times hx hx h0 hn ?_)
    refine pk_eq (x * x % n) (n - 1) (fun z => ?_) (fun z => nm_r (nI_1 k) ?_) rfl (pk_sub (b := 1) h0)
    · rw [if_pos z] at hp
      exact hp
    · rw [if_neg z] at hp
      exact ih (k + 1) _ (by omega) (by omega) (by omega) hp
theorem pd_w7 {post : Int32 → Prop} {n b : Nat} (h0 : 0 < n) (hn : n < 2 ^ 31) (hb : b < 2 ^ 31) : ∀ (f o t : Nat), o < f → 0 < o → o < 2 ^ 31 → t + f < 2 ^ 31 → post (pd_b (pd_p7 n b f o t)) → wX_passes_7 post (nI n) (nI b) f0 f1 f2 f3 a1 a2 f (nI o) (nI t) := by
  intro f
  induction f with
  | zero => intro o t h; omega
  | succ f ih =>
    intro o t hf h1 ho ht hp
    have hy : b ^ o % n < n := Nat.mod_lt _ h0
    have e1 : pd_p7 n b (f + 1) o t = if o % 2 = 0 then pd_p7 n b f (o / 2) (t + 1) else if b ^ o % n = 1 then true else if b ^ o % n = n - 1 then true else pd_p51 n (t - 1) (b ^ o % n) := rfl
    rw [e1] at hp
    have han : nI o &&& 1 = nI (o % 2) := pk_andN (by omega) 1 (by decide)
    have hsh : nI o >>> ((1 : Int32) &&& 31) = nI (o / 2) := pk_shrN ho _ 1 (by decide)
    refine pk_eq (o % 2) 0 (fun z => ?_) (fun z => ?_) han
    · rw [if_pos z] at hp
      exact nm_r hsh (nm_r (nI_1 t) (ih (o / 2) (t + 1) (by omega) (by omega) (by omega) (by omega) hp))
    · rw [if_neg z] at hp
      refine pd_power hb ho h0 hn ?_
      refine pk_eq (b ^ o % n) 1 (fun z1 => ?_) (fun z1 => ?_)
      · rw [if_pos z1] at hp
        exact hp
      · rw [if_neg z1] at hp
        refine pk_eq (b ^ o % n) (n - 1) (fun z2 => ?_) (fun z2 => ?_) rfl (pk_sub (b := 1) h0)
        · rw [if_pos z2] at hp
          exact hp
        · rw [if_neg z2] at hp
          exact ⟨t - 1 + 1, pd_w51 h0 hn (by omega) (t - 1) 1 _ rfl (by decide) (by omega) hp⟩
theorem pd_pass {post : Int32 → Prop} {n b : Nat} (h0 : 1 < n) (hn : n < 2 ^ 30) (hb : b < 2 ^ 31) (h : post (pd_b (pd_ps n b))) : wpX_passes post (f0, f1, f2, f3, a1, a2) (nI n) (nI b) := by
  have e1 : nI n - 1 = nI (n - 1) := pk_sub (b := 1) (by omega)
  exact nm_r e1 ⟨n, pd_w7 (by omega) (by omega) hb n (n - 1) 0 (by omega) (by omega) (by omega) (by omega) h⟩
theorem pd_prime {post : Int32 → Prop} {n : Nat} (hn : n < 2 ^ 30) (h : post (pd_b (pd_pt n))) : wpX_primeTest post (f0, f1, f2, f3, a1, a2) (nI n) := by
  unfold pd_pt at h
  refine pk_le 4 n (fun z => ⟨by decide, ?_⟩) (fun z => ?_)
  · rw [if_neg (show ¬ n < 4 by omega)] at h
    refine pk_eq (n % 2) 0 (fun z2 => ?_) (fun z2 => ⟨by decide, ?_⟩) (pk_rem (d := 2) (by omega) (by decide) (by decide))
    · rw [if_pos z2] at h
      exact pk_eq n 3 (fun z => absurd z (by omega)) (fun _ => h)
    · rw [if_neg z2] at h
      refine pk_eq (n % 3) 0 (fun z3 => ?_) (fun z3 => ?_) (pk_rem (d := 3) (by omega) (by decide) (by decide))
      · rw [if_pos z3] at h
        exact pk_eq n 3 (fun z => absurd z (by omega)) (fun _ => h)
      · rw [if_neg z3] at h
        refine pd_pass (b := 2) (by omega) hn (by decide) ?_
        cases e2 : pd_ps n 2 with
        | false =>
          rw [if_neg (by rw [e2]; decide)] at h
          exact br_t rfl h
        | true =>
          rw [if_pos e2] at h
          refine br_f (by decide) (pd_pass (b := 3) (by omega) hn (by decide) ?_)
          cases e3 : pd_ps n 3 with
          | false =>
            rw [e3] at h
            exact br_t rfl h
          | true =>
            rw [e3] at h
            exact br_f (by decide) h
  · rw [if_pos (show n < 4 by omega)] at h
    refine pk_le n 1 (fun z1 => ?_) (fun z1 => ?_)
    · rw [decide_eq_false (show ¬ 1 < n by omega)] at h
      exact h
    · rw [decide_eq_true (show 1 < n by omega)] at h
      exact h
end
end
section
/-! 03: the walk over rests and the splitter -/
def pd_st (n a x : Nat) : Nat := (x * x % n + a) % n
def pd_ds (x y : Nat) : Nat := if x ≤ y then y - x else x - y
def pd_gd (n z : Nat) : Nat := if z = 0 then n else Nat.gcd z n
def pd_wk (n a : Nat) : Nat → Nat → Nat → Nat → Nat
  | 0, _, _, d => d
  | c + 1, s, t, d => if d = 1 then pd_wk n a c (pd_st n a s) (pd_st n a (pd_st n a t)) (pd_gd n (pd_ds (pd_st n a s) (pd_st n a (pd_st n a t)))) else d
def pd_sp (n : Nat) : Nat → Nat → Option Nat
  | 0, _ => none
  | c + 1, a => if pd_wk n a 2000 2 2 1 ≤ 1 then pd_sp n c (a + 1) else if n ≤ pd_wk n a 2000 2 2 1 then pd_sp n c (a + 1) else some (pd_wk n a 2000 2 2 1)
def pd_spl (n : Nat) : Option Nat := if n % 2 = 0 then some 2 else pd_sp n 8 1
theorem pd_gdL {n z : Nat} (h0 : 0 < n) : pd_gd n z ≤ n := by
  unfold pd_gd
  split
  · exact Nat.le_refl n
  · exact Nat.gcd_le_right z h0
theorem pd_wkL {n a : Nat} (h0 : 0 < n) : ∀ (c s t d : Nat), d ≤ n → pd_wk n a c s t d ≤ n := by
  intro c
  induction c with
  | zero => intro s t d h; exact h
  | succ c ih =>
    intro s t d h
    have e1 : pd_wk n a (c + 1) s t d = if d = 1 then pd_wk n a c (pd_st n a s) (pd_st n a (pd_st n a t)) (pd_gd n (pd_ds (pd_st n a s) (pd_st n a (pd_st n a t)))) else d := rfl
    rw [e1]
    split
    · exact ih _ _ _ (pd_gdL h0)
    · exact h
section
variable {f0 f1 f2 f3 : Int32} {a1 a2 : Nat → Int32}
theorem pd_w84 {post : Int32 → Prop} {J : Int32 → Int32 → Int32 → Int32 → Prop} {n k z : Nat} {x2 x3 x4 : Int32} (hn : n < 2 ^ 30) (hz : z < 2 ^ 31) (h : J x3 x4 (nI (pd_gd n z)) (nI (k + 1))) : wX_walk_84 post J (nI n) x2 x3 x4 (nI k) (nI z) f0 f1 f2 f3 a1 a2 := by
  unfold pd_gd at h
  refine pk_eq z 0 (fun e => nm_r (nI_1 k) ?_) (fun e => pd_gcd hz (by omega) (nm_r (nI_1 k) ?_))
  · rw [if_pos e] at h
    exact h
  · rw [if_neg e] at h
    exact h
theorem pd_wwk {post : Int32 → Prop} {n a : Nat} (h0 : 0 < n) (hn : n < 2 ^ 30) (ha : a < 2 ^ 30) : ∀ (c k s t d : Nat), k + c = 2000 → s < 2 ^ 31 → t < 2 ^ 31 → d < 2 ^ 31 → post (nI (pd_wk n a c s t d)) → wX_walk_11 post (nI n) (nI a) f0 f1 f2 f3 a1 a2 (c + 1) (nI s) (nI t) (nI d) (nI k) := by
  intro c
  induction c with
  | zero =>
    intro k s t d hk hs ht hd hp
    exact pk_le 2000 k (fun _ => hp) (fun z => absurd z (by omega))
  | succ c ih =>
    intro k s t d hk hs ht hd hp
    have e1 : pd_wk n a (c + 1) s t d = if d = 1 then pd_wk n a c (pd_st n a s) (pd_st n a (pd_st n a t)) (pd_gd n (pd_ds (pd_st n a s) (pd_st n a (pd_st n a t)))) else d := rfl
    rw [e1] at hp
    have key : ∀ x, nI (x * x % n) + nI a - (nI (x * x % n) + nI a) / nI n * nI n = nI (pd_st n a x) := by
      intro x
      have hx := Nat.mod_lt (x * x) h0
      rw [nI_add]
      exact pk_rem (by omega) h0 (by omega)
    have lt : ∀ x, pd_st n a x < n := fun x => Nat.mod_lt _ h0
    refine pk_le 2000 k (fun z => absurd z (by omega)) (fun _ => pk_eq d 1 (fun z => ?_) (fun z => ?_))
    · rw [if_pos z] at hp
      have l1 := lt s
      have l2 := lt t
      have l3 := lt (pd_st n a t)
      have l4 := pd_gdL (n := n) (z := pd_ds (pd_st n a s) (pd_st n a (pd_st n a t))) h0
      have hJ := ih (k + 1) (pd_st n a s) (pd_st n a (pd_st n a t)) _ (by omega) (by omega) (by omega) (by omega) hp
      refine pd_times hs hs h0 (by omega) ⟨nI_ne0 h0 (by omega), nm_r (key s) ?_⟩
      refine pd_times ht ht h0 (by omega) ⟨nI_ne0 h0 (by omega), nm_r (key t) ?_⟩
      refine pd_times (by omega) (by omega) h0 (by omega) ⟨nI_ne0 h0 (by omega), nm_r (key (pd_st n a t)) ?_⟩
      refine pk_le (pd_st n a s) (pd_st n a (pd_st n a t)) (fun g => ?_) (fun g => ?_)
      · rw [pk_sub g]
        refine pd_w84 hn (by omega) ?_
        rw [show pd_ds (pd_st n a s) (pd_st n a (pd_st n a t)) = pd_st n a (pd_st n a t) - pd_st n a s from if_pos g] at hJ
        exact hJ
      · rw [pk_sub (show pd_st n a (pd_st n a t) ≤ pd_st n a s by omega)]
        refine pd_w84 hn (by omega) ?_
        rw [show pd_ds (pd_st n a s) (pd_st n a (pd_st n a t)) = pd_st n a s - pd_st n a (pd_st n a t) from if_neg (by omega)] at hJ
        exact hJ
    · rw [if_neg z] at hp
      exact hp
theorem pd_walk {post : Int32 → Prop} {n a : Nat} (h0 : 0 < n) (hn : n < 2 ^ 30) (ha : a < 2 ^ 30) (h : post (nI (pd_wk n a 2000 2 2 1))) : wpX_walk post (f0, f1, f2, f3, a1, a2) (nI n) (nI a) :=
  ⟨2000 + 1, pd_wwk h0 hn ha 2000 0 2 2 1 rfl (by decide) (by decide) (by decide) h⟩
theorem pd_wsp {post : Int32 → Prop} {n d : Nat} (h0 : 0 < n) (hn : n < 2 ^ 30) (hp : post (nI d)) : ∀ (c a : Nat), a + c ≤ 9 → pd_sp n c a = some d → wX_splitter_10 post (nI n) f0 f1 f2 f3 a1 a2 c (nI a) := by
  intro c
  induction c with
  | zero => intro a ha h; exact pd_no h
  | succ c ih =>
    intro a ha h
    have e1 : pd_sp n (c + 1) a = if pd_wk n a 2000 2 2 1 ≤ 1 then pd_sp n c (a + 1) else if n ≤ pd_wk n a 2000 2 2 1 then pd_sp n c (a + 1) else some (pd_wk n a 2000 2 2 1) := rfl
    rw [e1] at h
    have hw := pd_wkL (a := a) h0 2000 2 2 1 h0
    refine pk_lt 8 a (fun z => absurd z (by omega)) (fun _ => pd_walk h0 hn (by omega) ?_)
    refine pk_le (pd_wk n a 2000 2 2 1) 1 (fun z => nm_r (nI_1 a) ?_) (fun z => pk_le n (pd_wk n a 2000 2 2 1) (fun z2 => nm_r (nI_1 a) ?_) (fun z2 => ?_))
    · rw [if_pos z] at h
      exact ih (a + 1) (by omega) h
    · rw [if_neg (by omega), if_pos z2] at h
      exact ih (a + 1) (by omega) h
    · rw [if_neg (by omega), if_neg (by omega)] at h
      rw [Option.some.inj h]
      exact hp
theorem pd_split {post : Int32 → Prop} {n d : Nat} (h0 : 0 < n) (hn : n < 2 ^ 30) (e : pd_spl n = some d) (hp : post (nI d)) : wpX_splitter post (f0, f1, f2, f3, a1, a2) (nI n) := by
  unfold pd_spl at e
  refine ⟨by decide, pk_eq (n % 2) 0 (fun z => ?_) (fun z => ?_) (pk_rem (d := 2) (by omega) (by decide) (by decide))⟩
  · rw [if_pos z] at e
    rw [← Option.some.inj e] at hp
    exact hp
  · rw [if_neg z] at e
    exact ⟨8, pd_wsp h0 hn hp 8 1 (by decide) e⟩
end
end
section
/-! 04: the stack of parts and the list of factors; a list's head is the last place that is taken -/
def pd_stk (a : Nat → Int32) : List Nat → Prop
  | [] => True
  | t :: r => a r.length = nI t ∧ pd_stk a r
theorem pd_stkU {a : Nat → Int32} {x : Int32} : ∀ (l : List Nat) (k : Nat), l.length ≤ k → pd_stk a l → pd_stk (upd a k x) l
  | [], _, _, _ => trivial
  | t :: r, k, hk, h => by
    have hk' : r.length + 1 ≤ k := hk
    refine ⟨?_, pd_stkU r k (by omega) h.2⟩
    rw [pk_un (by omega)]
    exact h.1
def pd_ins (p : Nat) : List Nat → List Nat
  | [] => [p]
  | t :: r => if t ≤ p then p :: t :: r else t :: pd_ins p r
theorem pd_insL (p : Nat) : ∀ l : List Nat, (pd_ins p l).length = l.length + 1
  | [] => rfl
  | t :: r => by
    have e1 : pd_ins p (t :: r) = if t ≤ p then p :: t :: r else t :: pd_ins p r := rfl
    rw [e1]
    split
    · rfl
    · rw [List.length_cons, pd_insL p r, List.length_cons]
def pd_ff : Nat → List Nat → List Nat → Option (List Nat)
  | 0, _, _ => none
  | _ + 1, [], fs => some fs
  | f + 1, n :: ps, fs =>
    if n < 30001 ∧ 0 < n ∧ ps.length < 18 ∧ fs.length < 20 ∧ fs.all (fun t => decide (t < 30001)) = true then
      (if pd_pt n = true then pd_ff f ps (pd_ins n fs)
      else match pd_spl n with
        | none => none
        | some d => if 0 < d ∧ d < 30001 then pd_ff f (n / d :: d :: ps) fs else none)
    else none
section
variable {f0 f1 f2 f3 : Int32} {a1 a2 : Nat → Int32}
theorem pd_push {post : St2 → Prop} {k x : Nat} (hk : k < 20) (h : post (f0, f1, f2, nI (k + 1), a1, upd a2 k (nI x))) : wpX_pushPart post (f0, f1, f2, nI k, a1, a2) (nI x) :=
  ⟨vp_in_nI hk (by decide), nm_r (by rw [nI_clamp (by omega)]) (nm_r (nI_1 k) h)⟩
theorem pd_w41 {post : St2 → Prop} {p k c : Nat} (hk : k < 20) (h : post (f0, f1, nI (c + 1), f3, upd a1 k (nI p), a2)) : wX_insertFactor_41 post (nI p) (nI k) f0 f1 (nI c) f3 a1 a2 :=
  ⟨vp_in_nI hk (by decide), nm_r (by rw [nI_clamp (by omega)]) (nm_r (nI_1 c) h)⟩
theorem pd_wins {post : St2 → Prop} {p c : Nat} (hp : p < 2 ^ 31) (hc : c < 20) : ∀ (r : List Nat) (a : Nat → Int32), r.length ≤ c → (∀ t, t ∈ r → t < 2 ^ 31) → pd_stk a r → (∀ a', pd_stk a' (pd_ins p r) → (∀ j, r.length < j → a' j = a j) → post (f0, f1, nI (c + 1), f3, a', a2)) → wX_insertFactor_5 post (nI p) f0 f1 (nI c) f3 (r.length + 1) (nI r.length) a a2
  | [], a, hl, hb, hs, H => by
    refine pk_le 0 0 (fun _ => ?_) (fun z => absurd z (by omega))
    refine pd_w41 (k := 0) (by omega) (H _ ⟨pk_us, trivial⟩ ?_)
    intro j hj
    have hj' : 0 < j := hj
    exact pk_un (by omega)
  | t :: r, a, hl, hb, hs, H => by
    have hl' : r.length + 1 ≤ c := hl
    have ht : t < 2 ^ 31 := hb t List.mem_cons_self
    show wX_insertFactor_5 post (nI p) f0 f1 (nI c) f3 (r.length + 1 + 1) (nI (r.length + 1)) a a2
    have e1 : nI (r.length + 1) - 1 = nI r.length := nI_pred _
    have e2 : a (nI (r.length + 1) - 1).toNatClampNeg = nI t := by
      rw [e1, nI_clamp (by omega)]
      exact hs.1
    have e3 : vp_in (nI (r.length + 1) - 1) 20 := by
      rw [e1]
      exact vp_in_nI (by omega) (by decide)
    refine pk_le (r.length + 1) 0 (fun z => absurd z (by omega)) (fun _ => ⟨e3, ?_⟩)
    refine pk_le t p (fun z => ?_) (fun z => ?_) e2
    · refine pd_w41 (k := r.length + 1) (by omega) (H _ ?_ ?_)
      · rw [show pd_ins p (t :: r) = p :: t :: r from if_pos z]
        exact ⟨pk_us, pd_stkU (t :: r) _ (Nat.le_refl _) hs⟩
      · intro j hj
        have hj' : r.length + 1 < j := hj
        exact pk_un (by omega)
    · refine ⟨e3, vp_in_nI (by omega) (by decide), nm_r (e' := upd a (r.length + 1) (nI t)) (by rw [e2, nI_clamp (by omega)]) (nm_r (pk_m1 _) ?_)⟩
      refine pd_wins hp hc r _ (by omega) (fun t h => hb t (List.mem_cons_of_mem _ h)) (pd_stkU r _ (by omega) hs.2) (fun a' h1 h2 => H a' ?_ ?_)
      · rw [show pd_ins p (t :: r) = t :: pd_ins p r from if_neg (by omega)]
        refine ⟨?_, h1⟩
        rw [pd_insL, h2 _ (by omega)]
        exact pk_us
      · intro j hj
        have hj' : r.length + 1 < j := hj
        rw [h2 j (by omega)]
        exact pk_un (by omega)
theorem pd_wff {post : St2 → Prop} {N : Int32} : ∀ (f : Nat) (ps fs r : List Nat) (a1 a2 : Nat → Int32), pd_ff f ps fs = some r → ps.length ≤ 20 → pd_stk a2 ps → pd_stk a1 fs → (∀ a1' a2', pd_stk a1' r → post (N, 1, nI r.length, 0, a1', a2')) → wX_findFactors_39 post f N 1 (nI fs.length) (nI ps.length) a1 a2 := by
  intro f
  induction f with
  | zero => intro ps fs r a1 a2 h; exact pd_no h
  | succ f ih =>
    intro ps fs r a1 a2 h hl h2 h1 H
    cases ps with
    | nil =>
      have e : fs = r := Option.some.inj h
      subst e
      exact pk_le 0 0 (fun _ => H a1 a2 h1) (fun z => absurd z (by omega))
    | cons n ps =>
      have hl' : ps.length + 1 ≤ 20 := hl
      have h' : (if n < 30001 ∧ 0 < n ∧ ps.length < 18 ∧ fs.length < 20 ∧ fs.all (fun t => decide (t < 30001)) = true then
          (if pd_pt n = true then pd_ff f ps (pd_ins n fs)
          else match pd_spl n with
            | none => none
            | some d => if 0 < d ∧ d < 30001 then pd_ff f (n / d :: d :: ps) fs else none)
        else none) = some r := h
      by_cases hc : n < 30001 ∧ 0 < n ∧ ps.length < 18 ∧ fs.length < 20 ∧ fs.all (fun t => decide (t < 30001)) = true
      · rw [if_pos hc] at h'
        obtain ⟨c1, c2, c3, c4, c5⟩ := hc
        show wX_findFactors_39 post (f + 1) N 1 (nI fs.length) (nI (ps.length + 1)) a1 a2
        refine pk_le (ps.length + 1) 0 (fun z => absurd z (by omega)) (fun _ => nm_r (nI_pred _) ⟨vp_in_nI (by omega) (by decide), nm_r (e' := nI n) (by rw [nI_clamp (by omega)]; exact h2.1) ?_⟩)
        refine pd_prime (by omega) ?_
        by_cases hp : pd_pt n = true
        · rw [if_pos hp] at h'
          rw [hp]
          have hb : ∀ t, t ∈ fs → t < 2 ^ 31 := fun t ht => by
            have := of_decide_eq_true (List.all_eq_true.mp c5 t ht)
            omega
          refine br_f (by decide) ⟨fs.length + 1, pd_wins (by omega) c4 fs a1 (Nat.le_refl _) hb h1 (fun a' s _ => ?_)⟩
          have t := ih ps (pd_ins n fs) r a' a2 h' (by omega) h2.2 s H
          rw [pd_insL] at t
          exact t
        · rw [if_neg hp] at h'
          rw [Bool.eq_false_iff.mpr hp]
          cases ed : pd_spl n with
          | none => rw [ed] at h'; exact pd_no h'
          | some d =>
            rw [ed] at h'
            by_cases hd : 0 < d ∧ d < 30001
            · have h'' : pd_ff f (n / d :: d :: ps) fs = some r := by
                have t : (if 0 < d ∧ d < 30001 then pd_ff f (n / d :: d :: ps) fs else none) = some r := h'
                rw [if_pos hd] at t
                exact t
              refine br_t rfl (pd_split c2 (by omega) ed (pd_push (by omega) ⟨nI_ne0 hd.1 (by omega), ?_⟩))
              rw [pk_div (by omega) hd.1 (by omega)]
              refine pd_push (by omega) ?_
              refine ih (n / d :: d :: ps) fs r _ _ h'' ?_ ?_ h1 H
              · show ps.length + 1 + 1 ≤ 20
                omega
              · exact ⟨pk_us, pd_stkU (d :: ps) _ (Nat.le_refl _) ⟨pk_us, pd_stkU ps _ (Nat.le_refl _) h2.2⟩⟩
            · have t : (if 0 < d ∧ d < 30001 then pd_ff f (n / d :: d :: ps) fs else none) = some r := h'
              rw [if_neg hd] at t
              exact pd_no t
      · rw [if_neg hc] at h'
        exact pd_no h'
theorem pd_find0 {post : St2 → Prop} {n : Nat} {r : List Nat} (hn : 1 < n) (hn2 : n < 2 ^ 30) (e : pd_ff 30 [n] [] = some r) (H : ∀ a1' a2', pd_stk a1' r → post (nI n, 1, nI r.length, 0, a1', a2')) : wpX_findFactors post (nI n, 0, f2, f3, a1, a2) := by
  refine br_t rfl (pk_le n 1 (fun z => absurd z (by omega)) (fun _ => pd_push (k := 0) (by decide) ⟨30, ?_⟩))
  exact pd_wff 30 [n] [] r _ _ e (show 1 ≤ 20 by decide) ⟨pk_us, trivial⟩ trivial H
theorem pd_find1 {post : St2 → Prop} (h : post (f0, 1, f2, f3, a1, a2)) : wpX_findFactors post (f0, 1, f2, f3, a1, a2) := br_f (by decide) h
end
end
section
/-! 05: what is read off the list of factors -/
def pd_at (l : List Nat) (j : Nat) : Nat := l.getD (l.length - 1 - j) 0
theorem pd_stkA {a : Nat → Int32} : ∀ (l : List Nat), pd_stk a l → ∀ j, j < l.length → a j = nI (pd_at l j)
  | [], _, j, hj => absurd hj (Nat.not_lt_zero j)
  | t :: r, h, j, hj => by
    have hj' : j < r.length + 1 := hj
    show a j = nI ((t :: r).getD (r.length + 1 - 1 - j) 0)
    by_cases e : j = r.length
    · rw [e, show r.length + 1 - 1 - r.length = 0 by omega, h.1]
      rfl
    · rw [pd_stkA r h.2 j (by omega), show r.length + 1 - 1 - j = r.length - 1 - j + 1 by omega]
      rfl
def pd_dv (g : Nat → Nat) (c : Nat) : Nat → Nat → Nat → Nat → Nat
  | 0, x, _, _ => x
  | f + 1, x, r, k => if k + 1 < c ∧ g (k + 1) = g k then pd_dv g c f x (r + 1) (k + 1) else pd_dv g c f (x * (r + 1 + 1)) 0 (k + 1)
def pd_sm (g : Nat → Nat) (c : Nat) : Nat → Nat → Nat → Nat → Nat
  | 0, x, _, _ => x
  | f + 1, x, i, k => if k + 1 < c ∧ g (k + 1) = g k then pd_sm g c f x (i * g k + 1) (k + 1) else pd_sm g c f (x * (i * g k + 1)) 1 (k + 1)
def pd_co (g : Nat → Nat) : Nat → Nat → Nat → Nat
  | 0, x, _ => x
  | f + 1, x, k => if 0 < k ∧ g (k - 1) = g k then pd_co g f x (k + 1) else pd_co g f (x / g k * (g k - 1)) (k + 1)
section
variable {N z : Int32} {a1 a2 : Nat → Int32} {c : Nat} {g : Nat → Nat}
theorem pd_w10 {post : Int32 → St2 → Prop} (hc : c ≤ 20) (hA : ∀ j, j < c → a1 j = nI (g j)) (hg : ∀ j, j < c → g j < 2 ^ 31) : ∀ (f x r k : Nat), k + f = c → post (nI (pd_dv g c f x r k)) (N, 1, nI c, z, a1, a2) → wX_divisors_10 post N 1 (nI c) z a1 a2 (f + 1) (nI x) (nI r) (nI k) := by
  intro f
  induction f with
  | zero =>
    intro x r k hk hp
    exact pk_le c k (fun _ => hp) (fun z => absurd z (by omega))
  | succ f ih =>
    intro x r k hk hp
    have e1 : pd_dv g c (f + 1) x r k = if k + 1 < c ∧ g (k + 1) = g k then pd_dv g c f x (r + 1) (k + 1) else pd_dv g c f (x * (r + 1 + 1)) 0 (k + 1) := rfl
    rw [e1] at hp
    have em : nI x * (nI (r + 1) + 1) = nI (x * (r + 1 + 1)) := by rw [nI_1, pk_mul]
    refine pk_le c k (fun z => absurd z (by omega)) (fun _ => nm_r (nI_1 r) ?_)
    refine pk_le c (k + 1) (fun y => ?_) (fun y => ?_) rfl (nI_1 k)
    · rw [if_neg (by omega)] at hp
      exact nm_r em (nm_r (nI_1 k) (ih (x * (r + 1 + 1)) 0 (k + 1) (by omega) hp))
    · have g1 := hg k (by omega)
      have g2 := hg (k + 1) (by omega)
      have A1 : a1 (nI k).toNatClampNeg = nI (g k) := by rw [nI_clamp (by omega)]; exact hA k (by omega)
      have A2 : a1 (nI k + 1).toNatClampNeg = nI (g (k + 1)) := by rw [nI_1, nI_clamp (by omega)]; exact hA (k + 1) (by omega)
      refine ⟨pk_in (k + 1) 20 (by omega) (nI_1 k), pk_in k 20 (by omega), pk_eq (g (k + 1)) (g k) (fun w => nm_r (nI_1 k) ?_) (fun w => ?_) A2 A1⟩
      · rw [if_pos ⟨y, w⟩] at hp
        exact ih x (r + 1) (k + 1) (by omega) hp
      · rw [if_neg (fun t => w t.2)] at hp
        exact nm_r em (nm_r (nI_1 k) (ih (x * (r + 1 + 1)) 0 (k + 1) (by omega) hp))
theorem pd_ws10 {post : Int32 → St2 → Prop} (hc : c ≤ 20) (hA : ∀ j, j < c → a1 j = nI (g j)) (hg : ∀ j, j < c → g j < 2 ^ 31) : ∀ (f x i k : Nat), k + f = c → post (nI (pd_sm g c f x i k)) (N, 1, nI c, z, a1, a2) → wX_sum_10 post N 1 (nI c) z a1 a2 (f + 1) (nI x) (nI i) (nI k) := by
  intro f
  induction f with
  | zero =>
    intro x r k hk hp
    exact pk_le c k (fun _ => hp) (fun z => absurd z (by omega))
  | succ f ih =>
    intro x i k hk hp
    have e1 : pd_sm g c (f + 1) x i k = if k + 1 < c ∧ g (k + 1) = g k then pd_sm g c f x (i * g k + 1) (k + 1) else pd_sm g c f (x * (i * g k + 1)) 1 (k + 1) := rfl
    rw [e1] at hp
    have A1 : a1 (nI k).toNatClampNeg = nI (g k) := by rw [nI_clamp (by omega)]; exact hA k (by omega)
    have ei : nI i * a1 (nI k).toNatClampNeg + 1 = nI (i * g k + 1) := by rw [A1, pk_mul, nI_1]
    have em : nI x * nI (i * g k + 1) = nI (x * (i * g k + 1)) := pk_mul _ _
    refine pk_le c k (fun z => absurd z (by omega)) (fun _ => ⟨pk_in k 20 (by omega), nm_r ei ?_⟩)
    refine pk_le c (k + 1) (fun y => ?_) (fun y => ?_) rfl (nI_1 k)
    · rw [if_neg (by omega)] at hp
      exact nm_r em (nm_r (nI_1 k) (ih (x * (i * g k + 1)) 1 (k + 1) (by omega) hp))
    · have g1 := hg k (by omega)
      have g2 := hg (k + 1) (by omega)
      have A2 : a1 (nI k + 1).toNatClampNeg = nI (g (k + 1)) := by rw [nI_1, nI_clamp (by omega)]; exact hA (k + 1) (by omega)
      refine ⟨pk_in (k + 1) 20 (by omega) (nI_1 k), pk_in k 20 (by omega), pk_eq (g (k + 1)) (g k) (fun w => nm_r (nI_1 k) ?_) (fun w => ?_) A2 A1⟩
      · rw [if_pos ⟨y, w⟩] at hp
        exact ih x (i * g k + 1) (k + 1) (by omega) hp
      · rw [if_neg (fun t => w t.2)] at hp
        exact nm_r em (nm_r (nI_1 k) (ih (x * (i * g k + 1)) 1 (k + 1) (by omega) hp))
theorem pd_dm {x y : Nat} : x / y * (y - 1) ≤ x := Nat.le_trans (Nat.mul_le_mul_left _ (Nat.sub_le y 1)) (Nat.div_mul_le_self x y)
theorem pd_w11 {post : Int32 → St2 → Prop} (hc : c ≤ 20) (hA : ∀ j, j < c → a1 j = nI (g j)) (hg : ∀ j, j < c → 0 < g j ∧ g j < 2 ^ 31) : ∀ (f x k : Nat), k + f = c → x < 2 ^ 31 → post (nI (pd_co g f x k)) (N, 1, nI c, z, a1, a2) → wX_coprimes_11 post N 1 (nI c) z a1 a2 (f + 1) (nI x) (nI k) := by
  intro f
  induction f with
  | zero =>
    intro x k hk hx hp
    exact pk_le c k (fun _ => hp) (fun z => absurd z (by omega))
  | succ f ih =>
    intro x k hk hx hp
    have e1 : pd_co g (f + 1) x k = if 0 < k ∧ g (k - 1) = g k then pd_co g f x (k + 1) else pd_co g f (x / g k * (g k - 1)) (k + 1) := rfl
    rw [e1] at hp
    have g1 := hg k (by omega)
    have A1 : a1 (nI k).toNatClampNeg = nI (g k) := by rw [nI_clamp (by omega)]; exact hA k (by omega)
    have dm := pd_dm (x := x) (y := g k)
    have em : nI x / a1 (nI k).toNatClampNeg * (a1 (nI k).toNatClampNeg - 1) = nI (x / g k * (g k - 1)) := by
      rw [A1, pk_div hx g1.1 g1.2, show nI (g k) - 1 = nI (g k - 1) from pk_sub (b := 1) g1.1, pk_mul]
    have e0 : ¬ a1 (nI k).toNatClampNeg = 0 := by rw [A1]; exact nI_ne0 g1.1 g1.2
    have tail : post (nI (pd_co g f (x / g k * (g k - 1)) (k + 1))) (N, 1, nI c, z, a1, a2) → wX_coprimes_43 post (wX_coprimes_11 post N 1 (nI c) z a1 a2 (f + 1)) (nI x) (nI k) N 1 (nI c) z a1 a2 := fun h =>
      ⟨pk_in k 20 (by omega), e0, pk_in k 20 (by omega), nm_r em (nm_r (nI_1 k) (ih (x / g k * (g k - 1)) (k + 1) (by omega) (by omega) h))⟩
    refine pk_le c k (fun z => absurd z (by omega)) (fun _ => pk_le k 0 (fun y => ?_) (fun y => ?_))
    · rw [if_neg (by omega)] at hp
      exact tail hp
    · have g2 := hg (k - 1) (by omega)
      have es : nI k - 1 = nI (k - 1) := pk_sub (b := 1) (by omega)
      have A2 : a1 (nI k - 1).toNatClampNeg = nI (g (k - 1)) := by rw [es, nI_clamp (by omega)]; exact hA (k - 1) (by omega)
      refine ⟨pk_in (k - 1) 20 (by omega) es, pk_in k 20 (by omega), pk_eq (g (k - 1)) (g k) (fun w => nm_r (nI_1 k) ?_) (fun w => ?_) A2 A1⟩
      · rw [if_pos ⟨y, w⟩] at hp
        exact ih x (k + 1) (by omega) hx hp
      · rw [if_neg (fun t => w t.2)] at hp
        exact tail hp
theorem pd_divs {post : Int32 → St2 → Prop} (hc : c ≤ 20) (hA : ∀ j, j < c → a1 j = nI (g j)) (hg : ∀ j, j < c → 0 < g j ∧ g j < 2 ^ 31) (hp : post (nI (pd_dv g c c 1 0 0)) (N, 1, nI c, z, a1, a2)) : wpX_divisors post (N, 1, nI c, z, a1, a2) :=
  pd_find1 ⟨c + 1, pd_w10 hc hA (fun j hj => (hg j hj).2) c 1 0 0 (Nat.zero_add c) hp⟩
theorem pd_sums {post : Int32 → St2 → Prop} (hc : c ≤ 20) (hA : ∀ j, j < c → a1 j = nI (g j)) (hg : ∀ j, j < c → 0 < g j ∧ g j < 2 ^ 31) (hp : post (nI (pd_sm g c c 1 1 0)) (N, 1, nI c, z, a1, a2)) : wpX_sum post (N, 1, nI c, z, a1, a2) :=
  pd_find1 ⟨c + 1, pd_ws10 hc hA (fun j hj => (hg j hj).2) c 1 1 0 (Nat.zero_add c) hp⟩
theorem pd_cops {post : Int32 → St2 → Prop} {n : Nat} (hn : n < 2 ^ 31) (hc : c ≤ 20) (hA : ∀ j, j < c → a1 j = nI (g j)) (hg : ∀ j, j < c → 0 < g j ∧ g j < 2 ^ 31) (hp : post (nI (pd_co g c n 0)) (nI n, 1, nI c, z, a1, a2)) : wpX_coprimes post (nI n, 1, nI c, z, a1, a2) :=
  pd_find1 ⟨c + 1, pd_w11 hc hA hg c n 0 (Nat.zero_add c) hn hp⟩
theorem pd_fact {post : Int32 → St2 → Prop} {k : Nat} (hk : k < 20) (hc : c ≤ 20) (hA : ∀ j, j < c → a1 j = nI (g j)) (h1 : k < c → post (nI (g k)) (N, 1, nI c, z, a1, a2)) (h2 : c ≤ k → post (-2) (N, 1, nI c, z, a1, a2)) : wpX_factor post (N, 1, nI c, z, a1, a2) (nI k) := by
  refine pd_find1 (pk_lt k 0 (fun y => absurd y (by omega)) (fun _ => pk_lt k c (fun y => ⟨pk_in k 20 hk, ?_⟩) (fun y => h2 y)))
  rw [nI_clamp (by omega), hA k y]
  exact h1 y
end
end
section
/-! 06: powers and the order of a rest -/
def pd_I (B N F a r : Nat) : Prop := 0 < r ∧ r ∣ a ∧ 0 < a ∧ a ∣ F ∧ a ≤ 30000 ∧ B ^ a % N = 1 ∧ (B % N = 1 → a = r)
theorem pd_I1 {B N F a r p : Nat} (hp : 0 < p) (h : pd_I B N F a r) (hr : r % p = 0) (hq : B ^ (a / p) % N = 1) : pd_I B N F (a / p) (r / p) := by
  obtain ⟨h1, h2, h3, h4, h5, h6, h7⟩ := h
  obtain ⟨k, rfl⟩ := Nat.dvd_of_mod_eq_zero hr
  obtain ⟨m, rfl⟩ := h2
  rw [Nat.mul_assoc, Nat.mul_div_cancel_left _ hp] at hq ⊢
  rw [Nat.mul_div_cancel_left _ hp]
  have hk : 0 < k := Nat.pos_of_ne_zero (fun e => by subst e; rw [Nat.mul_zero] at h1; exact absurd h1 (Nat.lt_irrefl 0))
  have hkm : 0 < k * m := Nat.pos_of_ne_zero (fun e => by rw [Nat.mul_assoc, e, Nat.mul_zero] at h3; exact absurd h3 (Nat.lt_irrefl 0))
  refine ⟨hk, ⟨m, rfl⟩, hkm, ?_, ?_, hq, ?_⟩
  · refine Nat.dvd_trans ?_ h4
    rw [Nat.mul_assoc]
    exact ⟨p, Nat.mul_comm _ _⟩
  · refine Nat.le_trans ?_ h5
    rw [Nat.mul_assoc]
    exact Nat.le_mul_of_pos_left _ hp
  · intro e
    have t := h7 e
    rw [Nat.mul_assoc] at t
    exact Nat.eq_of_mul_eq_mul_left hp t
theorem pd_one {B N : Nat} (hN : 1 < N) (e : B % N = 1) (k : Nat) : B ^ k % N = 1 := by
  rw [Nat.pow_mod, e, Nat.one_pow]
  exact Nat.mod_eq_of_lt hN
theorem pd_I0 {B N F a r p : Nat} (hp : 0 < p) (hN : 1 < N) (h : pd_I B N F a r) (hr : r % p = 0) (hq : ¬ B ^ (a / p) % N = 1) : pd_I B N F a (r / p) := by
  obtain ⟨h1, h2, h3, h4, h5, h6, h7⟩ := h
  obtain ⟨k, rfl⟩ := Nat.dvd_of_mod_eq_zero hr
  rw [Nat.mul_div_cancel_left _ hp]
  have hk : 0 < k := Nat.pos_of_ne_zero (fun e => by subst e; rw [Nat.mul_zero] at h1; exact absurd h1 (Nat.lt_irrefl 0))
  exact ⟨hk, Nat.dvd_trans ⟨p, Nat.mul_comm _ _⟩ h2, h3, h4, h5, h6, fun e => absurd (pd_one hN e _) hq⟩
theorem pd_Ile {B N F a r : Nat} (h : pd_I B N F a r) : r ≤ 30000 := Nat.le_trans (Nat.le_of_dvd h.2.2.1 h.2.1) h.2.2.2.2.1
section
variable {f1 f2 f3 : Int32} {a1 a2 : Nat → Int32}
theorem pd_w65 {post : Int32 → St2 → Prop} {J : Int32 → Int32 → Int32 → Prop} {B N F p r0 : Nat} (hB : B < 2 ^ 31) (hN0 : 1 < N) (hN : N < 2 ^ 31) (hp : 2 ≤ p) (hp2 : p < 2 ^ 30) (H : ∀ a' r', pd_I B N F a' r' → r' ≤ r0 → ¬ r' % p = 0 → J (nI a') (nI r') (nI (p + 1))) :
    ∀ (f a r : Nat), r < f → pd_I B N F a r → r ≤ r0 → wX_order_65 post J (nI B) (nI p) (nI N) f1 f2 f3 a1 a2 f (nI a) (nI r) := by
  intro f
  induction f with
  | zero => intro a r h; omega
  | succ f ih =>
    intro a r hf hI hr0
    have hr := pd_Ile hI
    have ha := hI.2.2.2.2.1
    have h1 := hI.1
    have hm : r % p < p := Nat.mod_lt _ (by omega)
    have nz : ¬ nI p = 0 := nI_ne0 (by omega) (by omega)
    have eA : nI a / nI p = nI (a / p) := pk_div (by omega) (by omega) (by omega)
    have eR : nI r / nI p = nI (r / p) := pk_div (by omega) (by omega) (by omega)
    have hl : r / p < r := Nat.div_lt_self h1 (by omega)
    have hla : a / p ≤ a := Nat.div_le_self a p
    refine ⟨nz, pk_eq (r % p) 0 (fun z => ⟨nz, nm_r eR ⟨nz, ?_⟩⟩) (fun z => nm_r (nI_1 p) (H a r hI hr0 z)) (pk_rem (by omega) (by omega) (by omega))⟩
    rw [eA]
    refine pd_power hB (by omega) (by omega) hN ?_
    have hm2 : B ^ (a / p) % N < N := Nat.mod_lt _ (by omega)
    refine pk_eq (B ^ (a / p) % N) 1 (fun w => ⟨nz, nm_e ?_⟩) (fun w => ?_)
    · exact ih (a / p) (r / p) (by omega) (pd_I1 (by omega) hI z w) (by omega)
    · exact ih a (r / p) (by omega) (pd_I0 (by omega) hN0 hI z w) (by omega)
theorem pd_w48 {post : Int32 → St2 → Prop} {B N F : Nat} (hB : B < 2 ^ 31) (hN0 : 1 < N) (hN : N < 2 ^ 31) (H : ∀ o, pd_I B N F o 1 → post (nI o) (nI N, f1, f2, f3, a1, a2)) :
    ∀ (f a r p : Nat), 400 * r + (400 - p) < f → pd_I B N F a r → 2 ≤ p → p ≤ 30001 → wX_order_48 post (nI B) (nI N) f1 f2 f3 a1 a2 f (nI a) (nI r) (nI p) := by
  intro f
  induction f with
  | zero => intro a r p h; omega
  | succ f ih =>
    intro a r p hf hI hp hp2
    have hr := pd_Ile hI
    have h1 := hI.1
    have hpp : p * p ≤ 30001 * 30001 := Nat.mul_le_mul hp2 hp2
    refine pk_le r 1 (fun z => ?_) (fun z => ?_)
    · have e : r = 1 := by omega
      subst e
      exact H a hI
    · refine pk_le (p * p) r (fun z2 => ?_) (fun z2 => ?_) (pk_mul p p)
      · have hs : p < 174 := by
          rcases Nat.lt_or_ge p 174 with h | h
          · exact h
          · have t : 174 * 174 ≤ p * p := Nat.mul_le_mul h h
            omega
        refine ⟨r + 1, pd_w65 (F := F) (r0 := r) hB hN0 hN hp (by omega) (fun a' r' i1 i2 i3 => ?_) (r + 1) a r (by omega) hI (Nat.le_refl r)⟩
        exact ih a' r' (p + 1) (by omega) i1 (by omega) (by omega)
      · refine ⟨r + 1, pd_w65 (F := F) (r0 := r) hB hN0 hN (by omega) (by omega) (fun a' r' i1 i2 i3 => ?_) (r + 1) a r (by omega) hI (Nat.le_refl r)⟩
        have ne : r' ≠ r := fun e => i3 (by rw [e]; exact Nat.mod_self r)
        exact ih a' r' (r + 1) (by omega) i1 (by omega) (by omega)
theorem pd_pw {post : Int32 → Prop} {n b e : Nat} (h0 : 0 < n) (hn : n < 2 ^ 31) (hb : b ≤ 30000) (he : e ≤ 30000) (h : post (nI (b ^ e % n))) : wpX_power post (nI n, f1, f2, f3, a1, a2) (nI b) (nI e) :=
  pk_lt b 0 (fun y => absurd y (by omega)) (fun _ => pk_lt 30000 b (fun y => absurd y (by omega)) (fun _ => pk_lt e 0 (fun y => absurd y (by omega)) (fun _ => pk_le e 30000 (fun _ => pd_power (by omega) (by omega) h0 hn h) (fun y => absurd y (by omega)))))
theorem pd_order {post : Int32 → St2 → Prop} {B N F c : Nat} {g : Nat → Nat} (hB1 : 1 ≤ B) (hB : B ≤ 30000) (hN0 : 1 < N) (hN : N ≤ 30000) (hc : c ≤ 20) (hA : ∀ j, j < c → a1 j = nI (g j)) (hg : ∀ j, j < c → 0 < g j ∧ g j < 2 ^ 31) (hF : pd_co g c N 0 = F)
    (h2 : ¬ Nat.gcd B N = 1 → post (-2) (nI N, 1, nI c, f3, a1, a2)) (h1 : Nat.gcd B N = 1 → pd_I B N F F F ∧ ∀ o, pd_I B N F o 1 → post (nI o) (nI N, 1, nI c, f3, a1, a2)) : wpX_order post (nI N, 1, nI c, f3, a1, a2) (nI B) := by
  have hgl : Nat.gcd B N ≤ N := Nat.gcd_le_right B (by omega)
  refine pk_lt B 1 (fun y => absurd y (by omega)) (fun _ => pk_le B 30000 (fun _ => ?_) (fun y => absurd y (by omega)))
  refine pk_eq N 1 (fun y => absurd y (by omega)) (fun _ => pd_gcd (by omega) (by omega) ?_)
  refine pk_eq (Nat.gcd B N) 1 (fun y => ?_) (fun y => h2 y)
  obtain ⟨i1, i2⟩ := h1 y
  refine pd_cops (by omega) hc hA hg ?_
  rw [hF]
  obtain ⟨f, hf⟩ : ∃ f, 400 * F + (400 - 2) < f := ⟨_, Nat.lt_succ_self _⟩
  exact ⟨f, pd_w48 (by omega) hN0 (by omega) i2 f F F 2 hf i1 (by decide) (by decide)⟩
end
end
section
/-! 07: square roots of rests -/
def pd_lp (p : Nat) : Nat → Nat → Nat → Option Nat
  | 0, _, _ => none
  | f + 1, c, y => if y = 1 then some c else pd_lp p f (c + 1) (y * y % p)
def pd_sq (p : Nat) : Nat → Nat → Nat
  | 0, x => x
  | k + 1, x => pd_sq p k (x * x % p)
def pd_r84 (p : Nat) : Nat → Nat → Nat → Nat → Nat → Option Nat
  | 0, _, _, _, _ => none
  | f + 1, h, r, o, s => if o = 1 then some r else match pd_lp p 40 0 o with
    | none => none
    | some l => if l + 1 ≤ s ∧ s < 100 then pd_r84 p f (pd_sq p (s - l - 1) h * pd_sq p (s - l - 1) h % p) (r * pd_sq p (s - l - 1) h % p) (o * (pd_sq p (s - l - 1) h * pd_sq p (s - l - 1) h % p) % p) l else none
def pd_r26 (a p o t : Nat) : Nat → Nat → Option Nat
  | 0, _ => none
  | f + 1, c => if c < 100 then (if c ^ ((p - 1) / 2) % p = 1 then pd_r26 a p o t f (c + 1) else pd_r84 p 40 (c ^ o % p) (a ^ ((o + 1) / 2) % p) (a ^ o % p) t) else none
def pd_r7 (a p : Nat) : Nat → Nat → Nat → Option Nat
  | 0, _, _ => none
  | f + 1, o, t => if o % 2 = 0 then pd_r7 a p f (o / 2) (t + 1) else pd_r26 a p o t 40 2
def pd_rt (p a : Nat) : Option Nat :=
  if p = 2 then some (a % p) else if a % p = 0 then some (a % p) else if (a % p) ^ ((p - 1) / 2) % p = 1 then
    (match pd_r7 (a % p) p 40 (p - 1) 0 with
    | none => none
    | some x => if x ≤ p then (if p - x < x then some (p - x) else some x) else none)
  else none
section
variable {f0 f1 f2 f3 : Int32} {a1 a2 : Nat → Int32}
theorem pd_wlp {post : Int32 → Prop} {p r : Nat} (h0 : 0 < p) (hp : p < 2 ^ 31) (H : post (nI r)) : ∀ (f c y : Nat), y < 2 ^ 31 → pd_lp p f c y = some r → wX_leastPower_5 post (nI p) f0 f1 f2 f3 a1 a2 f (nI c) (nI y) := by
  intro f
  induction f with
  | zero => intro c y hy h; exact pd_no h
  | succ f ih =>
    intro c y hy h
    have e1 : pd_lp p (f + 1) c y = if y = 1 then some c else pd_lp p f (c + 1) (y * y % p) := rfl
    rw [e1] at h
    have hl : y * y % p < p := Nat.mod_lt _ h0
    refine pk_eq y 1 (fun z => ?_) (fun z => pd_times hy hy h0 hp (nm_r (nI_1 c) ?_))
    · rw [if_pos z] at h
      rw [Option.some.inj h]
      exact H
    · rw [if_neg z] at h
      exact ih (c + 1) (y * y % p) (by omega) h
theorem pd_wleast {post : Int32 → Prop} {p y r : Nat} (h0 : 0 < p) (hp : p < 2 ^ 31) (hy : y < 2 ^ 31) (e : pd_lp p 40 0 y = some r) (H : post (nI r)) : wpX_leastPower post (f0, f1, f2, f3, a1, a2) (nI y) (nI p) :=
  ⟨40, pd_wlp h0 hp H 40 0 y hy e⟩
theorem pd_w106 {post : Int32 → Prop} {J : Int32 → Int32 → Int32 → Int32 → Prop} {p r o s l : Nat} (h0 : 0 < p) (hp : p < 2 ^ 31) (hr : r < 2 ^ 31) (ho : o < 2 ^ 31) (hl : l + 1 ≤ s) (hs : s < 100) : ∀ (c k x : Nat), k + c = s - l - 1 → x < 2 ^ 31 → J (nI (pd_sq p c x * pd_sq p c x % p)) (nI (r * pd_sq p c x % p)) (nI (o * (pd_sq p c x * pd_sq p c x % p) % p)) (nI l) → wX_rootModulo_106 post J (nI p) (nI r) (nI o) (nI s) (nI l) f0 f1 f2 f3 a1 a2 (c + 1) (nI x) (nI k) := by
  have es : nI s - nI l - 1 = nI (s - l - 1) := by
    rw [pk_sub (show l ≤ s by omega)]
    exact pk_sub (b := 1) (by omega)
  intro c
  induction c with
  | zero =>
    intro k x hk hx H
    have hm : x * x % p < p := Nat.mod_lt _ h0
    exact pk_le (s - l - 1) k (fun _ => pd_times hr hx h0 hp (pd_times hx hx h0 hp (pd_times ho (by omega) h0 hp H))) (fun z => absurd z (by omega)) es
  | succ c ih =>
    intro k x hk hx H
    have hm : x * x % p < p := Nat.mod_lt _ h0
    exact pk_le (s - l - 1) k (fun z => absurd z (by omega)) (fun _ => pd_times hx hx h0 hp (nm_r (nI_1 k) (ih (k + 1) (x * x % p) (by omega) (by omega) H))) es
theorem pd_wr84 {post : Int32 → Prop} {p x : Nat} (h0 : 0 < p) (hp : p < 2 ^ 31) (H : post (nI x)) : ∀ (f h r o s : Nat), h < 2 ^ 31 → r < 2 ^ 31 → o < 2 ^ 31 → pd_r84 p f h r o s = some x → wX_rootModulo_84 post (nI p) f0 f1 f2 f3 a1 a2 f (nI h) (nI r) (nI o) (nI s) := by
  intro f
  induction f with
  | zero => intro h r o s _ _ _ e; exact pd_no e
  | succ f ih =>
    intro h r o s hh hr ho e
    have e1 : pd_r84 p (f + 1) h r o s = if o = 1 then some r else match pd_lp p 40 0 o with
      | none => none
      | some l => if l + 1 ≤ s ∧ s < 100 then pd_r84 p f (pd_sq p (s - l - 1) h * pd_sq p (s - l - 1) h % p) (r * pd_sq p (s - l - 1) h % p) (o * (pd_sq p (s - l - 1) h * pd_sq p (s - l - 1) h % p) % p) l else none := rfl
    rw [e1] at e
    refine pk_eq o 1 (fun z => ?_) (fun z => ?_)
    · rw [if_pos z] at e
      rw [Option.some.inj e]
      exact H
    · rw [if_neg z] at e
      cases el : pd_lp p 40 0 o with
      | none => rw [el] at e; exact pd_no e
      | some l =>
        rw [el] at e
        have e2 : (if l + 1 ≤ s ∧ s < 100 then pd_r84 p f (pd_sq p (s - l - 1) h * pd_sq p (s - l - 1) h % p) (r * pd_sq p (s - l - 1) h % p) (o * (pd_sq p (s - l - 1) h * pd_sq p (s - l - 1) h % p) % p) l else none) = some x := e
        by_cases hc : l + 1 ≤ s ∧ s < 100
        · rw [if_pos hc] at e2
          refine pd_wleast h0 hp ho el ⟨s - l - 1 + 1, pd_w106 h0 hp hr ho hc.1 hc.2 (s - l - 1) 0 h (Nat.zero_add _) hh ?_⟩
          have m1 := Nat.mod_lt (pd_sq p (s - l - 1) h * pd_sq p (s - l - 1) h) h0
          have m2 := Nat.mod_lt (r * pd_sq p (s - l - 1) h) h0
          have m3 := Nat.mod_lt (o * (pd_sq p (s - l - 1) h * pd_sq p (s - l - 1) h % p)) h0
          exact ih _ _ _ l (by omega) (by omega) (by omega) e2
        · rw [if_neg hc] at e2
          exact pd_no e2
theorem pd_wr26 {post : Int32 → Prop} {a p o t x : Nat} (h0 : 0 < p) (hp : p < 2 ^ 31) (ha : a < 2 ^ 31) (ho : o < 2 ^ 30) (H : post (nI x)) : ∀ (f c : Nat), pd_r26 a p o t f c = some x → wX_rootModulo_26 post (nI a) (nI p) (nI o) (nI t) f0 f1 f2 f3 a1 a2 f (nI c) := by
  have e1 : (nI p - 1) / 2 = nI ((p - 1) / 2) := by
    rw [show nI p - 1 = nI (p - 1) from pk_sub (b := 1) h0]
    exact pk_div (d := 2) (by omega) (by decide) (by decide)
  have e2 : (nI o + 1) / 2 = nI ((o + 1) / 2) := by
    rw [nI_1]
    exact pk_div (d := 2) (by omega) (by decide) (by decide)
  intro f
  induction f with
  | zero => intro c e; exact pd_no e
  | succ f ih =>
    intro c e
    have e3 : pd_r26 a p o t (f + 1) c = if c < 100 then (if c ^ ((p - 1) / 2) % p = 1 then pd_r26 a p o t f (c + 1) else pd_r84 p 40 (c ^ o % p) (a ^ ((o + 1) / 2) % p) (a ^ o % p) t) else none := rfl
    rw [e3] at e
    by_cases hc : c < 100
    · rw [if_pos hc] at e
      have m1 : c ^ ((p - 1) / 2) % p < p := Nat.mod_lt _ h0
      have m2 : c ^ o % p < p := Nat.mod_lt _ h0
      have m3 : a ^ ((o + 1) / 2) % p < p := Nat.mod_lt _ h0
      have m4 : a ^ o % p < p := Nat.mod_lt _ h0
      refine ⟨by decide, ?_⟩
      rw [e1]
      refine pd_power (by omega) (by omega) h0 hp (pk_eq (c ^ ((p - 1) / 2) % p) 1 (fun z => nm_r (nI_1 c) ?_) (fun z => ?_))
      · rw [if_pos z] at e
        exact ih (c + 1) e
      · rw [if_neg z] at e
        refine pd_power (by omega) (by omega) h0 hp ⟨by decide, ?_⟩
        rw [e2]
        refine pd_power ha (by omega) h0 hp (pd_power ha (by omega) h0 hp ⟨40, ?_⟩)
        exact pd_wr84 h0 hp H 40 _ _ _ t (by omega) (by omega) (by omega) e
    · rw [if_neg hc] at e
      exact pd_no e
theorem pd_wr7 {post : Int32 → Prop} {a p x : Nat} (h0 : 0 < p) (hp : p < 2 ^ 31) (ha : a < 2 ^ 31) (H : post (nI x)) : ∀ (f o t : Nat), o < 2 ^ 30 → pd_r7 a p f o t = some x → wX_rootModulo_7 post (nI a) (nI p) f0 f1 f2 f3 a1 a2 f (nI o) (nI t) := by
  intro f
  induction f with
  | zero => intro o t _ e; exact pd_no e
  | succ f ih =>
    intro o t ho e
    have e1 : pd_r7 a p (f + 1) o t = if o % 2 = 0 then pd_r7 a p f (o / 2) (t + 1) else pd_r26 a p o t 40 2 := rfl
    rw [e1] at e
    have han : nI o &&& 1 = nI (o % 2) := pk_andN (by omega) 1 (by decide)
    have hsh : nI o >>> ((1 : Int32) &&& 31) = nI (o / 2) := pk_shrN (by omega) _ 1 (by decide)
    refine pk_eq (o % 2) 0 (fun z => nm_r hsh (nm_r (nI_1 t) ?_)) (fun z => ⟨40, ?_⟩) han
    · rw [if_pos z] at e
      exact ih (o / 2) (t + 1) (by omega) e
    · rw [if_neg z] at e
      exact pd_wr26 h0 hp ha ho H 40 2 e
theorem pd_rootM {post : Int32 → Prop} {a p x : Nat} (h0 : 0 < p) (hp : p < 2 ^ 30) (ha : a < 2 ^ 31) (e : pd_r7 a p 40 (p - 1) 0 = some x) (H : post (nI x)) : wpX_rootModulo post (f0, f1, f2, f3, a1, a2) (nI a) (nI p) :=
  nm_r (pk_sub (b := 1) h0) ⟨40, pd_wr7 h0 (by omega) ha H 40 (p - 1) 0 (by omega) e⟩
theorem pd_rootB {post : Int32 → Prop} {x : Int32} (hx : x < 0 ∨ ¬ x ≤ 30000) (H : post (-1)) : wpX_root post (f0, f1, f2, f3, a1, a2) x :=
  br_c (fun _ => H) (fun y => br_f (hx.resolve_left y) H)
theorem pd_rootN {post : Int32 → Prop} {n a : Nat} (hn : n < 2 ^ 30) (ha : a ≤ 30000) (hq : pd_pt n = false) (H : post (-2)) : wpX_root post (nI n, f1, f2, f3, a1, a2) (nI a) := by
  refine pk_lt a 0 (fun y => absurd y (by omega)) (fun _ => pk_le a 30000 (fun _ => pd_prime hn ?_) (fun y => absurd y (by omega)))
  rw [hq]
  exact br_t rfl H
theorem pd_root {post : Int32 → Prop} {p a x : Nat} (h1 : 1 < p) (hp : p < 2 ^ 30) (ha : a ≤ 30000) (hq : pd_pt p = true) (e : pd_rt p a = some x) (H : post (nI x)) : wpX_root post (nI p, f1, f2, f3, a1, a2) (nI a) := by
  refine pk_lt a 0 (fun y => absurd y (by omega)) (fun _ => pk_le a 30000 (fun _ => pd_prime hp ?_) (fun y => absurd y (by omega)))
  rw [hq]
  refine br_f (by decide) ⟨nI_ne0 (by omega) (by omega), nm_r (pk_rem (by omega) (by omega) (by omega)) ?_⟩
  have hm : a % p < p := Nat.mod_lt _ (by omega)
  unfold pd_rt at e
  refine pk_eq p 2 (fun z => ?_) (fun z => ?_)
  · rw [if_pos z] at e
    rw [Option.some.inj e]
    exact H
  · rw [if_neg z] at e
    refine pk_eq (a % p) 0 (fun y => ?_) (fun y => ⟨by decide, ?_⟩)
    · rw [if_pos y] at e
      rw [Option.some.inj e]
      exact H
    · rw [if_neg y] at e
      have e1 : (nI p - 1) / 2 = nI ((p - 1) / 2) := by
        rw [show nI p - 1 = nI (p - 1) from pk_sub (b := 1) (by omega)]
        exact pk_div (d := 2) (by omega) (by decide) (by decide)
      have m1 : (a % p) ^ ((p - 1) / 2) % p < p := Nat.mod_lt _ (by omega)
      rw [e1]
      refine pd_power (by omega) (by omega) (by omega) (by omega) (pk_eq ((a % p) ^ ((p - 1) / 2) % p) 1 (fun w => ?_) (fun w => ?_))
      · rw [if_pos w] at e
        cases er : pd_r7 (a % p) p 40 (p - 1) 0 with
        | none => rw [er] at e; exact pd_no e
        | some y =>
          rw [er] at e
          have e2 : (if y ≤ p then (if p - y < y then some (p - y) else some y) else none) = some x := e
          by_cases hy : y ≤ p
          · rw [if_pos hy] at e2
            refine pd_rootM (by omega) hp (by omega) er (pk_lt (p - y) y (fun v => ?_) (fun v => ?_) (pk_sub hy))
            · rw [if_pos v] at e2
              rw [pk_sub hy, Option.some.inj e2]
              exact H
            · rw [if_neg (by omega)] at e2
              rw [Option.some.inj e2]
              exact H
          · rw [if_neg hy] at e2
            exact pd_no e2
      · rw [if_neg w] at e
        exact pd_no e
end
end
section
/-! 08: the generator, the next prime -/
def pd_div (p : Nat) : Nat → Nat → Option Nat
  | 0, _ => none
  | f + 1, r => if r % p = 0 then pd_div p f (r / p) else some r
def pd_g29 (g m N r p : Nat) (J : Nat → Nat → Option Bool) : Option Bool :=
  if r % p = 0 then
    (match pd_div p 40 r with
    | none => none
    | some r' => if g ^ (m / p) % N = 1 then some false else J r' (p + 1))
  else J r (p + 1)
def pd_g12 (g m N : Nat) : Nat → Nat → Nat → Option Bool
  | 0, _, _ => none
  | f + 1, r, p => if r < 30001 ∧ 0 < p ∧ p < 30001 then (if r ≤ 1 then some true else if p * p ≤ r then pd_g29 g m N r p (pd_g12 g m N f) else pd_g29 g m N r r (pd_g12 g m N f)) else none
def pd_gn (N : Nat) : Nat → Nat → Bool → Option Nat
  | 0, _, _ => none
  | f + 1, g, b => if b = true then some g else if g < 30000 then (match pd_g12 (g + 1) (N - 1) N 40 (N - 1) 2 with
    | none => none
    | some b' => pd_gn N f (g + 1) b') else none
def pd_gen (N : Nat) : Option Nat := if N = 2 then some 1 else pd_gn N 40 1 false
def pd_np : Nat → Nat → Nat
  | 0, m => m
  | f + 1, m => if pd_pt m = true then m else pd_np f (m + 1)
theorem pd_npL : ∀ (f m : Nat), m ≤ pd_np f m
  | 0, m => Nat.le_refl m
  | f + 1, m => by
    have e1 : pd_np (f + 1) m = if pd_pt m = true then m else pd_np f (m + 1) := rfl
    rw [e1]
    split
    · exact Nat.le_refl m
    · exact Nat.le_trans (Nat.le_succ m) (pd_npL f (m + 1))
section
variable {f0 f1 f2 f3 : Int32} {a1 a2 : Nat → Int32}
theorem pd_w39 {post : Int32 → Prop} {J : Int32 → Int32 → Prop} {g m N p r' : Nat} (hg : g < 2 ^ 31) (hm : m < 2 ^ 31) (h0 : 0 < N) (hN : N < 2 ^ 31) (hp0 : 0 < p) (hp : p < 2 ^ 31) (H0 : g ^ (m / p) % N = 1 → post 0) (H1 : ¬ g ^ (m / p) % N = 1 → J (nI r') (nI (p + 1))) : ∀ (f r : Nat), r < 2 ^ 31 → pd_div p f r = some r' → wX_generates_39 post J (nI g) (nI m) (nI p) (nI N) f1 f2 f3 a1 a2 f (nI r) := by
  intro f
  induction f with
  | zero => intro r _ e; exact pd_no e
  | succ f ih =>
    intro r hr e
    have e1 : pd_div p (f + 1) r = if r % p = 0 then pd_div p f (r / p) else some r := rfl
    rw [e1] at e
    have nz : ¬ nI p = 0 := nI_ne0 hp0 hp
    have hl : r % p < p := Nat.mod_lt _ hp0
    have hd : r / p ≤ r := Nat.div_le_self r p
    have hd2 : m / p ≤ m := Nat.div_le_self m p
    refine ⟨nz, pk_eq (r % p) 0 (fun z => ⟨nz, nm_r (pk_div hr hp0 hp) ?_⟩) (fun z => ⟨nz, ?_⟩) (pk_rem hr hp0 hp)⟩
    · rw [if_pos z] at e
      exact ih (r / p) (by omega) e
    · rw [if_neg z] at e
      have m1 : g ^ (m / p) % N < N := Nat.mod_lt _ h0
      rw [pk_div hm hp0 hp]
      refine pd_power hg (by omega) h0 hN (pk_eq (g ^ (m / p) % N) 1 (fun w => H0 w) (fun w => nm_r (nI_1 p) ?_))
      rw [Option.some.inj e]
      exact H1 w
theorem pd_w29 {post : Int32 → Prop} {J : Int32 → Int32 → Prop} {K : Nat → Nat → Option Bool} {g m N p r : Nat} {b : Bool} (hg : g < 2 ^ 31) (hm : m < 2 ^ 31) (h0 : 0 < N) (hN : N < 2 ^ 31) (hp0 : 0 < p) (hp : p < 2 ^ 31) (hr : r < 2 ^ 31) (H : post (pd_b b)) (HJ : ∀ r', K r' (p + 1) = some b → J (nI r') (nI (p + 1))) (e : pd_g29 g m N r p K = some b) : wX_generates_29 post J (nI g) (nI m) (nI r) (nI p) (nI N) f1 f2 f3 a1 a2 := by
  have nz : ¬ nI p = 0 := nI_ne0 hp0 hp
  have hl : r % p < p := Nat.mod_lt _ hp0
  unfold pd_g29 at e
  refine ⟨nz, pk_eq (r % p) 0 (fun z => ?_) (fun z => nm_r (nI_1 p) ?_) (pk_rem hr hp0 hp)⟩
  · rw [if_pos z] at e
    cases ed : pd_div p 40 r with
    | none => rw [ed] at e; exact pd_no e
    | some r' =>
      rw [ed] at e
      have e2 : (if g ^ (m / p) % N = 1 then some false else K r' (p + 1)) = some b := e
      refine ⟨40, pd_w39 (r' := r') hg hm h0 hN hp0 hp (fun w => ?_) (fun w => ?_) 40 r hr ed⟩
      · rw [if_pos w] at e2
        rw [← Option.some.inj e2] at H
        exact H
      · rw [if_neg w] at e2
        exact HJ r' e2
  · rw [if_neg z] at e
    exact HJ r e
theorem pd_w12 {post : Int32 → Prop} {g m N : Nat} {b : Bool} (hg : g < 2 ^ 31) (hm : m < 2 ^ 31) (h0 : 0 < N) (hN : N < 2 ^ 31) (H : post (pd_b b)) : ∀ (f r p : Nat), pd_g12 g m N f r p = some b → wX_generates_12 post (nI g) (nI m) (nI N) f1 f2 f3 a1 a2 f (nI r) (nI p) := by
  intro f
  induction f with
  | zero => intro r p e; exact pd_no e
  | succ f ih =>
    intro r p e
    have e1 : pd_g12 g m N (f + 1) r p = if r < 30001 ∧ 0 < p ∧ p < 30001 then (if r ≤ 1 then some true else if p * p ≤ r then pd_g29 g m N r p (pd_g12 g m N f) else pd_g29 g m N r r (pd_g12 g m N f)) else none := rfl
    rw [e1] at e
    by_cases hc : r < 30001 ∧ 0 < p ∧ p < 30001
    · rw [if_pos hc] at e
      obtain ⟨c1, c2, c3⟩ := hc
      have hpp : p * p ≤ 30001 * 30001 := Nat.mul_le_mul (Nat.le_of_lt c3) (Nat.le_of_lt c3)
      refine pk_le r 1 (fun z => ?_) (fun z => pk_le (p * p) r (fun z2 => ?_) (fun z2 => ?_) (pk_mul p p))
      · rw [if_pos z] at e
        rw [← Option.some.inj e] at H
        exact H
      · rw [if_neg (by omega), if_pos z2] at e
        exact pd_w29 hg hm h0 hN c2 (by omega) (by omega) H (fun r' e' => ih r' (p + 1) e') e
      · rw [if_neg (by omega), if_neg (by omega)] at e
        exact pd_w29 hg hm h0 hN (by omega) (by omega) (by omega) H (fun r' e' => ih r' (r + 1) e') e
    · rw [if_neg hc] at e
      exact pd_no e
theorem pd_gens {post : Int32 → Prop} {g N : Nat} {b : Bool} (hg : g < 2 ^ 31) (h0 : 0 < N) (hN : N < 2 ^ 31) (e : pd_g12 g (N - 1) N 40 (N - 1) 2 = some b) (H : post (pd_b b)) : wpX_generates post (nI N, f1, f2, f3, a1, a2) (nI g) :=
  nm_r (pk_sub (b := 1) h0) ⟨40, pd_w12 hg (by omega) h0 hN H 40 (N - 1) 2 e⟩
theorem pd_w28 {post : Int32 → Prop} {N x : Nat} (h0 : 0 < N) (hN : N < 2 ^ 31) (H : post (nI x)) : ∀ (f g : Nat) (b : Bool), pd_gn N f g b = some x → wX_generator_28 post (nI N) f1 f2 f3 a1 a2 f (nI g) (pd_b b) := by
  intro f
  induction f with
  | zero => intro g b e; exact pd_no e
  | succ f ih =>
    intro g b e
    have e1 : pd_gn N (f + 1) g b = if b = true then some g else if g < 30000 then (match pd_g12 (g + 1) (N - 1) N 40 (N - 1) 2 with
      | none => none
      | some b' => pd_gn N f (g + 1) b') else none := rfl
    rw [e1] at e
    cases b with
    | true =>
      rw [if_pos rfl] at e
      rw [Option.some.inj e]
      exact br_f (by decide) H
    | false =>
      rw [if_neg (by decide)] at e
      by_cases hg : g < 30000
      · rw [if_pos hg] at e
        refine br_t rfl (nm_r (nI_1 g) ?_)
        cases eg : pd_g12 (g + 1) (N - 1) N 40 (N - 1) 2 with
        | none => rw [eg] at e; exact pd_no e
        | some b' =>
          rw [eg] at e
          exact pd_gens (by omega) h0 hN eg (ih (g + 1) b' e)
      · rw [if_neg hg] at e
        exact pd_no e
theorem pd_genN {post : Int32 → Prop} {n : Nat} (hn : n < 2 ^ 30) (hq : pd_pt n = false) (H : post (-2)) : wpX_generator post (nI n, f1, f2, f3, a1, a2) := by
  refine pd_prime hn ?_
  rw [hq]
  exact br_t rfl H
theorem pd_gener {post : Int32 → Prop} {n x : Nat} (h0 : 0 < n) (hn : n < 2 ^ 30) (hq : pd_pt n = true) (e : pd_gen n = some x) (H : post (nI x)) : wpX_generator post (nI n, f1, f2, f3, a1, a2) := by
  refine pd_prime hn ?_
  rw [hq]
  unfold pd_gen at e
  refine br_f (by decide) (pk_eq n 2 (fun z => ?_) (fun z => ⟨40, ?_⟩))
  · rw [if_pos z] at e
    rw [← Option.some.inj e] at H
    exact H
  · rw [if_neg z] at e
    exact pd_w28 h0 (by omega) H 40 1 false e
theorem pd_w9 {post : Int32 → Prop} : ∀ (f m k : Nat), k + f = 80 → m + f < 2 ^ 30 → post (nI (pd_np f m)) → wX_nextPrime_9 post f0 f1 f2 f3 a1 a2 (f + 1) (nI m) (nI k) := by
  intro f
  induction f with
  | zero =>
    intro m k hk hm hp
    exact pk_le 80 k (fun _ => hp) (fun z => absurd z (by omega))
  | succ f ih =>
    intro m k hk hm hp
    have e1 : pd_np (f + 1) m = if pd_pt m = true then m else pd_np f (m + 1) := rfl
    rw [e1] at hp
    refine pk_le 80 k (fun z => absurd z (by omega)) (fun _ => pd_prime (by omega) ?_)
    cases ep : pd_pt m with
    | false =>
      rw [if_neg (by rw [ep]; decide)] at hp
      exact br_t rfl (nm_r (nI_1 m) (nm_r (nI_1 k) (ih (m + 1) (k + 1) (by omega) (by omega) hp)))
    | true =>
      rw [if_pos ep] at hp
      exact br_f (by decide) hp
theorem pd_next {post : Int32 → Prop} {n : Nat} (hn : n < 2 ^ 29) (hp : post (nI (pd_np 80 (n + 1)))) : wpX_nextPrime post (nI n, f1, f2, f3, a1, a2) :=
  nm_r (nI_1 n) ⟨80 + 1, pd_w9 80 (n + 1) 0 rfl (by omega) hp⟩
end
end
section
/-! 09: the tables: what the pictures say at the law's numbers -/
def pd_pr (k : Nat) : Nat := if k = 0 then 2 else if k = 1 then 3 else if k = 2 then 5 else if k = 3 then 7 else if k = 4 then 11 else if k = 5 then 13 else if k = 6 then 17 else 19
def pd_P (p u : Nat) : Nat := if u = 2 then p * p else p
def pd_Q (q v : Nat) : Nat := if v = 2 then q * q else if v = 1 then q else 1
def pd_S (p u : Nat) : Nat := if u = 2 then 1 + p + p * p else 1 + p
def pd_T (q v : Nat) : Nat := if v = 2 then 1 + q + q * q else if v = 1 then 1 + q else 1
def pd_C (p u : Nat) : Nat := if u = 2 then p * (p - 1) else p - 1
def pd_D (q v : Nat) : Nat := if v = 2 then q * (q - 1) else if v = 1 then q - 1 else 1
def pd_lo (p q v : Nat) : Nat := if p < q ∨ v = 0 then p else q
def pd_hi (p q v : Nat) : Nat := if p < q ∧ 0 < v then q else p
def pd_ls (p q u v : Nat) : Nat := if pd_lo p q v = p then u else v
abbrev pd_good (p q u v : Nat) (fs : List Nat) : Prop := fs.length = u + v ∧ (∀ j, j < fs.length → 0 < pd_at fs j ∧ pd_at fs j < 30001) ∧ pd_dv (pd_at fs) (u + v) (u + v) 1 0 0 = (u + 1) * (v + 1) ∧ pd_sm (pd_at fs) (u + v) (u + v) 1 1 0 = pd_S p u * pd_T q v ∧ pd_co (pd_at fs) (u + v) (pd_P p u * pd_Q q v) 0 = pd_C p u * pd_D q v ∧ pd_pt (pd_P p u * pd_Q q v) = decide (u + v = 1) ∧ (∀ k, k < 5 → k < u + v → pd_at fs k = if k < pd_ls p q u v then pd_lo p q v else pd_hi p q v)
def pd_chk (p q u v : Nat) : Bool := match pd_ff 30 [pd_P p u * pd_Q q v] [] with
  | none => false
  | some fs => decide (pd_good p q u v fs)
def pd_tb (a b u v : Nat) : Bool := if a = b then true else if u = 0 then true else if 30000 < pd_P (pd_pr a) u * pd_Q (pd_pr b) v then true else pd_chk (pd_pr a) (pd_pr b) u v
theorem pd_tab0 : ∀ a, a < 8 → ∀ b, b < 8 → ∀ u, u < 3 → ∀ v, v < 3 → pd_tb a b u v = true := by decide +kernel
theorem pd_tab {a b u v : Nat} (ha : a < 8) (hb : b < 8) (hu : u < 3) (hv : v < 3) (hab : a ≠ b) (hu0 : u ≠ 0) (hn : pd_P (pd_pr a) u * pd_Q (pd_pr b) v ≤ 30000) : pd_chk (pd_pr a) (pd_pr b) u v = true := by
  have t := pd_tab0 a ha b hb u hu v hv
  unfold pd_tb at t
  rw [if_neg hab, if_neg hu0, if_neg (by omega)] at t
  exact t
theorem pd_use {p q u v : Nat} (h : pd_chk p q u v = true) : ∃ fs, pd_ff 30 [pd_P p u * pd_Q q v] [] = some fs ∧ pd_good p q u v fs := by
  unfold pd_chk at h
  cases e : pd_ff 30 [pd_P p u * pd_Q q v] [] with
  | none => rw [e] at h; exact absurd (show false = true from h) (by decide)
  | some fs => rw [e] at h; exact ⟨fs, rfl, of_decide_eq_true h⟩
def pd_gx (p : Nat) : Nat := if p = 2 then 1 else if p = 7 then 3 else if p = 17 then 3 else 2
def pd_le (p s : Nat) : Nat := if s = 0 then s else if p - s < s then p - s else s
theorem pd_tabG : ∀ a, a < 8 → pd_pt (pd_pr a) = true ∧ pd_gen (pd_pr a) = some (pd_gx (pd_pr a)) ∧ pd_np 80 (pd_pr a + 1) = (if a = 7 then 23 else pd_pr (a + 1)) := by decide +kernel
theorem pd_tabR : ∀ a, a < 8 → ∀ s, s < pd_pr a → pd_rt (pd_pr a) (s * s % pd_pr a) = some (pd_le (pd_pr a) s) ∧ pd_rt (pd_pr a) (s * s % pd_pr a + pd_pr a) = some (pd_le (pd_pr a) s) ∧ pd_rt (pd_pr a) 0 = some 0 := by decide +kernel
theorem pd_tabO : ∀ a, a < 8 → ∀ o, o < pd_pr a → 0 < o → pd_gx (pd_pr a) ^ o % pd_pr a = 1 → o = pd_pr a - 1 := by decide +kernel
theorem pd_tabE : ∀ a, a < 8 → ∀ u, u < 3 → ∀ x, x < pd_P (pd_pr a) u → u = 0 ∨ x % pd_pr a = 0 ∨ x ^ pd_C (pd_pr a) u % pd_P (pd_pr a) u = 1 := by decide +kernel
theorem pd_tabQ : ∀ a, a < 8 → ∀ v, v < 3 → ∀ x, x < pd_Q (pd_pr a) v → v = 0 ∨ x % pd_pr a = 0 ∨ x ^ pd_D (pd_pr a) v % pd_Q (pd_pr a) v = 1 := by decide +kernel
theorem pd_tabC : ∀ a, a < 8 → ∀ x, x < pd_pr a → x ≠ 0 → Nat.gcd x (pd_pr a) = 1 := by decide +kernel
theorem pd_tabX : ∀ a, a < 8 → ∀ b, b < 8 → a ≠ b → ∀ u, u < 3 → ∀ v, v < 3 → Nat.gcd (pd_P (pd_pr a) u) (pd_Q (pd_pr b) v) = 1 := by decide +kernel
theorem pd_tabB : ∀ a, a < 8 → 2 ≤ pd_pr a ∧ pd_pr a ≤ 19 := by decide +kernel
end
section
/-! 10: the size of the group of rests -/
theorem pd_dP {p u : Nat} : p ∣ pd_P p u := by
  unfold pd_P
  split
  · exact ⟨p, rfl⟩
  · exact Nat.dvd_refl p
theorem pd_dQ {q v : Nat} (h0 : v ≠ 0) (h3 : v < 3) : q ∣ pd_Q q v := by
  unfold pd_Q
  split
  · exact ⟨q, rfl⟩
  · split
    · exact Nat.dvd_refl q
    · exact absurd h3 (by omega)
theorem pd_g1 {a B : Nat} (ha : a < 8) (h : B % pd_pr a ≠ 0) : Nat.Coprime B (pd_pr a) := by
  have hb := (pd_tabB a ha).1
  have t := pd_tabC a ha (B % pd_pr a) (Nat.mod_lt _ (by omega)) h
  show Nat.gcd B (pd_pr a) = 1
  rw [Nat.gcd_comm, Nat.gcd_rec]
  exact t
theorem pd_gP {B p u : Nat} (h : Nat.Coprime B p) : Nat.Coprime B (pd_P p u) := by
  unfold pd_P
  split
  · exact h.mul_right h
  · exact h
theorem pd_gQ {B q v : Nat} (h3 : v < 3) (h : v = 0 ∨ Nat.Coprime B q) : Nat.Coprime B (pd_Q q v) := by
  unfold pd_Q
  split
  · have hq := h.resolve_left (by omega)
    exact hq.mul_right hq
  · split
    · exact h.resolve_left (by omega)
    · exact Nat.coprime_one_right B
/-- the base has no factor in common with the number -/
def pd_ap (B p q v : Nat) : Prop := B % p ≠ 0 ∧ (v = 0 ∨ B % q ≠ 0)
theorem pd_gN1 {a b u v B : Nat} (ha : a < 8) (hb : b < 8) (h3 : v < 3) (h : pd_ap B (pd_pr a) (pd_pr b) v) : Nat.gcd B (pd_P (pd_pr a) u * pd_Q (pd_pr b) v) = 1 :=
  Nat.Coprime.mul_right (pd_gP (pd_g1 ha h.1)) (pd_gQ h3 (h.2.imp id (fun t => pd_g1 hb t)))
theorem pd_two {x y z : Nat} (hx : 2 ≤ x) (h1 : y % x = 0) (h2 : x ∣ z) : ¬ Nat.gcd y z = 1 := by
  intro e
  have t := Nat.dvd_gcd (Nat.dvd_of_mod_eq_zero h1) h2
  rw [e] at t
  have := Nat.le_of_dvd (by decide) t
  omega
theorem pd_gN0 {a b u v B : Nat} (ha : a < 8) (hb : b < 8) (h3 : v < 3) (h : ¬ pd_ap B (pd_pr a) (pd_pr b) v) : ¬ Nat.gcd B (pd_P (pd_pr a) u * pd_Q (pd_pr b) v) = 1 := by
  by_cases e : B % pd_pr a = 0
  · exact pd_two (pd_tabB a ha).1 e (Nat.dvd_trans pd_dP (Nat.dvd_mul_right _ _))
  · by_cases e0 : v = 0
    · exact absurd ⟨e, Or.inl e0⟩ h
    · by_cases e1 : B % pd_pr b = 0
      · exact pd_two (pd_tabB b hb).1 e1 (Nat.dvd_trans (pd_dQ e0 h3) (Nat.dvd_mul_left _ _))
      · exact absurd ⟨e, Or.inr e1⟩ h
theorem pd_P2 {p u : Nat} (h : 2 ≤ p) : 1 < pd_P p u := by
  unfold pd_P
  split
  · have := Nat.mul_le_mul h h
    omega
  · omega
theorem pd_Q2 {q v : Nat} (h : 2 ≤ q) (h0 : v ≠ 0) (h3 : v < 3) : 1 < pd_Q q v := by
  unfold pd_Q
  split
  · have := Nat.mul_le_mul h h
    omega
  · split
    · omega
    · omega
theorem pd_Q1 {q v : Nat} (h : 2 ≤ q) : 1 ≤ pd_Q q v := by
  unfold pd_Q
  split
  · have := Nat.mul_le_mul h h
    omega
  · split
    · omega
    · omega
theorem pd_C1 {p u : Nat} (h : 2 ≤ p) : 1 ≤ pd_C p u ∧ pd_C p u ≤ pd_P p u := by
  unfold pd_C pd_P
  split
  · exact ⟨Nat.mul_pos (by omega) (by omega), Nat.mul_le_mul_left p (by omega)⟩
  · omega
theorem pd_D1 {q v : Nat} (h : 2 ≤ q) : 1 ≤ pd_D q v ∧ pd_D q v ≤ pd_Q q v := by
  unfold pd_D pd_Q
  split
  · exact ⟨Nat.mul_pos (by omega) (by omega), Nat.mul_le_mul_left q (by omega)⟩
  · split
    · omega
    · omega
theorem pd_sub1 {x P : Nat} (hP : 1 < P) (h : x % P = 1) : P ∣ x - 1 :=
  Nat.dvd_of_mod_eq_zero (Nat.sub_mod_eq_zero_of_mod_eq (by rw [h, Nat.mod_eq_of_lt hP]))
theorem pd_crt {x P Q : Nat} (hP : 1 < P) (hQ : 1 ≤ Q) (hc : Nat.gcd P Q = 1) (h1 : x % P = 1) (h2 : Q ∣ x - 1) : x % (P * Q) = 1 := by
  obtain ⟨k, hk⟩ := Nat.Coprime.mul_dvd_of_dvd_of_dvd hc (pd_sub1 hP h1) h2
  have hx : x ≠ 0 := fun e => by
    rw [e, Nat.zero_mod] at h1
    omega
  have e : x = P * Q * k + 1 := by omega
  have hPQ : 1 < P * Q := Nat.lt_of_lt_of_le hP (Nat.le_mul_of_pos_right P hQ)
  rw [e, Nat.mul_add_mod, Nat.mod_eq_of_lt hPQ]
theorem pd_eul {a b u v B : Nat} (ha : a < 8) (hb : b < 8) (hab : a ≠ b) (hu : u < 3) (hu0 : u ≠ 0) (h3 : v < 3) (h : pd_ap B (pd_pr a) (pd_pr b) v) : B ^ (pd_C (pd_pr a) u * pd_D (pd_pr b) v) % (pd_P (pd_pr a) u * pd_Q (pd_pr b) v) = 1 := by
  have p2 := (pd_tabB a ha).1
  have q2 := (pd_tabB b hb).1
  have hP : 1 < pd_P (pd_pr a) u := pd_P2 p2
  refine pd_crt hP (pd_Q1 q2) (pd_tabX a ha b hb hab u hu v h3) ?_ ?_
  · have t : B ^ pd_C (pd_pr a) u % pd_P (pd_pr a) u = 1 := by
      rw [Nat.pow_mod]
      rcases pd_tabE a ha u hu (B % pd_P (pd_pr a) u) (Nat.mod_lt _ (by omega)) with t | t | t
      · exact absurd t hu0
      · rw [Nat.mod_mod_of_dvd _ pd_dP] at t
        exact absurd t h.1
      · exact t
    rw [Nat.pow_mul]
    exact pd_one hP t _
  · by_cases e0 : v = 0
    · subst e0
      exact Nat.one_dvd _
    · have hQ := pd_Q2 q2 e0 h3
      have hB := h.2.resolve_left e0
      have t : B ^ pd_D (pd_pr b) v % pd_Q (pd_pr b) v = 1 := by
        rw [Nat.pow_mod]
        rcases pd_tabQ b hb v h3 (B % pd_Q (pd_pr b) v) (Nat.mod_lt _ (by omega)) with t | t | t
        · exact absurd t e0
        · rw [Nat.mod_mod_of_dvd _ (pd_dQ e0 h3)] at t
          exact absurd t hB
        · exact t
      rw [Nat.mul_comm, Nat.pow_mul]
      exact pd_sub1 hQ (pd_one hQ t _)
theorem pd_phi {a b u v B : Nat} (ha : a < 8) (hb : b < 8) (hab : a ≠ b) (hu : u < 3) (hu0 : u ≠ 0) (h3 : v < 3) (hn : pd_P (pd_pr a) u * pd_Q (pd_pr b) v ≤ 30000) (h : pd_ap B (pd_pr a) (pd_pr b) v) : pd_I B (pd_P (pd_pr a) u * pd_Q (pd_pr b) v) (pd_C (pd_pr a) u * pd_D (pd_pr b) v) (pd_C (pd_pr a) u * pd_D (pd_pr b) v) (pd_C (pd_pr a) u * pd_D (pd_pr b) v) := by
  have c1 := pd_C1 (u := u) (pd_tabB a ha).1
  have d1 := pd_D1 (v := v) (pd_tabB b hb).1
  have hpos : 0 < pd_C (pd_pr a) u * pd_D (pd_pr b) v := Nat.mul_pos c1.1 d1.1
  exact ⟨hpos, Nat.dvd_refl _, hpos, Nat.dvd_refl _, Nat.le_trans (Nat.mul_le_mul c1.2 d1.2) hn, pd_eul ha hb hab hu hu0 h3 h, fun _ => rfl⟩
end
section
/-! 11: the law from its end: the checks that follow the list of factors -/
theorem pd_tabH : ∀ a, a < 8 → pd_gx (pd_pr a) % pd_pr a ≠ 0 ∧ 1 ≤ pd_gx (pd_pr a) ∧ pd_gx (pd_pr a) ≤ 30000 := by decide +kernel
theorem pd_npU : ∀ (f m : Nat), pd_np f m ≤ m + f
  | 0, m => Nat.le_refl m
  | f + 1, m => by
    have e1 : pd_np (f + 1) m = if pd_pt m = true then m else pd_np f (m + 1) := rfl
    have t := pd_npU f (m + 1)
    rw [e1]
    split
    · omega
    · omega
theorem pd_wprime {post : Int32 → Prop} {k : Nat} (hk : k < 8) (h : post (nI (pd_pr k))) : wpL_prime post () (nI k) := by
  unfold pd_pr at h
  refine pk_eq k 0 (fun z => by rw [if_pos z] at h; exact h) (fun z0 => ?_)
  rw [if_neg z0] at h
  refine pk_eq k 1 (fun z => by rw [if_pos z] at h; exact h) (fun z1 => ?_)
  rw [if_neg z1] at h
  refine pk_eq k 2 (fun z => by rw [if_pos z] at h; exact h) (fun z2 => ?_)
  rw [if_neg z2] at h
  refine pk_eq k 3 (fun z => by rw [if_pos z] at h; exact h) (fun z3 => ?_)
  rw [if_neg z3] at h
  refine pk_eq k 4 (fun z => by rw [if_pos z] at h; exact h) (fun z4 => ?_)
  rw [if_neg z4] at h
  refine pk_eq k 5 (fun z => by rw [if_pos z] at h; exact h) (fun z5 => ?_)
  rw [if_neg z5] at h
  refine pk_eq k 6 (fun z => by rw [if_pos z] at h; exact h) (fun z6 => ?_)
  rw [if_neg z6] at h
  exact h
section
variable {f0 f1 f2 f3 : Int32} {a1 a2 : Nat → Int32}
theorem pd_takeB {post : Int32 → St2 → Prop} {x : Int32} (hx : x < 1 ∨ ¬ x ≤ 30000) (H : post 0 (f0, f1, f2, f3, a1, a2)) : wpX_take post (f0, f1, f2, f3, a1, a2) x :=
  br_c (fun _ => H) (fun y => br_f (hx.resolve_left y) H)
theorem pd_takeG {post : Int32 → St2 → Prop} {n : Nat} (h1 : 1 ≤ n) (h2 : n ≤ 30000) (H : post 1 (nI n, 0, f2, f3, a1, a2)) : wpX_take post (f0, f1, f2, f3, a1, a2) (nI n) :=
  pk_lt n 1 (fun y => absurd y (by omega)) (fun _ => pk_le n 30000 (fun _ => H) (fun y => absurd y (by omega)))
theorem pd_bN (b : Bool) : narrow .boolean (.int (pd_b b)) = .int (pd_b b) := by
  cases b <;> rfl
theorem pd_isP {post : Int32 → Prop} {n : Nat} (hn : n < 2 ^ 30) (H : post (pd_b (pd_pt n))) : wpX_isPrime post (nI n, f1, f2, f3, a1, a2) :=
  pd_prime hn ⟨pd_bN _, H⟩
theorem pd_ordB {post : Int32 → St2 → Prop} {x : Int32} (hx : x < 1 ∨ ¬ x ≤ 30000) (H : post (-1) (f0, f1, f2, f3, a1, a2)) : wpX_order post (f0, f1, f2, f3, a1, a2) x :=
  br_c (fun _ => H) (fun y => br_f (hx.resolve_left y) H)
theorem pd_pwB1 {post : Int32 → Prop} {x y : Int32} (hy : ¬ y ≤ 30000) (H : post (-1)) : wpX_power post (f0, f1, f2, f3, a1, a2) x y :=
  br_c (fun _ => H) (fun _ => br_c (fun _ => H) (fun _ => br_c (fun _ => H) (fun _ => br_f hy H)))
theorem pd_pwB2 {post : Int32 → Prop} {x y : Int32} (hx : x < 0) (H : post (-1)) : wpX_power post (f0, f1, f2, f3, a1, a2) x y := br_t hx H
end
def pd_K0 (a b u v n : Nat) : Prop := a < 8 ∧ b < 8 ∧ a ≠ b ∧ u < 3 ∧ u ≠ 0 ∧ v < 3 ∧ n = pd_P (pd_pr a) u * pd_Q (pd_pr b) v ∧ n ≤ 30000
def pd_K (a b u v n : Nat) (fs : List Nat) (a1 : Nat → Int32) : Prop := pd_K0 a b u v n ∧ pd_good (pd_pr a) (pd_pr b) u v fs ∧ pd_stk a1 fs
section
variable {a b u v n : Nat} {fs : List Nat} {a1 a2 : Nat → Int32}
theorem pd_KA (K : pd_K a b u v n fs a1) : ∀ j, j < u + v → a1 j = nI (pd_at fs j) := by
  intro j hj
  have e := K.2.1.1
  exact pd_stkA fs K.2.2 j (by omega)
theorem pd_Kg (K : pd_K a b u v n fs a1) : ∀ j, j < u + v → 0 < pd_at fs j ∧ pd_at fs j < 2 ^ 31 := by
  intro j hj
  have e := K.2.1.1
  have t := K.2.1.2.1 j (by omega)
  omega
theorem pd_Kc (K : pd_K0 a b u v n) : u + v ≤ 20 := by
  obtain ⟨_, _, _, h1, _, h2, _, _⟩ := K
  omega
theorem pd_K1 (K : pd_K0 a b u v n) : 1 < n := by
  obtain ⟨ha, hb, _, _, _, _, e, _⟩ := K
  rw [e]
  exact Nat.lt_of_lt_of_le (pd_P2 (pd_tabB a ha).1) (Nat.le_mul_of_pos_right _ (pd_Q1 (pd_tabB b hb).1))
theorem pd_Kq (K : pd_K a b u v n fs a1) : pd_pt n = decide (u + v = 1) := by
  have e := K.1.2.2.2.2.2.2.1
  have t := K.2.1.2.2.2.2.2.1
  rw [e]
  exact t
theorem pd_Kp (K : pd_K0 a b u v n) (h : u + v = 1) : n = pd_pr a := by
  obtain ⟨_, _, _, _, hu, _, e, _⟩ := K
  have e1 : u = 1 := by omega
  have e2 : v = 0 := by omega
  subst e1 e2
  rw [e]
  exact Nat.mul_one _
theorem pd_Kord {post : Int32 → St2 → Prop} {B : Nat} {f3 : Int32} (K : pd_K a b u v n fs a1) (hB1 : 1 ≤ B) (hB : B ≤ 30000) (h2 : ¬ pd_ap B (pd_pr a) (pd_pr b) v → post (-2) (nI n, 1, nI (u + v), f3, a1, a2))
    (h1 : pd_ap B (pd_pr a) (pd_pr b) v → ∀ o, pd_I B n (pd_C (pd_pr a) u * pd_D (pd_pr b) v) o 1 → post (nI o) (nI n, 1, nI (u + v), f3, a1, a2)) : wpX_order post (nI n, 1, nI (u + v), f3, a1, a2) (nI B) := by
  have kA := pd_KA K
  have kg := pd_Kg K
  have kc := pd_Kc K.1
  have k1 := pd_K1 K.1
  have kF := K.2.1.2.2.2.2.1
  obtain ⟨⟨ha, hb, hab, hu, hu0, hv, e, hn⟩, _, _⟩ := K
  subst e
  refine pd_order hB1 hB k1 hn kc kA kg kF (fun h => ?_) (fun h => ?_)
  · by_cases ap : pd_ap B (pd_pr a) (pd_pr b) v
    · exact absurd (pd_gN1 ha hb hv ap) h
    · exact h2 ap
  · by_cases ap : pd_ap B (pd_pr a) (pd_pr b) v
    · exact ⟨pd_phi ha hb hab hu hu0 hv hn ap, h1 ap⟩
    · exact absurd h (pd_gN0 ha hb hv ap)
variable {post : Int32 → St0 → Prop} {mc ms kc ks : Nat} {x3 x4 : Int32}
theorem pd_l869 {z0 z1 f1 f2 f3 : Int32} (hn : n < 2 ^ 30) (hq : pd_pt n = true) (hz : z1 = z0) (H : post 1 ()) : wL_lawOf_869 post mc ms z0 z1 kc ks (nI n) f1 f2 f3 a1 a2 := by
  refine br_t hz (pd_takeB (Or.inl (by decide)) (br_t rfl (pd_takeB (Or.inr (by decide)) (br_t rfl (pd_isP hn ?_)))))
  rw [hq]
  exact br_f (by decide) H
theorem pd_l826 {z0 z1 : Int32} (K : pd_K a b u v n fs a1) (huv : u + v = 1) (hz : z1 = z0) (H : post 1 ()) : wL_lawOf_826 post mc ms (nI a) (nI (pd_pr a)) (nI (pd_gx (pd_pr a))) z0 z1 kc ks (nI n) 1 (nI (u + v)) 0 a1 a2 := by
  have ha := K.1.1
  have hu0 := K.1.2.2.2.2.1
  obtain ⟨t1, t2, t3⟩ := pd_tabH a ha
  obtain ⟨b1, b2⟩ := pd_tabB a ha
  obtain ⟨q1, q2, q3⟩ := pd_tabG a ha
  have en := pd_Kp K.1 huv
  refine br_t hz (pd_Kord K t2 t3 (fun h => absurd ⟨t1, Or.inl (by omega)⟩ h) (fun _ o hI => ?_))
  have eo : o = pd_pr a - 1 := by
    have e1 : u = 1 := by omega
    have e2 : v = 0 := by omega
    have hd : o ∣ pd_C (pd_pr a) u * pd_D (pd_pr b) v := hI.2.2.2.1
    rw [e1, e2] at hd
    have hd' : o ∣ (pd_pr a - 1) * 1 := hd
    rw [Nat.mul_one] at hd'
    have hl := Nat.le_of_dvd (by omega) hd'
    have hp := hI.2.2.2.2.2.1
    rw [en] at hp
    exact pd_tabO a ha o (by omega) hI.2.2.1 hp
  have e1 : nI (pd_pr a) - 1 = nI o := by
    rw [eo]
    exact pk_sub (b := 1) (by omega)
  refine br_t e1.symm (pd_next (by omega) ?_)
  have hq : pd_pt n = true := by rw [en]; exact q1
  have hnp : pd_np 80 (n + 1) = if a = 7 then 23 else pd_pr (a + 1) := by rw [en]; exact q3
  rw [hnp]
  refine pk_eq a 7 (fun z => pd_l869 (by omega) hq (by rw [if_pos z]; rfl) H) (fun z => ?_)
  rw [nI_1]
  exact pd_wprime (by omega) (pd_l869 (by omega) hq (by rw [if_neg z]) H)
theorem pd_l748 {s : Nat} (K : pd_K a b u v n fs a1) (huv : u + v = 1) (hs : s < pd_pr a) (H : post 1 ()) : wL_lawOf_748 post mc ms (nI a) (nI (pd_pr a)) (nI (s * s % pd_pr a)) (nI (pd_le (pd_pr a) s)) kc ks (nI n) 1 (nI (u + v)) 0 a1 a2 := by
  have ha := K.1.1
  obtain ⟨b1, b2⟩ := pd_tabB a ha
  obtain ⟨q1, q2, q3⟩ := pd_tabG a ha
  obtain ⟨r1, r2, r3⟩ := pd_tabR a ha s hs
  have en := pd_Kp K.1 huv
  rw [← en] at q1 q2 r1 r2 r3
  have hm : s * s % n < n := Nat.mod_lt _ (by omega)
  have e1 : nI (s * s % pd_pr a) + nI (pd_pr a) = nI (s * s % n + n) := by rw [nI_add, en]
  have e2 : nI (s * s % pd_pr a) = nI (s * s % n) := by rw [en]
  have e3 : pd_le (pd_pr a) s = pd_le n s := by rw [en]
  unfold wL_lawOf_748
  rw [e1, e2, e3]
  refine pd_root (by omega) (by omega) (by omega) q1 r1 (br_t rfl ?_)
  refine pd_root (by omega) (by omega) (by omega) q1 r2 (br_t rfl ?_)
  refine pd_root (a := 0) (by omega) (by omega) (by omega) q1 r3 (br_t rfl ?_)
  refine pd_gener (by omega) (by omega) q1 q2 ?_
  rw [en]
  have L : ∀ z0 : Int32, nI (pd_gx (pd_pr a)) = z0 → wL_lawOf_826 post mc ms (nI a) (nI (pd_pr a)) (nI (pd_gx (pd_pr a))) z0 (nI (pd_gx (pd_pr a))) kc ks (nI (pd_pr a)) 1 (nI (u + v)) 0 a1 a2 := by
    intro z0 hz
    rw [en] at K
    exact pd_l826 K huv hz H
  refine pk_eq (pd_pr a) 2 (fun z => L 1 ?_) (fun z => pk_eq (pd_pr a) 7 (fun z7 => L 3 ?_) (fun z7 => pk_eq (pd_pr a) 17 (fun z17 => L 3 ?_) (fun z17 => L 2 ?_)))
  · rw [show pd_gx (pd_pr a) = 1 from if_pos z]
    rfl
  · rw [show pd_gx (pd_pr a) = 3 by unfold pd_gx; rw [if_neg z, if_pos z7]]
    rfl
  · rw [show pd_gx (pd_pr a) = 3 by unfold pd_gx; rw [if_neg z, if_neg z7, if_pos z17]]
    rfl
  · rw [show pd_gx (pd_pr a) = 2 by unfold pd_gx; rw [if_neg z, if_neg z7, if_neg z17]]
    rfl
theorem pd_l584 {B : Nat} (K : pd_K a b u v n fs a1) (hB : B ≤ 30000) (H : post 1 ()) : wL_lawOf_584 post mc ms x4 (nI a) (nI (pd_pr a)) (nI u) (nI v) (nI n) (nI B) kc ks (nI n) 1 (nI (u + v)) 0 a1 a2 := by
  have hq := pd_Kq K
  have ha := K.1.1
  have hn := K.1.2.2.2.2.2.2.2
  have hu := K.1.2.2.2.1
  have hv := K.1.2.2.2.2.2.1
  have hu0 := K.1.2.2.2.2.1
  obtain ⟨b1, b2⟩ := pd_tabB a ha
  refine pd_ordB (Or.inl (by decide)) (br_t rfl (pd_ordB (Or.inr (by decide)) (br_t rfl (pd_pwB1 (by decide) (br_t rfl (pd_pwB2 (by decide) (br_t rfl (pd_rootB (Or.inr (by decide)) (br_t rfl (pd_rootB (Or.inl (by decide)) (br_t rfl ?_)))))))))))
  refine pk_le (u + v) 1 (fun z => ?_) (fun z => ?_) (nI_add u v)
  · have huv : u + v = 1 := by omega
    obtain ⟨e, he, ee⟩ := pk_andE x4 (m := 1023) 10 (by decide)
    have nz : ¬ nI (pd_pr a) = 0 := nI_ne0 (by omega) (by omega)
    have es : (x4 &&& 1023) - (x4 &&& 1023) / nI (pd_pr a) * nI (pd_pr a) = nI (e % pd_pr a) := by
      rw [ee]
      exact pk_rem (by omega) (by omega) (by omega)
    have hs : e % pd_pr a < pd_pr a := Nat.mod_lt _ (by omega)
    refine ⟨nz, nm_r es ⟨nz, ?_⟩⟩
    generalize e % pd_pr a = s at hs
    have hss : s * s ≤ 19 * 19 := Nat.mul_le_mul (by omega) (by omega)
    have ew : nI s * nI s - nI s * nI s / nI (pd_pr a) * nI (pd_pr a) = nI (s * s % pd_pr a) := by
      rw [pk_mul]
      exact pk_rem (by omega) (by omega) (by omega)
    refine nm_r ew ?_
    have L := pd_l748 (post := post) (mc := mc) (ms := ms) (kc := kc) (ks := ks) (a2 := a2) K huv hs H
    refine pk_eq s 0 (fun z => ?_) (fun z => pk_lt (pd_pr a - s) s (fun y => ?_) (fun y => ?_) (pk_sub (by omega)))
    · rw [show pd_le (pd_pr a) s = s from if_pos z] at L
      exact L
    · rw [show pd_le (pd_pr a) s = pd_pr a - s by unfold pd_le; rw [if_neg z, if_pos y]] at L
      rw [pk_sub (show s ≤ pd_pr a by omega)]
      exact L
    · rw [show pd_le (pd_pr a) s = s by unfold pd_le; rw [if_neg z, if_neg (by omega)]] at L
      exact L
  · rw [decide_eq_false (show ¬ u + v = 1 by omega)] at hq
    have t1 := pd_npL 80 (n + 1)
    have t2 := pd_npU 80 (n + 1)
    exact pd_rootN (by omega) hB hq (br_t rfl (pd_genN (by omega) hq (br_t rfl (pd_next (by omega) (pk_le (pd_np 80 (n + 1)) n (fun y => absurd y (by omega)) (fun _ => H))))))
theorem pd_l504 {B : Nat} {x16 x17 : Int32} (K : pd_K a b u v n fs a1) (hB1 : 1 ≤ B) (hB : B ≤ 30000) (ap : ¬ pd_ap B (pd_pr a) (pd_pr b) v) (H : post 1 ()) : wL_lawOf_504 post mc ms x4 (nI a) (nI (pd_pr a)) (nI u) (nI v) (nI n) x16 x17 (nI B) kc ks (nI n) 1 (nI (u + v)) 0 a1 a2 := by
  unfold wL_lawOf_504 wL_lawOf_505
  exact pd_Kord K hB1 hB (fun _ => br_t rfl (br_t rfl (pd_l584 K hB H))) (fun h => absurd h ap)
theorem pd_l500 {B : Nat} (K : pd_K a b u v n fs a1) (hB1 : 1 ≤ B) (hB : B ≤ 30000) (ap : pd_ap B (pd_pr a) (pd_pr b) v) (H : post 1 ()) : wL_lawOf_500 post mc ms x4 (nI a) (nI (pd_pr a)) (nI u) (nI v) (nI n) (nI (pd_C (pd_pr a) u)) (nI (pd_D (pd_pr b) v)) (nI B) kc ks (nI n) 1 (nI (u + v)) 0 a1 a2 := by
  have k1 := pd_K1 K.1
  have hn := K.1.2.2.2.2.2.2.2
  unfold wL_lawOf_500 wL_lawOf_505
  refine pd_Kord K hB1 hB (fun h => absurd ap h) (fun _ o hI => br_f (by decide) ?_)
  have L := pd_l584 (post := post) (mc := mc) (ms := ms) (kc := kc) (ks := ks) (x4 := x4) (a2 := a2) K hB H
  obtain ⟨_, _, i3, i4, i5, i6, i7⟩ := hI
  have hF : pd_C (pd_pr a) u * pd_D (pd_pr b) v ≤ 30000 := by
    have e := K.1.2.2.2.2.2.2.1
    exact Nat.le_trans (Nat.mul_le_mul (pd_C1 (pd_tabB a K.1.1).1).2 (pd_D1 (pd_tabB b K.1.2.1).1).2) (by omega)
  have hm : pd_C (pd_pr a) u * pd_D (pd_pr b) v % o = 0 := Nat.mod_eq_zero_of_dvd i4
  have em : nI (pd_C (pd_pr a) u) * nI (pd_D (pd_pr b) v) - nI (pd_C (pd_pr a) u) * nI (pd_D (pd_pr b) v) / nI o * nI o = 0 := by
    rw [pk_mul, pk_rem (by omega) i3 (by omega), hm]
    rfl
  refine pk_lt o 1 (fun y => absurd y (by omega)) (fun _ => ⟨nI_ne0 i3 (by omega), br_t em (pd_pw (by omega) (by omega) hB i5 ?_)⟩)
  rw [i6]
  refine br_t rfl (pk_le o 1 (fun _ => L) (fun y => ?_))
  rw [show nI o - 1 = nI (o - 1) from pk_sub (b := 1) i3]
  have hm2 : B ^ (o - 1) % n < n := Nat.mod_lt _ (by omega)
  refine pd_pw (by omega) (by omega) hB (by omega) (pk_eq (B ^ (o - 1) % n) 1 (fun w => ?_) (fun _ => L))
  have e0 : B ^ o = B ^ (o - 1) * B := by
    rw [← Nat.pow_succ]
    exact congrArg (B ^ ·) (by omega)
  rw [e0, Nat.mul_mod, w, Nat.one_mul, Nat.mod_mod] at i6
  have := i7 i6
  omega
end
end
section
/-! 12: the law from its start to the list of factors -/
section
variable {a b u v n : Nat} {fs : List Nat} {a1 a2 : Nat → Int32} {post : Int32 → St0 → Prop} {mc ms kc ks : Nat} {x3 x4 : Int32}
theorem pd_lsL {p q u v : Nat} : pd_ls p q u v ≤ u + v := by
  unfold pd_ls
  split
  · omega
  · omega
theorem pd_l414 {x18 x19 x20 : Int32} (K : pd_K a b u v n fs a1) (h18 : x18 = nI (pd_lo (pd_pr a) (pd_pr b) v)) (h19 : x19 = nI (pd_hi (pd_pr a) (pd_pr b) v)) (h20 : x20 = nI (pd_ls (pd_pr a) (pd_pr b) u v)) (H : post 1 ()) :
    ∀ f k, k + f = 5 → wL_lawOf_414 post mc ms x3 x4 (nI a) (nI (pd_pr a)) (nI (pd_pr b)) (nI u) (nI v) (nI n) (nI (pd_C (pd_pr a) u)) (nI (pd_D (pd_pr b) v)) x18 x19 x20 kc ks (f + 1) (nI k) (nI n) 1 (nI (u + v)) 0 a1 a2 := by
  have hc := pd_Kc K.1
  have ha := K.1.1
  have hb := K.1.2.1
  have hv := K.1.2.2.2.2.2.1
  obtain ⟨b1, b2⟩ := pd_tabB a ha
  obtain ⟨b3, b4⟩ := pd_tabB b hb
  have gl := K.2.1.2.2.2.2.2.2
  have hls := pd_lsL (p := pd_pr a) (q := pd_pr b) (u := u) (v := v)
  intro f
  induction f with
  | zero =>
    intro k hk
    obtain ⟨r, hr, er⟩ := pk_andE x3 (m := 1048575) 20 (by decide)
    have e21 : 1 + ((x3 &&& 1048575) - (x3 &&& 1048575) / 30000 * 30000) = nI (1 + r % 30000) := by
      rw [er, show nI r - nI r / 30000 * 30000 = nI (r % 30000) from pk_rem (d := 30000) (by omega) (by decide) (by decide)]
      exact nI_add 1 _
    refine pk_le 5 k (fun _ => ⟨by decide, nm_r e21 ⟨nI_ne0 (by omega) (by omega), ?_⟩⟩) (fun z => absurd z (by omega))
    have hB1 : 1 ≤ 1 + r % 30000 := by omega
    have hB : 1 + r % 30000 ≤ 30000 := by omega
    generalize 1 + r % 30000 = B at hB1 hB
    have m1 : B % pd_pr a < pd_pr a := Nat.mod_lt _ (by omega)
    have m2 : B % pd_pr b < pd_pr b := Nat.mod_lt _ (by omega)
    refine pk_eq (B % pd_pr a) 0 (fun z => pd_l504 K hB1 hB (fun t => t.1 z) H) (fun z => ?_) (pk_rem (by omega) (by omega) (by omega))
    refine pk_eq v 0 (fun z0 => pd_l500 K hB1 hB ⟨z, Or.inl z0⟩ H) (fun z0 => ⟨nI_ne0 (by omega) (by omega), ?_⟩)
    exact pk_eq (B % pd_pr b) 0 (fun z1 => pd_l504 K hB1 hB (fun t => t.2.elim z0 (fun t' => t' z1)) H) (fun z1 => pd_l500 K hB1 hB ⟨z, Or.inr z1⟩ H) (pk_rem (by omega) (by omega) (by omega))
  | succ f ih =>
    intro k hk
    have hJ := ih (k + 1) (by omega)
    refine pk_le 5 k (fun z => absurd z (by omega)) (fun _ => pd_fact (by omega) hc (pd_KA K) (fun y => ?_) (fun y => ?_))
    · have e := gl k (by omega) y
      refine pk_le (pd_ls (pd_pr a) (pd_pr b) u v) k (fun z => pk_le (u + v) k (fun z2 => absurd z2 (by omega)) (fun _ => br_t ?_ (nm_r (nI_1 k) hJ)) (nI_add u v)) (fun z => br_t ?_ (nm_r (nI_1 k) hJ)) h20
      · rw [e, if_neg (by omega), h19]
      · rw [e, if_pos (by omega), h18]
    · exact pk_le (pd_ls (pd_pr a) (pd_pr b) u v) k (fun z => pk_le (u + v) k (fun _ => br_t rfl (nm_r (nI_1 k) hJ)) (fun z2 => absurd z2 (by omega)) (nI_add u v)) (fun z => absurd z (by omega)) h20
theorem pd_l393 {x18 x19 : Int32} (K : pd_K a b u v n fs a1) (h18 : x18 = nI (pd_lo (pd_pr a) (pd_pr b) v)) (h19 : x19 = nI (pd_hi (pd_pr a) (pd_pr b) v)) (H : post 1 ()) :
    wL_lawOf_393 post mc ms x3 x4 (nI a) (nI (pd_pr a)) (nI (pd_pr b)) (nI u) (nI v) (nI n) (nI (pd_C (pd_pr a) u)) (nI (pd_D (pd_pr b) v)) x18 x19 kc ks (nI n) 1 (nI (u + v)) 0 a1 a2 := by
  obtain ⟨b1, b2⟩ := pd_tabB a K.1.1
  obtain ⟨b3, b4⟩ := pd_tabB b K.1.2.1
  have hl : pd_lo (pd_pr a) (pd_pr b) v ≤ 19 := by
    unfold pd_lo
    split
    · omega
    · omega
  refine pk_eq (pd_lo (pd_pr a) (pd_pr b) v) (pd_pr a) (fun z => ⟨5 + 1, pd_l414 K h18 h19 ?_ H 5 0 rfl⟩) (fun z => ⟨5 + 1, pd_l414 K h18 h19 ?_ H 5 0 rfl⟩) h18
  · rw [show pd_ls (pd_pr a) (pd_pr b) u v = u from if_pos z]
  · rw [show pd_ls (pd_pr a) (pd_pr b) u v = v from if_neg z]
theorem pd_l372 {x18 : Int32} (K : pd_K a b u v n fs a1) (h18 : x18 = nI (pd_lo (pd_pr a) (pd_pr b) v)) (H : post 1 ()) :
    wL_lawOf_372 post mc ms x3 x4 (nI a) (nI (pd_pr a)) (nI (pd_pr b)) (nI u) (nI v) (nI n) (nI (pd_C (pd_pr a) u)) (nI (pd_D (pd_pr b) v)) x18 kc ks (nI n) 1 (nI (u + v)) 0 a1 a2 := by
  obtain ⟨b1, b2⟩ := pd_tabB a K.1.1
  obtain ⟨b3, b4⟩ := pd_tabB b K.1.2.1
  have hv := K.1.2.2.2.2.2.1
  unfold wL_lawOf_372 wL_lawOf_391
  refine pk_le (pd_pr b) (pd_pr a) (fun z => pd_l393 K h18 ?_ H) (fun z => pk_le v 0 (fun y => pd_l393 K h18 ?_ H) (fun y => pd_l393 K h18 ?_ H))
  · rw [show pd_hi (pd_pr a) (pd_pr b) v = pd_pr a from if_neg (by omega)]
  · rw [show pd_hi (pd_pr a) (pd_pr b) v = pd_pr a from if_neg (by omega)]
  · rw [show pd_hi (pd_pr a) (pd_pr b) v = pd_pr b from if_pos (by omega)]
theorem pd_l348 {z0 z1 : Int32} (K : pd_K a b u v n fs a1) (hz : z1 = z0) (H : post 1 ()) :
    wL_lawOf_348 post mc ms x3 x4 (nI a) (nI (pd_pr a)) (nI (pd_pr b)) (nI u) (nI v) (nI n) (nI (pd_C (pd_pr a) u)) (nI (pd_D (pd_pr b) v)) z0 z1 kc ks (nI n) 1 (nI (u + v)) 0 a1 a2 := by
  obtain ⟨b1, b2⟩ := pd_tabB a K.1.1
  obtain ⟨b3, b4⟩ := pd_tabB b K.1.2.1
  have hv := K.1.2.2.2.2.2.1
  unfold wL_lawOf_348 wL_lawOf_365
  refine br_t hz (pk_lt (pd_pr a) (pd_pr b) (fun z => pd_l372 K ?_ H) (fun z => pk_eq v 0 (fun y => pd_l372 K ?_ H) (fun y => pd_l372 K ?_ H)))
  · rw [show pd_lo (pd_pr a) (pd_pr b) v = pd_pr a from if_pos (by omega)]
  · rw [show pd_lo (pd_pr a) (pd_pr b) v = pd_pr a from if_pos (by omega)]
  · rw [show pd_lo (pd_pr a) (pd_pr b) v = pd_pr b from if_neg (by omega)]
theorem pd_find0c {post : St2 → Prop} {n c : Nat} {r : List Nat} {f2 f3 : Int32} (hn : 1 < n) (hn2 : n < 2 ^ 30) (e : pd_ff 30 [n] [] = some r) (hc : r.length = c) (H : ∀ a1' a2', pd_stk a1' r → post (nI n, 1, nI c, 0, a1', a2')) : wpX_findFactors post (nI n, 0, f2, f3, a1, a2) := by
  subst hc
  exact pd_find0 hn hn2 e H
theorem pd_l269 {x14 x15 x16 z0 f2 f3 : Int32} (K0 : pd_K0 a b u v n) (h14 : x14 = nI (pd_S (pd_pr a) u)) (h15 : x15 = nI (pd_T (pd_pr b) v)) (h16 : x16 = nI (pd_C (pd_pr a) u)) (h0 : z0 = nI (pd_D (pd_pr b) v)) (H : post 1 ()) :
    wL_lawOf_269 post mc ms x3 x4 (nI a) (nI (pd_pr a)) (nI (pd_pr b)) (nI u) (nI v) (nI n) x14 x15 x16 z0 kc ks (nI n) 0 f2 f3 a1 a2 := by
  subst h14 h15 h16 h0
  have k1 := pd_K1 K0
  have kc := pd_Kc K0
  have K00 := K0
  obtain ⟨ha, hb, hab, hu, hu0, hv, e, hn⟩ := K0
  have hn' := hn
  rw [e] at hn'
  obtain ⟨fs, ef, good⟩ := pd_use (pd_tab ha hb hu hv hab hu0 hn')
  obtain ⟨g1, g2, g3, g4, g5, g6, g7⟩ := good
  rw [← e] at ef g5 g6
  unfold wL_lawOf_269 wpX_factors
  refine pd_find0c k1 (by omega) ef g1 (fun b1 b2 hs => ?_)
  have K : pd_K a b u v n fs b1 := ⟨K00, ⟨g1, g2, g3, g4, by rw [← e]; exact g5, by rw [← e]; exact g6, g7⟩, hs⟩
  have kA := pd_KA K
  have kg := pd_Kg K
  refine br_t (nI_add u v).symm (pd_divs kc kA kg (br_t ?_ (pd_sums kc kA kg (br_t ?_ (pd_cops (by omega) kc kA kg (br_t ?_ (pd_isP (by omega) ?_)))))))
  · rw [g3, nI_1, nI_1, pk_mul]
  · rw [g4, pk_mul]
  · rw [g5, pk_mul]
  · refine pk_eq (u + v) 1 (fun z => pd_l348 K ?_ H) (fun z => pd_l348 K ?_ H) (nI_add u v)
    · rw [g6, decide_eq_true z]
      rfl
    · rw [g6, decide_eq_false z]
      rfl
theorem pd_l237 {x14 x15 z0 f2 f3 : Int32} (K0 : pd_K0 a b u v n) (h14 : x14 = nI (pd_S (pd_pr a) u)) (h15 : x15 = nI (pd_T (pd_pr b) v)) (h16 : z0 = nI (pd_C (pd_pr a) u)) (H : post 1 ()) :
    wL_lawOf_237 post mc ms x3 x4 (nI a) (nI (pd_pr a)) (nI (pd_pr b)) (nI u) (nI v) (nI n) x14 x15 z0 kc ks (nI n) 0 f2 f3 a1 a2 := by
  obtain ⟨b3, b4⟩ := pd_tabB b K0.2.1
  have hv := K0.2.2.2.2.2.1
  have e1 : nI (pd_pr b) - 1 = nI (pd_pr b - 1) := pk_sub (b := 1) (by omega)
  refine pk_eq v 2 (fun z => pd_l269 K0 h14 h15 h16 ?_ H) (fun z => pk_eq v 1 (fun y => pd_l269 K0 h14 h15 h16 ?_ H) (fun y => pd_l269 K0 h14 h15 h16 ?_ H))
  · rw [e1, pk_mul, show pd_D (pd_pr b) v = pd_pr b * (pd_pr b - 1) from if_pos z]
  · rw [e1, show pd_D (pd_pr b) v = pd_pr b - 1 by unfold pd_D; rw [if_neg z, if_pos y]]
  · rw [show pd_D (pd_pr b) v = 1 by unfold pd_D; rw [if_neg z, if_neg y]]
    rfl
theorem pd_l215 {x14 z0 f2 f3 : Int32} (K0 : pd_K0 a b u v n) (h14 : x14 = nI (pd_S (pd_pr a) u)) (h15 : z0 = nI (pd_T (pd_pr b) v)) (H : post 1 ()) :
    wL_lawOf_215 post mc ms x3 x4 (nI a) (nI (pd_pr a)) (nI (pd_pr b)) (nI u) (nI v) (nI n) x14 z0 kc ks (nI n) 0 f2 f3 a1 a2 := by
  obtain ⟨b1, b2⟩ := pd_tabB a K0.1
  have hu := K0.2.2.2.1
  have e1 : nI (pd_pr a) - 1 = nI (pd_pr a - 1) := pk_sub (b := 1) (by omega)
  refine pk_eq u 2 (fun z => pd_l237 K0 h14 h15 ?_ H) (fun z => pd_l237 K0 h14 h15 ?_ H)
  · rw [e1, pk_mul, show pd_C (pd_pr a) u = pd_pr a * (pd_pr a - 1) from if_pos z]
  · rw [e1, show pd_C (pd_pr a) u = pd_pr a - 1 from if_neg z]
theorem pd_l180 {z0 f2 f3 : Int32} (K0 : pd_K0 a b u v n) (h14 : z0 = nI (pd_S (pd_pr a) u)) (H : post 1 ()) :
    wL_lawOf_180 post mc ms x3 x4 (nI a) (nI (pd_pr a)) (nI (pd_pr b)) (nI u) (nI v) (nI n) z0 kc ks (nI n) 0 f2 f3 a1 a2 := by
  have hv := K0.2.2.2.2.2.1
  have e1 : 1 + nI (pd_pr b) = nI (1 + pd_pr b) := nI_add 1 _
  refine pk_eq v 2 (fun z => pd_l215 K0 h14 ?_ H) (fun z => pk_eq v 1 (fun y => pd_l215 K0 h14 ?_ H) (fun y => pd_l215 K0 h14 ?_ H))
  · rw [e1, pk_mul, nI_add, show pd_T (pd_pr b) v = 1 + pd_pr b + pd_pr b * pd_pr b from if_pos z]
  · rw [e1, show pd_T (pd_pr b) v = 1 + pd_pr b by unfold pd_T; rw [if_neg z, if_pos y]]
  · rw [show pd_T (pd_pr b) v = 1 by unfold pd_T; rw [if_neg z, if_neg y]]
    rfl
theorem pd_l127 {f0 f1 f2 f3 : Int32} (K0 : pd_K0 a b u v n) (H : post 1 ()) :
    wL_lawOf_127 post mc ms x3 x4 (nI a) (nI (pd_pr a)) (nI (pd_pr b)) (nI u) (nI v) (nI n) 1 kc ks f0 f1 f2 f3 a1 a2 := by
  have k1 := pd_K1 K0
  have hu := K0.2.2.2.1
  have hn := K0.2.2.2.2.2.2.2
  have e1 : 1 + nI (pd_pr a) = nI (1 + pd_pr a) := nI_add 1 _
  unfold wL_lawOf_127
  refine pd_takeG (by omega) hn (br_t rfl (br_f (by decide) (pk_eq u 2 (fun z => pd_l180 K0 ?_ H) (fun z => pd_l180 K0 ?_ H))))
  · rw [e1, pk_mul, nI_add, show pd_S (pd_pr a) u = 1 + pd_pr a + pd_pr a * pd_pr a from if_pos z]
  · rw [e1, show pd_S (pd_pr a) u = 1 + pd_pr a from if_neg z]
theorem pd_l127N {x6 x8 x9 x10 x11 f0 f1 f2 f3 : Int32} (h : 30000 < n) (hn : n < 2 ^ 31) (H : post 1 ()) :
    wL_lawOf_127 post mc ms x3 x4 x6 x8 x9 x10 x11 (nI n) 0 kc ks f0 f1 f2 f3 a1 a2 := by
  unfold wL_lawOf_127
  exact pd_takeB (Or.inr (nI_ge (b := n) (a := 30000) h hn)) (br_t rfl (br_t rfl (br_t rfl H)))
theorem pd_l111 {z0 z1 f0 f1 f2 f3 : Int32} (ha : a < 8) (hb : b < 8) (hab : a ≠ b) (hu : u < 3) (hu0 : u ≠ 0) (hv : v < 3) (h0 : z0 = nI (pd_Q (pd_pr b) v)) (h1 : z1 = nI (pd_P (pd_pr a) u)) (H : post 1 ()) :
    wL_lawOf_111 post mc ms x3 x4 (nI a) (nI (pd_pr a)) (nI (pd_pr b)) (nI u) (nI v) z0 z1 kc ks f0 f1 f2 f3 a1 a2 := by
  obtain ⟨b1, b2⟩ := pd_tabB a ha
  obtain ⟨b3, b4⟩ := pd_tabB b hb
  have hP : pd_P (pd_pr a) u ≤ 361 := by
    have t : pd_pr a * pd_pr a ≤ 19 * 19 := Nat.mul_le_mul b2 b2
    unfold pd_P
    split
    · omega
    · omega
  have hQ : pd_Q (pd_pr b) v ≤ 361 := by
    have t : pd_pr b * pd_pr b ≤ 19 * 19 := Nat.mul_le_mul b4 b4
    unfold pd_Q
    split
    · omega
    · split
      · omega
      · omega
  have hPQ : pd_P (pd_pr a) u * pd_Q (pd_pr b) v ≤ 361 * 361 := Nat.mul_le_mul hP hQ
  have e1 : z1 * z0 = nI (pd_P (pd_pr a) u * pd_Q (pd_pr b) v) := by rw [h0, h1, pk_mul]
  refine nm_r e1 ?_
  exact pk_lt 30000 (pd_P (pd_pr a) u * pd_Q (pd_pr b) v) (fun z => pd_l127N z (by omega) H) (fun z => pd_l127 ⟨ha, hb, hab, hu, hu0, hv, rfl, z⟩ H)
theorem pd_l85 {z0 f0 f1 f2 f3 : Int32} (ha : a < 8) (hb : b < 8) (hab : a ≠ b) (hu : u < 3) (hu0 : u ≠ 0) (hv : v < 3) (h1 : z0 = nI (pd_P (pd_pr a) u)) (H : post 1 ()) :
    wL_lawOf_85 post mc ms x3 x4 (nI a) (nI (pd_pr a)) (nI (pd_pr b)) (nI u) (nI v) z0 kc ks f0 f1 f2 f3 a1 a2 := by
  refine pk_eq v 2 (fun z => pd_l111 ha hb hab hu hu0 hv ?_ h1 H) (fun z => pk_eq v 1 (fun y => pd_l111 ha hb hab hu hu0 hv ?_ h1 H) (fun y => pd_l111 ha hb hab hu hu0 hv ?_ h1 H))
  · rw [pk_mul, show pd_Q (pd_pr b) v = pd_pr b * pd_pr b from if_pos z]
  · rw [show pd_Q (pd_pr b) v = pd_pr b by unfold pd_Q; rw [if_neg z, if_pos y]]
  · rw [show pd_Q (pd_pr b) v = 1 by unfold pd_Q; rw [if_neg z, if_neg y]]
    rfl
theorem pd_lawOf (p0 p1 p2 p3 p4 : Int32) (H : post 1 ()) : wpL_lawOf post 30 464 () p0 p1 p2 p3 p4 := by
  obtain ⟨a, ha, ea⟩ := pk_andE p0 (m := 7) 3 (by decide)
  obtain ⟨t, ht, et⟩ := pk_andE (p0 >>> ((3 : Int32) &&& 31)) (m := 255) 8 (by decide)
  obtain ⟨i, hi, ei⟩ := pk_andE p1 (m := 1023) 10 (by decide)
  obtain ⟨j, hj, ej⟩ := pk_andE p2 (m := 1023) 10 (by decide)
  have e7 : ((nI a + 1) + (((p0 >>> ((3 : Int32) &&& 31)) &&& 255) - ((p0 >>> ((3 : Int32) &&& 31)) &&& 255) / 7 * 7)) &&& 7 = nI ((a + 1 + t % 7) % 8) := by
    rw [et, show nI t - nI t / 7 * 7 = nI (t % 7) from pk_rem (d := 7) (by omega) (by decide) (by decide), nI_1, nI_add]
    exact pk_andN (by omega) 3 (by decide)
  have e10 : 1 + ((p1 &&& 1023) - (p1 &&& 1023) / 2 * 2) = nI (1 + i % 2) := by
    rw [ei, show nI i - nI i / 2 * 2 = nI (i % 2) from pk_rem (d := 2) (by omega) (by decide) (by decide)]
    exact nI_add 1 _
  have e11 : (p2 &&& 1023) - (p2 &&& 1023) / 3 * 3 = nI (j % 3) := by
    rw [ej]
    exact pk_rem (d := 3) (by omega) (by decide) (by decide)
  have hb : (a + 1 + t % 7) % 8 < 8 := by omega
  have hab : a ≠ (a + 1 + t % 7) % 8 := by omega
  have hu : 1 + i % 2 < 3 := by omega
  have hu0 : 1 + i % 2 ≠ 0 := by omega
  have hv : j % 3 < 3 := by omega
  refine ⟨by decide, by decide, 2, 40, by decide, by decide, by decide, by decide, by decide, by decide, nm_r ea ⟨by decide, nm_r e7 (pd_wprime ha (pd_wprime hb ⟨by decide, nm_r e10 ⟨by decide, nm_r e11 ?_⟩⟩))⟩⟩
  refine pk_eq (1 + i % 2) 2 (fun z => pd_l85 ha hb hab hu hu0 hv ?_ H) (fun z => pd_l85 ha hb hab hu hu0 hv ?_ H)
  · rw [pk_mul, show pd_P (pd_pr a) (1 + i % 2) = pd_pr a * pd_pr a from if_pos z]
  · rw [show pd_P (pd_pr a) (1 + i % 2) = pd_pr a from if_neg z]
end
end
section
/-! 13: the statement -/
theorem pd_cell {post : Int32 → Prop} {xs : Nat → Int32} {L i : Nat} (hL : L ≤ 5) (hi : i < 5) (h : ∀ x, post x) : wpL_cellAt post L xs () (nI i) :=
  pk_le L i (fun _ => h _) (fun z => ⟨pk_in i L z, h _⟩)
theorem i_vc (xs : Nat → Int32) (L : Nat) (hL : L ≤ 5) : wpL_law (fun r => r = 1) L xs := by
  refine pd_cell (i := 0) hL (by decide) (fun x1 => pd_cell (i := 1) hL (by decide) (fun x2 => pd_cell (i := 2) hL (by decide) (fun x3 => pd_cell (i := 3) hL (by decide) (fun x4 => pd_cell (i := 4) hL (by decide) (fun x5 => ?_)))))
  exact ⟨30, 464, by decide, by decide, pd_lawOf x1 x2 x3 x4 x5 rfl⟩
end
